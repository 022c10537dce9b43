section
/-- a private method of a class that the tables say can be made, by its rows of tables_1 -/
def lw_okq (q : MethodName × Nat) : Prop := (q.1.cls ≠ "java/lang/invoke/MethodHandle" ∧ q.1.cls ≠ "java/lang/invoke/VarHandle") ∧ Cond.instantiable q.1.cls q.2 ∈ tables_1 ∧ Cond.privateMethod q.1 ∈ tables_1 ∧ Cond.instanceMethod q.1 ∈ tables_1
set_option maxRecDepth 100000
theorem lw_t1 {w : Cond} (h : w ∈ tables_1_1) : w ∈ tables_1 := List.mem_append_left _ h
theorem lw_t2 {w : Cond} (h : w ∈ tables_1_2) : w ∈ tables_1 := List.mem_append_right _ h
theorem lw_p0 : lw_okq (⟨"DeterminantDesk", "load", "(I)V"⟩, 6) := ⟨⟨by decide +kernel, by decide +kernel⟩, lw_t1 (List.mem_of_getElem? (i := 4) rfl), lw_t1 (List.mem_of_getElem? (i := 64) rfl), lw_t1 (List.mem_of_getElem? (i := 65) rfl)⟩
theorem lw_p1 : lw_okq (⟨"DeterminantDesk", "reduce", "(I)I"⟩, 6) := ⟨⟨by decide +kernel, by decide +kernel⟩, lw_t1 (List.mem_of_getElem? (i := 4) rfl), lw_t1 (List.mem_of_getElem? (i := 68) rfl), lw_t1 (List.mem_of_getElem? (i := 69) rfl)⟩
theorem lw_p2 : lw_okq (⟨"DeterminantDesk", "determinantOf", "(I)I"⟩, 6) := ⟨⟨by decide +kernel, by decide +kernel⟩, lw_t1 (List.mem_of_getElem? (i := 4) rfl), lw_t1 (List.mem_of_getElem? (i := 72) rfl), lw_t1 (List.mem_of_getElem? (i := 73) rfl)⟩
theorem lw_p3 : lw_okq (⟨"DeterminantDesk", "pivotFrom", "(III)I"⟩, 6) := ⟨⟨by decide +kernel, by decide +kernel⟩, lw_t1 (List.mem_of_getElem? (i := 4) rfl), lw_t1 (List.mem_of_getElem? (i := 76) rfl), lw_t1 (List.mem_of_getElem? (i := 77) rfl)⟩
theorem lw_p4 : lw_okq (⟨"DeterminantDesk", "exchange", "(II)V"⟩, 6) := ⟨⟨by decide +kernel, by decide +kernel⟩, lw_t1 (List.mem_of_getElem? (i := 4) rfl), lw_t1 (List.mem_of_getElem? (i := 80) rfl), lw_t1 (List.mem_of_getElem? (i := 81) rfl)⟩
theorem lw_p5 : lw_okq (⟨"DeterminantDesk", "times", "(II)I"⟩, 6) := ⟨⟨by decide +kernel, by decide +kernel⟩, lw_t1 (List.mem_of_getElem? (i := 4) rfl), lw_t1 (List.mem_of_getElem? (i := 84) rfl), lw_t1 (List.mem_of_getElem? (i := 85) rfl)⟩
theorem lw_p6 : lw_okq (⟨"DeterminantDesk", "clearBelow", "(III)V"⟩, 6) := ⟨⟨by decide +kernel, by decide +kernel⟩, lw_t1 (List.mem_of_getElem? (i := 4) rfl), lw_t1 (List.mem_of_getElem? (i := 88) rfl), lw_t1 (List.mem_of_getElem? (i := 89) rfl)⟩
theorem lw_p7 : lw_okq (⟨"DeterminantDesk", "inverse", "(I)I"⟩, 6) := ⟨⟨by decide +kernel, by decide +kernel⟩, lw_t1 (List.mem_of_getElem? (i := 4) rfl), lw_t1 (List.mem_of_getElem? (i := 92) rfl), lw_t1 (List.mem_of_getElem? (i := 93) rfl)⟩
theorem lw_p8 : lw_okq (⟨"DeterminantDesk", "join", "(II)I"⟩, 6) := ⟨⟨by decide +kernel, by decide +kernel⟩, lw_t1 (List.mem_of_getElem? (i := 4) rfl), lw_t1 (List.mem_of_getElem? (i := 96) rfl), lw_t1 (List.mem_of_getElem? (i := 97) rfl)⟩
theorem lw_p9 : lw_okq (⟨"DeterminantDesk", "leaveOut", "(II)V"⟩, 6) := ⟨⟨by decide +kernel, by decide +kernel⟩, lw_t1 (List.mem_of_getElem? (i := 4) rfl), lw_t1 (List.mem_of_getElem? (i := 106) rfl), lw_t1 (List.mem_of_getElem? (i := 107) rfl)⟩
theorem lw_p10 : lw_okq (⟨"DeterminantDesk", "replaceColumn", "(I)V"⟩, 6) := ⟨⟨by decide +kernel, by decide +kernel⟩, lw_t1 (List.mem_of_getElem? (i := 4) rfl), lw_t1 (List.mem_of_getElem? (i := 114) rfl), lw_t1 (List.mem_of_getElem? (i := 115) rfl)⟩
theorem lw_p11 : lw_okq (⟨"DeterminantDesk", "rankIn", "(II)I"⟩, 6) := ⟨⟨by decide +kernel, by decide +kernel⟩, lw_t1 (List.mem_of_getElem? (i := 4) rfl), lw_t1 (List.mem_of_getElem? (i := 122) rfl), lw_t1 (List.mem_of_getElem? (i := 123) rfl)⟩
theorem lw_p12 : lw_okq (⟨"DeterminantDesk", "keepRows", "(I)I"⟩, 6) := ⟨⟨by decide +kernel, by decide +kernel⟩, lw_t1 (List.mem_of_getElem? (i := 4) rfl), lw_t1 (List.mem_of_getElem? (i := 126) rfl), lw_t1 (List.mem_of_getElem? (i := 127) rfl)⟩
theorem lw_p13 : lw_okq (⟨"DeterminantDesk", "rankAtWork", "(II)I"⟩, 6) := ⟨⟨by decide +kernel, by decide +kernel⟩, lw_t1 (List.mem_of_getElem? (i := 4) rfl), lw_t1 (List.mem_of_getElem? (i := 130) rfl), lw_t1 (List.mem_of_getElem? (i := 131) rfl)⟩
theorem lw_p14 : lw_okq (⟨"DeterminantDesk", "coefficientFor", "(II)I"⟩, 6) := ⟨⟨by decide +kernel, by decide +kernel⟩, lw_t1 (List.mem_of_getElem? (i := 4) rfl), lw_t1 (List.mem_of_getElem? (i := 142) rfl), lw_t1 (List.mem_of_getElem? (i := 143) rfl)⟩
theorem lw_p15 : lw_okq (⟨"DeterminantDesk", "shift", "(I)V"⟩, 6) := ⟨⟨by decide +kernel, by decide +kernel⟩, lw_t1 (List.mem_of_getElem? (i := 4) rfl), lw_t1 (List.mem_of_getElem? (i := 146) rfl), lw_t1 (List.mem_of_getElem? (i := 147) rfl)⟩
def lw_privs_1 : List (MethodName × Nat) := [(⟨"DeterminantDesk", "load", "(I)V"⟩, 6), (⟨"DeterminantDesk", "reduce", "(I)I"⟩, 6), (⟨"DeterminantDesk", "determinantOf", "(I)I"⟩, 6), (⟨"DeterminantDesk", "pivotFrom", "(III)I"⟩, 6), (⟨"DeterminantDesk", "exchange", "(II)V"⟩, 6), (⟨"DeterminantDesk", "times", "(II)I"⟩, 6), (⟨"DeterminantDesk", "clearBelow", "(III)V"⟩, 6), (⟨"DeterminantDesk", "inverse", "(I)I"⟩, 6), (⟨"DeterminantDesk", "join", "(II)I"⟩, 6), (⟨"DeterminantDesk", "leaveOut", "(II)V"⟩, 6), (⟨"DeterminantDesk", "replaceColumn", "(I)V"⟩, 6), (⟨"DeterminantDesk", "rankIn", "(II)I"⟩, 6), (⟨"DeterminantDesk", "keepRows", "(I)I"⟩, 6), (⟨"DeterminantDesk", "rankAtWork", "(II)I"⟩, 6), (⟨"DeterminantDesk", "coefficientFor", "(II)I"⟩, 6), (⟨"DeterminantDesk", "shift", "(I)V"⟩, 6)]
theorem lw_r1 : ∀ q ∈ lw_privs_1, lw_okq q := List.forall_mem_cons.mpr ⟨lw_p0, List.forall_mem_cons.mpr ⟨lw_p1, List.forall_mem_cons.mpr ⟨lw_p2, List.forall_mem_cons.mpr ⟨lw_p3, List.forall_mem_cons.mpr ⟨lw_p4, List.forall_mem_cons.mpr ⟨lw_p5, List.forall_mem_cons.mpr ⟨lw_p6, List.forall_mem_cons.mpr ⟨lw_p7, List.forall_mem_cons.mpr ⟨lw_p8, List.forall_mem_cons.mpr ⟨lw_p9, List.forall_mem_cons.mpr ⟨lw_p10, List.forall_mem_cons.mpr ⟨lw_p11, List.forall_mem_cons.mpr ⟨lw_p12, List.forall_mem_cons.mpr ⟨lw_p13, List.forall_mem_cons.mpr ⟨lw_p14, List.forall_mem_cons.mpr ⟨lw_p15, fun _ h => absurd h List.not_mem_nil⟩⟩⟩⟩⟩⟩⟩⟩⟩⟩⟩⟩⟩⟩⟩⟩
theorem lw_p16 : lw_okq (⟨"DeterminantDesk", "nextProduct", "(I)V"⟩, 6) := ⟨⟨by decide +kernel, by decide +kernel⟩, lw_t1 (List.mem_of_getElem? (i := 4) rfl), lw_t1 (List.mem_of_getElem? (i := 150) rfl), lw_t1 (List.mem_of_getElem? (i := 151) rfl)⟩
theorem lw_p17 : lw_okq (⟨"DeterminantDesk", "nextDifferences", "(I)V"⟩, 6) := ⟨⟨by decide +kernel, by decide +kernel⟩, lw_t1 (List.mem_of_getElem? (i := 4) rfl), lw_t1 (List.mem_of_getElem? (i := 154) rfl), lw_t1 (List.mem_of_getElem? (i := 155) rfl)⟩
theorem lw_p18 : lw_okq (⟨"DeterminantDeskModel", "fits", "(III)Z"⟩, 3) := ⟨⟨by decide +kernel, by decide +kernel⟩, lw_t1 (List.mem_of_getElem? (i := 176) rfl), lw_t1 (List.mem_of_getElem? (i := 197) rfl), lw_t1 (List.mem_of_getElem? (i := 198) rfl)⟩
theorem lw_p19 : lw_okq (⟨"DeterminantDeskModel", "row", "(I)Z"⟩, 3) := ⟨⟨by decide +kernel, by decide +kernel⟩, lw_t1 (List.mem_of_getElem? (i := 176) rfl), lw_t1 (List.mem_of_getElem? (i := 201) rfl), lw_t1 (List.mem_of_getElem? (i := 202) rfl)⟩
theorem lw_p20 : lw_okq (⟨"DeterminantDeskModel", "keep", "()V"⟩, 3) := ⟨⟨by decide +kernel, by decide +kernel⟩, lw_t1 (List.mem_of_getElem? (i := 176) rfl), lw_t1 (List.mem_of_getElem? (i := 222) rfl), lw_t1 (List.mem_of_getElem? (i := 223) rfl)⟩
theorem lw_p21 : lw_okq (⟨"DeterminantDeskModel", "part", "(II)J"⟩, 3) := ⟨⟨by decide +kernel, by decide +kernel⟩, lw_t1 (List.mem_of_getElem? (i := 176) rfl), lw_t1 (List.mem_of_getElem? (i := 230) rfl), lw_t1 (List.mem_of_getElem? (i := 231) rfl)⟩
theorem lw_p22 : lw_okq (⟨"DeterminantDeskModel", "ones", "(I)I"⟩, 3) := ⟨⟨by decide +kernel, by decide +kernel⟩, lw_t1 (List.mem_of_getElem? (i := 176) rfl), lw_t1 (List.mem_of_getElem? (i := 234) rfl), lw_t1 (List.mem_of_getElem? (i := 235) rfl)⟩
theorem lw_p23 : lw_okq (⟨"DeterminantDeskModel", "expand", "(II)J"⟩, 3) := ⟨⟨by decide +kernel, by decide +kernel⟩, lw_t1 (List.mem_of_getElem? (i := 176) rfl), lw_t1 (List.mem_of_getElem? (i := 238) rfl), lw_t1 (List.mem_of_getElem? (i := 239) rfl)⟩
theorem lw_p24 : lw_okq (⟨"DeterminantDeskModel", "restore", "()V"⟩, 3) := ⟨⟨by decide +kernel, by decide +kernel⟩, lw_t1 (List.mem_of_getElem? (i := 176) rfl), lw_t2 (List.mem_of_getElem? (i := 11) rfl), lw_t2 (List.mem_of_getElem? (i := 12) rfl)⟩
theorem lw_p25 : lw_okq (⟨"DeterminantDeskModel", "rankIn", "(II)I"⟩, 3) := ⟨⟨by decide +kernel, by decide +kernel⟩, lw_t1 (List.mem_of_getElem? (i := 176) rfl), lw_t2 (List.mem_of_getElem? (i := 19) rfl), lw_t2 (List.mem_of_getElem? (i := 20) rfl)⟩
def lw_privs_2 : List (MethodName × Nat) := [(⟨"DeterminantDesk", "nextProduct", "(I)V"⟩, 6), (⟨"DeterminantDesk", "nextDifferences", "(I)V"⟩, 6), (⟨"DeterminantDeskModel", "fits", "(III)Z"⟩, 3), (⟨"DeterminantDeskModel", "row", "(I)Z"⟩, 3), (⟨"DeterminantDeskModel", "keep", "()V"⟩, 3), (⟨"DeterminantDeskModel", "part", "(II)J"⟩, 3), (⟨"DeterminantDeskModel", "ones", "(I)I"⟩, 3), (⟨"DeterminantDeskModel", "expand", "(II)J"⟩, 3), (⟨"DeterminantDeskModel", "restore", "()V"⟩, 3), (⟨"DeterminantDeskModel", "rankIn", "(II)I"⟩, 3)]
theorem lw_r2 : ∀ q ∈ lw_privs_2, lw_okq q := List.forall_mem_cons.mpr ⟨lw_p16, List.forall_mem_cons.mpr ⟨lw_p17, List.forall_mem_cons.mpr ⟨lw_p18, List.forall_mem_cons.mpr ⟨lw_p19, List.forall_mem_cons.mpr ⟨lw_p20, List.forall_mem_cons.mpr ⟨lw_p21, List.forall_mem_cons.mpr ⟨lw_p22, List.forall_mem_cons.mpr ⟨lw_p23, List.forall_mem_cons.mpr ⟨lw_p24, List.forall_mem_cons.mpr ⟨lw_p25, fun _ h => absurd h List.not_mem_nil⟩⟩⟩⟩⟩⟩⟩⟩⟩⟩
def lw_privs : List (MethodName × Nat) := lw_privs_1 ++ (lw_privs_2)
def lw_tbl : List Cond := k2_sels lw_privs ++ tables_1
theorem lw_privs_ok : ∀ q ∈ lw_privs, lw_okq q := by
  show ∀ q ∈ lw_privs_1 ++ (lw_privs_2), lw_okq q
  exact List.forall_mem_append.mpr ⟨lw_r1, lw_r2⟩
def lw_all : List Cond := lw_tbl.filter goodWord
/-- a word of the tables by its place: claim/WORDS.tsv -/
theorem lw_w {w : Cond} (i : Nat) (h : lw_tbl[i]? = some w) (g : goodWord w = true) : w ∈ lw_all := List.mem_filter.mpr ⟨List.mem_of_getElem? h, g⟩
theorem lw_all_tbl {w : Cond} (h : w ∈ lw_all) : w ∈ lw_tbl := (List.mem_filter.mp h).1
theorem lw_self : GoodIn lw_all lw_all := fun w h => ⟨h, good_of_word (List.mem_filter.mp h).2⟩
/-- a class's field words, by their places -/
theorem lw_in (ws : List Cond) (ps : List Nat) (hp : ws = ps.filterMap (fun i => lw_tbl[i]?)) (hg : ws.all goodWord = true) : ∀ w ∈ ws, w ∈ lw_all := by
  intro w h
  have h1 := List.all_eq_true.mp hg w h
  rw [hp] at h
  obtain ⟨i, -, hi⟩ := List.mem_filterMap.mp h
  exact lw_w i hi h1
/-- the words of a contract for the method y with code b, L locals, answer r -/
abbrev ws_ (y : MethodName) (b : ByteArray) (L : Nat) (r : Option FieldType) : List Cond := Cond.code y b L r :: lw_all
theorem lw_meth {y : MethodName} {b : ByteArray} {L : Nat} {r : Option FieldType} (h : Cond.code y b L r ∈ lw_all) : GoodIn lw_all (ws_ y b L r) := by
  intro w hw
  rcases List.mem_cons.mp hw with e | e
  · rw [e]
    exact lw_self _ h
  · exact lw_self _ e
theorem lw_app {a c : List Cond} (ha : ∀ w ∈ a, w ∈ lw_all) (hc : GoodIn lw_all c) : GoodIn lw_all (a ++ c) := by
  intro w hw
  rcases List.mem_append.mp hw with e | e
  · exact lw_self w (ha w e)
  · exact hc w e
/-- what a call through an object asks: cwV n hts (lw_V ..) -/
theorem lw_V {own : String} {idx : Nat} {C : String} {y : MethodName} {b : ByteArray} {L : Nat} {r : Option FieldType} (h1 : Cond.methodLink own idx y ∈ lw_all) (h2 : Cond.instanceMethod y ∈ lw_all) (h3 : Cond.selects C y y ∈ lw_all) (h4 : Cond.initialized C ∈ lw_all) (h5 : Cond.code y b L r ∈ lw_all) : GoodIn lw_all (wsV own idx C y (ws_ y b L r)) := by
  refine lw_app ?_ (lw_meth h5)
  intro w hw
  simp only [List.mem_cons, List.not_mem_nil, or_false] at hw
  rcases hw with e | e | e | e
  · rw [e]; exact h1
  · rw [e]; exact h2
  · rw [e]; exact h3
  · rw [e]; exact h4
/-- what a static call asks: va_cwS n hts (lw_S ..) -/
theorem lw_S {own : String} {idx : Nat} {y : MethodName} {b : ByteArray} {L : Nat} {r : Option FieldType} (h1 : Cond.methodLink own idx y ∈ lw_all) (h2 : Cond.static y ∈ lw_all) (h3 : Cond.initialized y.cls ∈ lw_all) (h4 : Cond.code y b L r ∈ lw_all) : GoodIn lw_all (va_wsS own idx y (ws_ y b L r)) := by
  refine lw_app ?_ (lw_meth h4)
  intro w hw
  simp only [List.mem_cons, List.not_mem_nil, or_false] at hw
  rcases hw with e | e | e
  · rw [e]; exact h1
  · rw [e]; exact h2
  · rw [e]; exact h3
/-- the words of a contract for a method WITH HANDLERS (hh: its table) -/
abbrev wsW_ (y : MethodName) (b : ByteArray) (L : Nat) (r : Option FieldType) (hh : List (Nat × Nat × Nat × Nat)) : List Cond := Cond.codeWith y b L r hh :: lw_all
theorem lw_methW {y : MethodName} {b : ByteArray} {L : Nat} {r : Option FieldType} {hh : List (Nat × Nat × Nat × Nat)} (h : Cond.codeWith y b L r hh ∈ lw_all) : GoodIn lw_all (wsW_ y b L r hh) := by
  intro w hw
  rcases List.mem_cons.mp hw with e | e
  · rw [e]
    exact lw_self _ h
  · exact lw_self _ e
/-- any list of words by their places (lw_in), good -/
theorem lw_good {ws : List Cond} (h : ∀ w ∈ ws, w ∈ lw_all) : GoodIn lw_all ws := fun w hw => lw_self w (h w hw)
/-- what a call of a method with handlers asks: vx_cwVW n hts (lw_VW ..), vx_cwSW n hts (lw_SW ..) -/
theorem lw_VW {own : String} {idx : Nat} {C : String} {y : MethodName} {b : ByteArray} {L : Nat} {r : Option FieldType} {hh : List (Nat × Nat × Nat × Nat)} (h1 : Cond.methodLink own idx y ∈ lw_all) (h2 : Cond.instanceMethod y ∈ lw_all) (h3 : Cond.selects C y y ∈ lw_all) (h4 : Cond.initialized C ∈ lw_all) (h5 : Cond.codeWith y b L r hh ∈ lw_all) : GoodIn lw_all (wsV own idx C y (wsW_ y b L r hh)) := by
  refine lw_app ?_ (lw_methW h5)
  intro w hw
  simp only [List.mem_cons, List.not_mem_nil, or_false] at hw
  rcases hw with e | e | e | e
  · rw [e]; exact h1
  · rw [e]; exact h2
  · rw [e]; exact h3
  · rw [e]; exact h4
theorem lw_SW {own : String} {idx : Nat} {y : MethodName} {b : ByteArray} {L : Nat} {r : Option FieldType} {hh : List (Nat × Nat × Nat × Nat)} (h1 : Cond.methodLink own idx y ∈ lw_all) (h2 : Cond.static y ∈ lw_all) (h3 : Cond.initialized y.cls ∈ lw_all) (h4 : Cond.codeWith y b L r hh ∈ lw_all) : GoodIn lw_all (va_wsS own idx y (wsW_ y b L r hh)) := by
  refine lw_app ?_ (lw_methW h4)
  intro w hw
  simp only [List.mem_cons, List.not_mem_nil, or_false] at hw
  rcases hw with e | e | e
  · rw [e]; exact h1
  · rw [e]; exact h2
  · rw [e]; exact h3
/-- a word by its place in its run of the tables -/
theorem lw_at {r : List Cond} (hr : ∀ w ∈ r, w ∈ lw_tbl) {w : Cond} (i : Nat) (h : r[i]? = some w) : w ∈ lw_tbl := hr w (List.mem_of_getElem? h)
theorem lw_g {w : Cond} (h : w ∈ lw_tbl) (g : goodWord w = true) : w ∈ lw_all := List.mem_filter.mpr ⟨h, g⟩
theorem lw_ms : ∀ w ∈ k2_sels lw_privs, w ∈ lw_tbl := fun w h => show w ∈ k2_sels lw_privs ++ tables_1 from List.mem_append_left _ h
theorem lw_m1 : ∀ w ∈ tables_1_1, w ∈ lw_tbl := fun w h => show w ∈ k2_sels lw_privs ++ tables_1 from List.mem_append_right (k2_sels lw_privs) (show w ∈ tables_1 from List.mem_append_left _ h)
theorem lw_m2 : ∀ w ∈ tables_1_2, w ∈ lw_tbl := fun w h => show w ∈ k2_sels lw_privs ++ tables_1 from List.mem_append_right (k2_sels lw_privs) (show w ∈ tables_1 from List.mem_append_right _ h)
theorem qs0 : (Cond.selects "DeterminantDesk" ⟨"DeterminantDesk", "load", "(I)V"⟩ ⟨"DeterminantDesk", "load", "(I)V"⟩) ∈ lw_all := lw_g (lw_at lw_ms 0 rfl) rfl
theorem qs1 : (Cond.selects "DeterminantDesk" ⟨"DeterminantDesk", "reduce", "(I)I"⟩ ⟨"DeterminantDesk", "reduce", "(I)I"⟩) ∈ lw_all := lw_g (lw_at lw_ms 1 rfl) rfl
theorem qs2 : (Cond.selects "DeterminantDesk" ⟨"DeterminantDesk", "determinantOf", "(I)I"⟩ ⟨"DeterminantDesk", "determinantOf", "(I)I"⟩) ∈ lw_all := lw_g (lw_at lw_ms 2 rfl) rfl
theorem qs3 : (Cond.selects "DeterminantDesk" ⟨"DeterminantDesk", "pivotFrom", "(III)I"⟩ ⟨"DeterminantDesk", "pivotFrom", "(III)I"⟩) ∈ lw_all := lw_g (lw_at lw_ms 3 rfl) rfl
theorem qs4 : (Cond.selects "DeterminantDesk" ⟨"DeterminantDesk", "exchange", "(II)V"⟩ ⟨"DeterminantDesk", "exchange", "(II)V"⟩) ∈ lw_all := lw_g (lw_at lw_ms 4 rfl) rfl
theorem qs5 : (Cond.selects "DeterminantDesk" ⟨"DeterminantDesk", "times", "(II)I"⟩ ⟨"DeterminantDesk", "times", "(II)I"⟩) ∈ lw_all := lw_g (lw_at lw_ms 5 rfl) rfl
theorem qs6 : (Cond.selects "DeterminantDesk" ⟨"DeterminantDesk", "clearBelow", "(III)V"⟩ ⟨"DeterminantDesk", "clearBelow", "(III)V"⟩) ∈ lw_all := lw_g (lw_at lw_ms 6 rfl) rfl
theorem qs7 : (Cond.selects "DeterminantDesk" ⟨"DeterminantDesk", "inverse", "(I)I"⟩ ⟨"DeterminantDesk", "inverse", "(I)I"⟩) ∈ lw_all := lw_g (lw_at lw_ms 7 rfl) rfl
theorem qs8 : (Cond.selects "DeterminantDesk" ⟨"DeterminantDesk", "join", "(II)I"⟩ ⟨"DeterminantDesk", "join", "(II)I"⟩) ∈ lw_all := lw_g (lw_at lw_ms 8 rfl) rfl
theorem qs9 : (Cond.selects "DeterminantDesk" ⟨"DeterminantDesk", "leaveOut", "(II)V"⟩ ⟨"DeterminantDesk", "leaveOut", "(II)V"⟩) ∈ lw_all := lw_g (lw_at lw_ms 9 rfl) rfl
theorem qs10 : (Cond.selects "DeterminantDesk" ⟨"DeterminantDesk", "replaceColumn", "(I)V"⟩ ⟨"DeterminantDesk", "replaceColumn", "(I)V"⟩) ∈ lw_all := lw_g (lw_at lw_ms 10 rfl) rfl
theorem qs11 : (Cond.selects "DeterminantDesk" ⟨"DeterminantDesk", "rankIn", "(II)I"⟩ ⟨"DeterminantDesk", "rankIn", "(II)I"⟩) ∈ lw_all := lw_g (lw_at lw_ms 11 rfl) rfl
theorem qs12 : (Cond.selects "DeterminantDesk" ⟨"DeterminantDesk", "keepRows", "(I)I"⟩ ⟨"DeterminantDesk", "keepRows", "(I)I"⟩) ∈ lw_all := lw_g (lw_at lw_ms 12 rfl) rfl
theorem qs13 : (Cond.selects "DeterminantDesk" ⟨"DeterminantDesk", "rankAtWork", "(II)I"⟩ ⟨"DeterminantDesk", "rankAtWork", "(II)I"⟩) ∈ lw_all := lw_g (lw_at lw_ms 13 rfl) rfl
theorem qs14 : (Cond.selects "DeterminantDesk" ⟨"DeterminantDesk", "coefficientFor", "(II)I"⟩ ⟨"DeterminantDesk", "coefficientFor", "(II)I"⟩) ∈ lw_all := lw_g (lw_at lw_ms 14 rfl) rfl
theorem qs15 : (Cond.selects "DeterminantDesk" ⟨"DeterminantDesk", "shift", "(I)V"⟩ ⟨"DeterminantDesk", "shift", "(I)V"⟩) ∈ lw_all := lw_g (lw_at lw_ms 15 rfl) rfl
theorem qs16 : (Cond.selects "DeterminantDesk" ⟨"DeterminantDesk", "nextProduct", "(I)V"⟩ ⟨"DeterminantDesk", "nextProduct", "(I)V"⟩) ∈ lw_all := lw_g (lw_at lw_ms 16 rfl) rfl
theorem qs17 : (Cond.selects "DeterminantDesk" ⟨"DeterminantDesk", "nextDifferences", "(I)V"⟩ ⟨"DeterminantDesk", "nextDifferences", "(I)V"⟩) ∈ lw_all := lw_g (lw_at lw_ms 17 rfl) rfl
theorem qs18 : (Cond.selects "DeterminantDeskModel" ⟨"DeterminantDeskModel", "fits", "(III)Z"⟩ ⟨"DeterminantDeskModel", "fits", "(III)Z"⟩) ∈ lw_all := lw_g (lw_at lw_ms 18 rfl) rfl
theorem qs19 : (Cond.selects "DeterminantDeskModel" ⟨"DeterminantDeskModel", "row", "(I)Z"⟩ ⟨"DeterminantDeskModel", "row", "(I)Z"⟩) ∈ lw_all := lw_g (lw_at lw_ms 19 rfl) rfl
theorem qs20 : (Cond.selects "DeterminantDeskModel" ⟨"DeterminantDeskModel", "keep", "()V"⟩ ⟨"DeterminantDeskModel", "keep", "()V"⟩) ∈ lw_all := lw_g (lw_at lw_ms 20 rfl) rfl
theorem qs21 : (Cond.selects "DeterminantDeskModel" ⟨"DeterminantDeskModel", "part", "(II)J"⟩ ⟨"DeterminantDeskModel", "part", "(II)J"⟩) ∈ lw_all := lw_g (lw_at lw_ms 21 rfl) rfl
theorem qs22 : (Cond.selects "DeterminantDeskModel" ⟨"DeterminantDeskModel", "ones", "(I)I"⟩ ⟨"DeterminantDeskModel", "ones", "(I)I"⟩) ∈ lw_all := lw_g (lw_at lw_ms 22 rfl) rfl
theorem qs23 : (Cond.selects "DeterminantDeskModel" ⟨"DeterminantDeskModel", "expand", "(II)J"⟩ ⟨"DeterminantDeskModel", "expand", "(II)J"⟩) ∈ lw_all := lw_g (lw_at lw_ms 23 rfl) rfl
theorem qs24 : (Cond.selects "DeterminantDeskModel" ⟨"DeterminantDeskModel", "restore", "()V"⟩ ⟨"DeterminantDeskModel", "restore", "()V"⟩) ∈ lw_all := lw_g (lw_at lw_ms 24 rfl) rfl
theorem qs25 : (Cond.selects "DeterminantDeskModel" ⟨"DeterminantDeskModel", "rankIn", "(II)I"⟩ ⟨"DeterminantDeskModel", "rankIn", "(II)I"⟩) ∈ lw_all := lw_g (lw_at lw_ms 25 rfl) rfl
end
section
set_option maxRecDepth 100000
/-! DeterminantDesk -/
def RX0 : String := "DeterminantDesk"
def TX0 : u_T := fun k => match k with
  | 0 => ("DeterminantDesk", "numbers", "[B", true)
  | 1 => ("DeterminantDesk", "prime", "I", false)
  | 2 => ("DeterminantDesk", "work", "[I", true)
  | 3 => ("DeterminantDesk", "values", "[I", true)
  | 4 => ("DeterminantDesk", "product", "[I", true)
  | _ => ("DeterminantDesk", "sum", "[I", true)
def tyX0 : Nat → FieldType := fun k => match k with
  | 0 => .array .byte
  | 1 => .int
  | 2 => .array .int
  | 3 => .array .int
  | 4 => .array .int
  | _ => .array .int
abbrev wsX00 : List Cond := u_ws RX0 TX0 6
theorem nmX0 : ∀ a, a < 6 → ∀ b, b < 6 → a ≠ b → (TX0 a).2.1 ≠ (TX0 b).2.1 := by decide +kernel
theorem tyX0_ok : ∀ k, k < 6 → parseFieldDescriptor (TX0 k).2.2.1 = some (tyX0 k) := by decide +kernel
abbrev cX0_init : ByteArray := prog_1_method_1_code
def yX0_init : MethodName := ⟨RX0, "<init>", "()V"⟩
theorem dX0_init_0 : decode cX0_init 0 = .ok (.aload_n 0, 1) := by decide +kernel
theorem dX0_init_1 : decode cX0_init 1 = .ok (.invokespecial 1, 3) := by decide +kernel
theorem dX0_init_4 : decode cX0_init 4 = .ok (.aload_n 0, 1) := by decide +kernel
theorem dX0_init_5 : decode cX0_init 5 = .ok (.bipush 20, 2) := by decide +kernel
theorem dX0_init_7 : decode cX0_init 7 = .ok (.newarray .byte, 2) := by decide +kernel
theorem dX0_init_9 : decode cX0_init 9 = .ok (.putfield 7, 3) := by decide +kernel
theorem dX0_init_12 : decode cX0_init 12 = .ok (.aload_n 0, 1) := by decide +kernel
theorem dX0_init_13 : decode cX0_init 13 = .ok (.bipush 20, 2) := by decide +kernel
theorem dX0_init_15 : decode cX0_init 15 = .ok (.newarray .int, 2) := by decide +kernel
theorem dX0_init_17 : decode cX0_init 17 = .ok (.putfield 13, 3) := by decide +kernel
theorem dX0_init_20 : decode cX0_init 20 = .ok (.aload_n 0, 1) := by decide +kernel
theorem dX0_init_21 : decode cX0_init 21 = .ok (.iconst 5, 1) := by decide +kernel
theorem dX0_init_22 : decode cX0_init 22 = .ok (.newarray .int, 2) := by decide +kernel
theorem dX0_init_24 : decode cX0_init 24 = .ok (.putfield 17, 3) := by decide +kernel
theorem dX0_init_27 : decode cX0_init 27 = .ok (.aload_n 0, 1) := by decide +kernel
theorem dX0_init_28 : decode cX0_init 28 = .ok (.iconst 5, 1) := by decide +kernel
theorem dX0_init_29 : decode cX0_init 29 = .ok (.newarray .int, 2) := by decide +kernel
theorem dX0_init_31 : decode cX0_init 31 = .ok (.putfield 20, 3) := by decide +kernel
theorem dX0_init_34 : decode cX0_init 34 = .ok (.aload_n 0, 1) := by decide +kernel
theorem dX0_init_35 : decode cX0_init 35 = .ok (.iconst 5, 1) := by decide +kernel
theorem dX0_init_36 : decode cX0_init 36 = .ok (.newarray .int, 2) := by decide +kernel
theorem dX0_init_38 : decode cX0_init 38 = .ok (.putfield 23, 3) := by decide +kernel
theorem dX0_init_41 : decode cX0_init 41 = .ok (.return_, 1) := by decide +kernel
abbrev cX0_set : ByteArray := prog_1_method_4_code
def yX0_set : MethodName := ⟨RX0, "set", "(III)Z"⟩
theorem dX0_set_0 : decode cX0_set 0 = .ok (.iload_n 1, 1) := by decide +kernel
theorem dX0_set_1 : decode cX0_set 1 = .ok (.invokestatic 26, 3) := by decide +kernel
theorem dX0_set_4 : decode cX0_set 4 = .ok (.ifCond .eq 19, 3) := by decide +kernel
theorem dX0_set_7 : decode cX0_set 7 = .ok (.iload_n 2, 1) := by decide +kernel
theorem dX0_set_8 : decode cX0_set 8 = .ok (.ifCond .lt 15, 3) := by decide +kernel
theorem dX0_set_11 : decode cX0_set 11 = .ok (.iload_n 2, 1) := by decide +kernel
theorem dX0_set_12 : decode cX0_set 12 = .ok (.iconst 4, 1) := by decide +kernel
theorem dX0_set_13 : decode cX0_set 13 = .ok (.if_icmp .gt 10, 3) := by decide +kernel
theorem dX0_set_16 : decode cX0_set 16 = .ok (.iload_n 3, 1) := by decide +kernel
theorem dX0_set_17 : decode cX0_set 17 = .ok (.invokestatic 30, 3) := by decide +kernel
theorem dX0_set_20 : decode cX0_set 20 = .ok (.ifCond .ne 5, 3) := by decide +kernel
theorem dX0_set_23 : decode cX0_set 23 = .ok (.iconst 0, 1) := by decide +kernel
theorem dX0_set_24 : decode cX0_set 24 = .ok (.ireturn, 1) := by decide +kernel
theorem dX0_set_25 : decode cX0_set 25 = .ok (.aload_n 0, 1) := by decide +kernel
theorem dX0_set_26 : decode cX0_set 26 = .ok (.getfield 7, 3) := by decide +kernel
theorem dX0_set_29 : decode cX0_set 29 = .ok (.iload_n 1, 1) := by decide +kernel
theorem dX0_set_30 : decode cX0_set 30 = .ok (.iconst 5, 1) := by decide +kernel
theorem dX0_set_31 : decode cX0_set 31 = .ok (.imul, 1) := by decide +kernel
theorem dX0_set_32 : decode cX0_set 32 = .ok (.iload_n 2, 1) := by decide +kernel
theorem dX0_set_33 : decode cX0_set 33 = .ok (.iadd, 1) := by decide +kernel
theorem dX0_set_34 : decode cX0_set 34 = .ok (.iload_n 3, 1) := by decide +kernel
theorem dX0_set_35 : decode cX0_set 35 = .ok (.i2b, 1) := by decide +kernel
theorem dX0_set_36 : decode cX0_set 36 = .ok (.bastore, 1) := by decide +kernel
theorem dX0_set_37 : decode cX0_set 37 = .ok (.iconst 1, 1) := by decide +kernel
theorem dX0_set_38 : decode cX0_set 38 = .ok (.ireturn, 1) := by decide +kernel
abbrev cX0_isRow : ByteArray := prog_1_method_2_code
def yX0_isRow : MethodName := ⟨RX0, "isRow", "(I)Z"⟩
theorem dX0_isRow_0 : decode cX0_isRow 0 = .ok (.iload_n 0, 1) := by decide +kernel
theorem dX0_isRow_1 : decode cX0_isRow 1 = .ok (.ifCond .lt 12, 3) := by decide +kernel
theorem dX0_isRow_4 : decode cX0_isRow 4 = .ok (.iload_n 0, 1) := by decide +kernel
theorem dX0_isRow_5 : decode cX0_isRow 5 = .ok (.iconst 4, 1) := by decide +kernel
theorem dX0_isRow_6 : decode cX0_isRow 6 = .ok (.if_icmp .ge 7, 3) := by decide +kernel
theorem dX0_isRow_9 : decode cX0_isRow 9 = .ok (.iconst 1, 1) := by decide +kernel
theorem dX0_isRow_10 : decode cX0_isRow 10 = .ok (.goto 4, 3) := by decide +kernel
theorem dX0_isRow_13 : decode cX0_isRow 13 = .ok (.iconst 0, 1) := by decide +kernel
theorem dX0_isRow_14 : decode cX0_isRow 14 = .ok (.ireturn, 1) := by decide +kernel
abbrev cX0_isNumber : ByteArray := prog_1_method_3_code
def yX0_isNumber : MethodName := ⟨RX0, "isNumber", "(I)Z"⟩
theorem dX0_isNumber_0 : decode cX0_isNumber 0 = .ok (.iload_n 0, 1) := by decide +kernel
theorem dX0_isNumber_1 : decode cX0_isNumber 1 = .ok (.bipush (-50), 2) := by decide +kernel
theorem dX0_isNumber_3 : decode cX0_isNumber 3 = .ok (.if_icmp .lt 13, 3) := by decide +kernel
theorem dX0_isNumber_6 : decode cX0_isNumber 6 = .ok (.iload_n 0, 1) := by decide +kernel
theorem dX0_isNumber_7 : decode cX0_isNumber 7 = .ok (.bipush 50, 2) := by decide +kernel
theorem dX0_isNumber_9 : decode cX0_isNumber 9 = .ok (.if_icmp .gt 7, 3) := by decide +kernel
theorem dX0_isNumber_12 : decode cX0_isNumber 12 = .ok (.iconst 1, 1) := by decide +kernel
theorem dX0_isNumber_13 : decode cX0_isNumber 13 = .ok (.goto 4, 3) := by decide +kernel
theorem dX0_isNumber_16 : decode cX0_isNumber 16 = .ok (.iconst 0, 1) := by decide +kernel
theorem dX0_isNumber_17 : decode cX0_isNumber 17 = .ok (.ireturn, 1) := by decide +kernel
abbrev cX0_at : ByteArray := prog_1_method_5_code
def yX0_at : MethodName := ⟨RX0, "at", "(II)I"⟩
theorem dX0_at_0 : decode cX0_at 0 = .ok (.iload_n 1, 1) := by decide +kernel
theorem dX0_at_1 : decode cX0_at 1 = .ok (.invokestatic 26, 3) := by decide +kernel
theorem dX0_at_4 : decode cX0_at 4 = .ok (.ifCond .eq 25, 3) := by decide +kernel
theorem dX0_at_7 : decode cX0_at 7 = .ok (.iload_n 2, 1) := by decide +kernel
theorem dX0_at_8 : decode cX0_at 8 = .ok (.ifCond .lt 21, 3) := by decide +kernel
theorem dX0_at_11 : decode cX0_at 11 = .ok (.iload_n 2, 1) := by decide +kernel
theorem dX0_at_12 : decode cX0_at 12 = .ok (.iconst 4, 1) := by decide +kernel
theorem dX0_at_13 : decode cX0_at 13 = .ok (.if_icmp .gt 16, 3) := by decide +kernel
theorem dX0_at_16 : decode cX0_at 16 = .ok (.aload_n 0, 1) := by decide +kernel
theorem dX0_at_17 : decode cX0_at 17 = .ok (.getfield 7, 3) := by decide +kernel
theorem dX0_at_20 : decode cX0_at 20 = .ok (.iload_n 1, 1) := by decide +kernel
theorem dX0_at_21 : decode cX0_at 21 = .ok (.iconst 5, 1) := by decide +kernel
theorem dX0_at_22 : decode cX0_at 22 = .ok (.imul, 1) := by decide +kernel
theorem dX0_at_23 : decode cX0_at 23 = .ok (.iload_n 2, 1) := by decide +kernel
theorem dX0_at_24 : decode cX0_at 24 = .ok (.iadd, 1) := by decide +kernel
theorem dX0_at_25 : decode cX0_at 25 = .ok (.baload, 1) := by decide +kernel
theorem dX0_at_26 : decode cX0_at 26 = .ok (.goto 5, 3) := by decide +kernel
theorem dX0_at_29 : decode cX0_at 29 = .ok (.ldc 33, 2) := by decide +kernel
theorem dX0_at_31 : decode cX0_at 31 = .ok (.ireturn, 1) := by decide +kernel
abbrev cX0_swapRows : ByteArray := prog_1_method_6_code
def yX0_swapRows : MethodName := ⟨RX0, "swapRows", "(II)Z"⟩
theorem dX0_swapRows_0 : decode cX0_swapRows 0 = .ok (.iload_n 1, 1) := by decide +kernel
theorem dX0_swapRows_1 : decode cX0_swapRows 1 = .ok (.invokestatic 26, 3) := by decide +kernel
theorem dX0_swapRows_4 : decode cX0_swapRows 4 = .ok (.ifCond .eq 10, 3) := by decide +kernel
theorem dX0_swapRows_7 : decode cX0_swapRows 7 = .ok (.iload_n 2, 1) := by decide +kernel
theorem dX0_swapRows_8 : decode cX0_swapRows 8 = .ok (.invokestatic 26, 3) := by decide +kernel
theorem dX0_swapRows_11 : decode cX0_swapRows 11 = .ok (.ifCond .ne 5, 3) := by decide +kernel
theorem dX0_swapRows_14 : decode cX0_swapRows 14 = .ok (.iconst 0, 1) := by decide +kernel
theorem dX0_swapRows_15 : decode cX0_swapRows 15 = .ok (.ireturn, 1) := by decide +kernel
theorem dX0_swapRows_16 : decode cX0_swapRows 16 = .ok (.iconst 0, 1) := by decide +kernel
theorem dX0_swapRows_17 : decode cX0_swapRows 17 = .ok (.istore_n 3, 1) := by decide +kernel
theorem dX0_swapRows_18 : decode cX0_swapRows 18 = .ok (.iload_n 3, 1) := by decide +kernel
theorem dX0_swapRows_19 : decode cX0_swapRows 19 = .ok (.iconst 4, 1) := by decide +kernel
theorem dX0_swapRows_20 : decode cX0_swapRows 20 = .ok (.if_icmp .ge 53, 3) := by decide +kernel
theorem dX0_swapRows_23 : decode cX0_swapRows 23 = .ok (.aload_n 0, 1) := by decide +kernel
theorem dX0_swapRows_24 : decode cX0_swapRows 24 = .ok (.getfield 7, 3) := by decide +kernel
theorem dX0_swapRows_27 : decode cX0_swapRows 27 = .ok (.iload_n 1, 1) := by decide +kernel
theorem dX0_swapRows_28 : decode cX0_swapRows 28 = .ok (.iconst 5, 1) := by decide +kernel
theorem dX0_swapRows_29 : decode cX0_swapRows 29 = .ok (.imul, 1) := by decide +kernel
theorem dX0_swapRows_30 : decode cX0_swapRows 30 = .ok (.iload_n 3, 1) := by decide +kernel
theorem dX0_swapRows_31 : decode cX0_swapRows 31 = .ok (.iadd, 1) := by decide +kernel
theorem dX0_swapRows_32 : decode cX0_swapRows 32 = .ok (.baload, 1) := by decide +kernel
theorem dX0_swapRows_33 : decode cX0_swapRows 33 = .ok (.istore 4, 2) := by decide +kernel
theorem dX0_swapRows_35 : decode cX0_swapRows 35 = .ok (.aload_n 0, 1) := by decide +kernel
theorem dX0_swapRows_36 : decode cX0_swapRows 36 = .ok (.getfield 7, 3) := by decide +kernel
theorem dX0_swapRows_39 : decode cX0_swapRows 39 = .ok (.iload_n 1, 1) := by decide +kernel
theorem dX0_swapRows_40 : decode cX0_swapRows 40 = .ok (.iconst 5, 1) := by decide +kernel
theorem dX0_swapRows_41 : decode cX0_swapRows 41 = .ok (.imul, 1) := by decide +kernel
theorem dX0_swapRows_42 : decode cX0_swapRows 42 = .ok (.iload_n 3, 1) := by decide +kernel
theorem dX0_swapRows_43 : decode cX0_swapRows 43 = .ok (.iadd, 1) := by decide +kernel
theorem dX0_swapRows_44 : decode cX0_swapRows 44 = .ok (.aload_n 0, 1) := by decide +kernel
theorem dX0_swapRows_45 : decode cX0_swapRows 45 = .ok (.getfield 7, 3) := by decide +kernel
theorem dX0_swapRows_48 : decode cX0_swapRows 48 = .ok (.iload_n 2, 1) := by decide +kernel
theorem dX0_swapRows_49 : decode cX0_swapRows 49 = .ok (.iconst 5, 1) := by decide +kernel
theorem dX0_swapRows_50 : decode cX0_swapRows 50 = .ok (.imul, 1) := by decide +kernel
theorem dX0_swapRows_51 : decode cX0_swapRows 51 = .ok (.iload_n 3, 1) := by decide +kernel
theorem dX0_swapRows_52 : decode cX0_swapRows 52 = .ok (.iadd, 1) := by decide +kernel
theorem dX0_swapRows_53 : decode cX0_swapRows 53 = .ok (.baload, 1) := by decide +kernel
theorem dX0_swapRows_54 : decode cX0_swapRows 54 = .ok (.bastore, 1) := by decide +kernel
theorem dX0_swapRows_55 : decode cX0_swapRows 55 = .ok (.aload_n 0, 1) := by decide +kernel
theorem dX0_swapRows_56 : decode cX0_swapRows 56 = .ok (.getfield 7, 3) := by decide +kernel
theorem dX0_swapRows_59 : decode cX0_swapRows 59 = .ok (.iload_n 2, 1) := by decide +kernel
theorem dX0_swapRows_60 : decode cX0_swapRows 60 = .ok (.iconst 5, 1) := by decide +kernel
theorem dX0_swapRows_61 : decode cX0_swapRows 61 = .ok (.imul, 1) := by decide +kernel
theorem dX0_swapRows_62 : decode cX0_swapRows 62 = .ok (.iload_n 3, 1) := by decide +kernel
theorem dX0_swapRows_63 : decode cX0_swapRows 63 = .ok (.iadd, 1) := by decide +kernel
theorem dX0_swapRows_64 : decode cX0_swapRows 64 = .ok (.iload 4, 2) := by decide +kernel
theorem dX0_swapRows_66 : decode cX0_swapRows 66 = .ok (.bastore, 1) := by decide +kernel
theorem dX0_swapRows_67 : decode cX0_swapRows 67 = .ok (.iinc 3 1, 3) := by decide +kernel
theorem dX0_swapRows_70 : decode cX0_swapRows 70 = .ok (.goto (-52), 3) := by decide +kernel
theorem dX0_swapRows_73 : decode cX0_swapRows 73 = .ok (.iconst 1, 1) := by decide +kernel
theorem dX0_swapRows_74 : decode cX0_swapRows 74 = .ok (.ireturn, 1) := by decide +kernel
abbrev cX0_addRow : ByteArray := prog_1_method_7_code
def yX0_addRow : MethodName := ⟨RX0, "addRow", "(III)Z"⟩
theorem dX0_addRow_0 : decode cX0_addRow 0 = .ok (.iload_n 1, 1) := by decide +kernel
theorem dX0_addRow_1 : decode cX0_addRow 1 = .ok (.invokestatic 26, 3) := by decide +kernel
theorem dX0_addRow_4 : decode cX0_addRow 4 = .ok (.ifCond .eq 27, 3) := by decide +kernel
theorem dX0_addRow_7 : decode cX0_addRow 7 = .ok (.iload_n 2, 1) := by decide +kernel
theorem dX0_addRow_8 : decode cX0_addRow 8 = .ok (.invokestatic 26, 3) := by decide +kernel
theorem dX0_addRow_11 : decode cX0_addRow 11 = .ok (.ifCond .eq 20, 3) := by decide +kernel
theorem dX0_addRow_14 : decode cX0_addRow 14 = .ok (.iload_n 1, 1) := by decide +kernel
theorem dX0_addRow_15 : decode cX0_addRow 15 = .ok (.iload_n 2, 1) := by decide +kernel
theorem dX0_addRow_16 : decode cX0_addRow 16 = .ok (.if_icmp .eq 15, 3) := by decide +kernel
theorem dX0_addRow_19 : decode cX0_addRow 19 = .ok (.iload_n 3, 1) := by decide +kernel
theorem dX0_addRow_20 : decode cX0_addRow 20 = .ok (.bipush (-9), 2) := by decide +kernel
theorem dX0_addRow_22 : decode cX0_addRow 22 = .ok (.if_icmp .lt 9, 3) := by decide +kernel
theorem dX0_addRow_25 : decode cX0_addRow 25 = .ok (.iload_n 3, 1) := by decide +kernel
theorem dX0_addRow_26 : decode cX0_addRow 26 = .ok (.bipush 9, 2) := by decide +kernel
theorem dX0_addRow_28 : decode cX0_addRow 28 = .ok (.if_icmp .le 5, 3) := by decide +kernel
theorem dX0_addRow_31 : decode cX0_addRow 31 = .ok (.iconst 0, 1) := by decide +kernel
theorem dX0_addRow_32 : decode cX0_addRow 32 = .ok (.ireturn, 1) := by decide +kernel
theorem dX0_addRow_33 : decode cX0_addRow 33 = .ok (.iconst 0, 1) := by decide +kernel
theorem dX0_addRow_34 : decode cX0_addRow 34 = .ok (.istore 4, 2) := by decide +kernel
theorem dX0_addRow_36 : decode cX0_addRow 36 = .ok (.iload 4, 2) := by decide +kernel
theorem dX0_addRow_38 : decode cX0_addRow 38 = .ok (.iconst 4, 1) := by decide +kernel
theorem dX0_addRow_39 : decode cX0_addRow 39 = .ok (.if_icmp .ge 46, 3) := by decide +kernel
theorem dX0_addRow_42 : decode cX0_addRow 42 = .ok (.aload_n 0, 1) := by decide +kernel
theorem dX0_addRow_43 : decode cX0_addRow 43 = .ok (.getfield 7, 3) := by decide +kernel
theorem dX0_addRow_46 : decode cX0_addRow 46 = .ok (.iload_n 1, 1) := by decide +kernel
theorem dX0_addRow_47 : decode cX0_addRow 47 = .ok (.iconst 5, 1) := by decide +kernel
theorem dX0_addRow_48 : decode cX0_addRow 48 = .ok (.imul, 1) := by decide +kernel
theorem dX0_addRow_49 : decode cX0_addRow 49 = .ok (.iload 4, 2) := by decide +kernel
theorem dX0_addRow_51 : decode cX0_addRow 51 = .ok (.iadd, 1) := by decide +kernel
theorem dX0_addRow_52 : decode cX0_addRow 52 = .ok (.baload, 1) := by decide +kernel
theorem dX0_addRow_53 : decode cX0_addRow 53 = .ok (.iload_n 3, 1) := by decide +kernel
theorem dX0_addRow_54 : decode cX0_addRow 54 = .ok (.aload_n 0, 1) := by decide +kernel
theorem dX0_addRow_55 : decode cX0_addRow 55 = .ok (.getfield 7, 3) := by decide +kernel
theorem dX0_addRow_58 : decode cX0_addRow 58 = .ok (.iload_n 2, 1) := by decide +kernel
theorem dX0_addRow_59 : decode cX0_addRow 59 = .ok (.iconst 5, 1) := by decide +kernel
theorem dX0_addRow_60 : decode cX0_addRow 60 = .ok (.imul, 1) := by decide +kernel
theorem dX0_addRow_61 : decode cX0_addRow 61 = .ok (.iload 4, 2) := by decide +kernel
theorem dX0_addRow_63 : decode cX0_addRow 63 = .ok (.iadd, 1) := by decide +kernel
theorem dX0_addRow_64 : decode cX0_addRow 64 = .ok (.baload, 1) := by decide +kernel
theorem dX0_addRow_65 : decode cX0_addRow 65 = .ok (.imul, 1) := by decide +kernel
theorem dX0_addRow_66 : decode cX0_addRow 66 = .ok (.iadd, 1) := by decide +kernel
theorem dX0_addRow_67 : decode cX0_addRow 67 = .ok (.istore 5, 2) := by decide +kernel
theorem dX0_addRow_69 : decode cX0_addRow 69 = .ok (.iload 5, 2) := by decide +kernel
theorem dX0_addRow_71 : decode cX0_addRow 71 = .ok (.invokestatic 30, 3) := by decide +kernel
theorem dX0_addRow_74 : decode cX0_addRow 74 = .ok (.ifCond .ne 5, 3) := by decide +kernel
theorem dX0_addRow_77 : decode cX0_addRow 77 = .ok (.iconst 0, 1) := by decide +kernel
theorem dX0_addRow_78 : decode cX0_addRow 78 = .ok (.ireturn, 1) := by decide +kernel
theorem dX0_addRow_79 : decode cX0_addRow 79 = .ok (.iinc 4 1, 3) := by decide +kernel
theorem dX0_addRow_82 : decode cX0_addRow 82 = .ok (.goto (-46), 3) := by decide +kernel
theorem dX0_addRow_85 : decode cX0_addRow 85 = .ok (.iconst 0, 1) := by decide +kernel
theorem dX0_addRow_86 : decode cX0_addRow 86 = .ok (.istore 4, 2) := by decide +kernel
theorem dX0_addRow_88 : decode cX0_addRow 88 = .ok (.iload 4, 2) := by decide +kernel
theorem dX0_addRow_90 : decode cX0_addRow 90 = .ok (.iconst 4, 1) := by decide +kernel
theorem dX0_addRow_91 : decode cX0_addRow 91 = .ok (.if_icmp .ge 46, 3) := by decide +kernel
theorem dX0_addRow_94 : decode cX0_addRow 94 = .ok (.aload_n 0, 1) := by decide +kernel
theorem dX0_addRow_95 : decode cX0_addRow 95 = .ok (.getfield 7, 3) := by decide +kernel
theorem dX0_addRow_98 : decode cX0_addRow 98 = .ok (.iload_n 1, 1) := by decide +kernel
theorem dX0_addRow_99 : decode cX0_addRow 99 = .ok (.iconst 5, 1) := by decide +kernel
theorem dX0_addRow_100 : decode cX0_addRow 100 = .ok (.imul, 1) := by decide +kernel
theorem dX0_addRow_101 : decode cX0_addRow 101 = .ok (.iload 4, 2) := by decide +kernel
theorem dX0_addRow_103 : decode cX0_addRow 103 = .ok (.iadd, 1) := by decide +kernel
theorem dX0_addRow_104 : decode cX0_addRow 104 = .ok (.aload_n 0, 1) := by decide +kernel
theorem dX0_addRow_105 : decode cX0_addRow 105 = .ok (.getfield 7, 3) := by decide +kernel
theorem dX0_addRow_108 : decode cX0_addRow 108 = .ok (.iload_n 1, 1) := by decide +kernel
theorem dX0_addRow_109 : decode cX0_addRow 109 = .ok (.iconst 5, 1) := by decide +kernel
theorem dX0_addRow_110 : decode cX0_addRow 110 = .ok (.imul, 1) := by decide +kernel
theorem dX0_addRow_111 : decode cX0_addRow 111 = .ok (.iload 4, 2) := by decide +kernel
theorem dX0_addRow_113 : decode cX0_addRow 113 = .ok (.iadd, 1) := by decide +kernel
theorem dX0_addRow_114 : decode cX0_addRow 114 = .ok (.baload, 1) := by decide +kernel
theorem dX0_addRow_115 : decode cX0_addRow 115 = .ok (.iload_n 3, 1) := by decide +kernel
theorem dX0_addRow_116 : decode cX0_addRow 116 = .ok (.aload_n 0, 1) := by decide +kernel
theorem dX0_addRow_117 : decode cX0_addRow 117 = .ok (.getfield 7, 3) := by decide +kernel
theorem dX0_addRow_120 : decode cX0_addRow 120 = .ok (.iload_n 2, 1) := by decide +kernel
theorem dX0_addRow_121 : decode cX0_addRow 121 = .ok (.iconst 5, 1) := by decide +kernel
theorem dX0_addRow_122 : decode cX0_addRow 122 = .ok (.imul, 1) := by decide +kernel
theorem dX0_addRow_123 : decode cX0_addRow 123 = .ok (.iload 4, 2) := by decide +kernel
theorem dX0_addRow_125 : decode cX0_addRow 125 = .ok (.iadd, 1) := by decide +kernel
theorem dX0_addRow_126 : decode cX0_addRow 126 = .ok (.baload, 1) := by decide +kernel
theorem dX0_addRow_127 : decode cX0_addRow 127 = .ok (.imul, 1) := by decide +kernel
theorem dX0_addRow_128 : decode cX0_addRow 128 = .ok (.iadd, 1) := by decide +kernel
theorem dX0_addRow_129 : decode cX0_addRow 129 = .ok (.i2b, 1) := by decide +kernel
theorem dX0_addRow_130 : decode cX0_addRow 130 = .ok (.bastore, 1) := by decide +kernel
theorem dX0_addRow_131 : decode cX0_addRow 131 = .ok (.iinc 4 1, 3) := by decide +kernel
theorem dX0_addRow_134 : decode cX0_addRow 134 = .ok (.goto (-46), 3) := by decide +kernel
theorem dX0_addRow_137 : decode cX0_addRow 137 = .ok (.iconst 1, 1) := by decide +kernel
theorem dX0_addRow_138 : decode cX0_addRow 138 = .ok (.ireturn, 1) := by decide +kernel
abbrev cX0_transpose : ByteArray := prog_1_method_8_code
def yX0_transpose : MethodName := ⟨RX0, "transpose", "()V"⟩
theorem dX0_transpose_0 : decode cX0_transpose 0 = .ok (.iconst 0, 1) := by decide +kernel
theorem dX0_transpose_1 : decode cX0_transpose 1 = .ok (.istore_n 1, 1) := by decide +kernel
theorem dX0_transpose_2 : decode cX0_transpose 2 = .ok (.iload_n 1, 1) := by decide +kernel
theorem dX0_transpose_3 : decode cX0_transpose 3 = .ok (.iconst 4, 1) := by decide +kernel
theorem dX0_transpose_4 : decode cX0_transpose 4 = .ok (.if_icmp .ge 64, 3) := by decide +kernel
theorem dX0_transpose_7 : decode cX0_transpose 7 = .ok (.iconst 0, 1) := by decide +kernel
theorem dX0_transpose_8 : decode cX0_transpose 8 = .ok (.istore_n 2, 1) := by decide +kernel
theorem dX0_transpose_9 : decode cX0_transpose 9 = .ok (.iload_n 2, 1) := by decide +kernel
theorem dX0_transpose_10 : decode cX0_transpose 10 = .ok (.iload_n 1, 1) := by decide +kernel
theorem dX0_transpose_11 : decode cX0_transpose 11 = .ok (.if_icmp .ge 51, 3) := by decide +kernel
theorem dX0_transpose_14 : decode cX0_transpose 14 = .ok (.aload_n 0, 1) := by decide +kernel
theorem dX0_transpose_15 : decode cX0_transpose 15 = .ok (.getfield 7, 3) := by decide +kernel
theorem dX0_transpose_18 : decode cX0_transpose 18 = .ok (.iload_n 1, 1) := by decide +kernel
theorem dX0_transpose_19 : decode cX0_transpose 19 = .ok (.iconst 5, 1) := by decide +kernel
theorem dX0_transpose_20 : decode cX0_transpose 20 = .ok (.imul, 1) := by decide +kernel
theorem dX0_transpose_21 : decode cX0_transpose 21 = .ok (.iload_n 2, 1) := by decide +kernel
theorem dX0_transpose_22 : decode cX0_transpose 22 = .ok (.iadd, 1) := by decide +kernel
theorem dX0_transpose_23 : decode cX0_transpose 23 = .ok (.baload, 1) := by decide +kernel
theorem dX0_transpose_24 : decode cX0_transpose 24 = .ok (.istore_n 3, 1) := by decide +kernel
theorem dX0_transpose_25 : decode cX0_transpose 25 = .ok (.aload_n 0, 1) := by decide +kernel
theorem dX0_transpose_26 : decode cX0_transpose 26 = .ok (.getfield 7, 3) := by decide +kernel
theorem dX0_transpose_29 : decode cX0_transpose 29 = .ok (.iload_n 1, 1) := by decide +kernel
theorem dX0_transpose_30 : decode cX0_transpose 30 = .ok (.iconst 5, 1) := by decide +kernel
theorem dX0_transpose_31 : decode cX0_transpose 31 = .ok (.imul, 1) := by decide +kernel
theorem dX0_transpose_32 : decode cX0_transpose 32 = .ok (.iload_n 2, 1) := by decide +kernel
theorem dX0_transpose_33 : decode cX0_transpose 33 = .ok (.iadd, 1) := by decide +kernel
theorem dX0_transpose_34 : decode cX0_transpose 34 = .ok (.aload_n 0, 1) := by decide +kernel
theorem dX0_transpose_35 : decode cX0_transpose 35 = .ok (.getfield 7, 3) := by decide +kernel
theorem dX0_transpose_38 : decode cX0_transpose 38 = .ok (.iload_n 2, 1) := by decide +kernel
theorem dX0_transpose_39 : decode cX0_transpose 39 = .ok (.iconst 5, 1) := by decide +kernel
theorem dX0_transpose_40 : decode cX0_transpose 40 = .ok (.imul, 1) := by decide +kernel
theorem dX0_transpose_41 : decode cX0_transpose 41 = .ok (.iload_n 1, 1) := by decide +kernel
theorem dX0_transpose_42 : decode cX0_transpose 42 = .ok (.iadd, 1) := by decide +kernel
theorem dX0_transpose_43 : decode cX0_transpose 43 = .ok (.baload, 1) := by decide +kernel
theorem dX0_transpose_44 : decode cX0_transpose 44 = .ok (.bastore, 1) := by decide +kernel
theorem dX0_transpose_45 : decode cX0_transpose 45 = .ok (.aload_n 0, 1) := by decide +kernel
theorem dX0_transpose_46 : decode cX0_transpose 46 = .ok (.getfield 7, 3) := by decide +kernel
theorem dX0_transpose_49 : decode cX0_transpose 49 = .ok (.iload_n 2, 1) := by decide +kernel
theorem dX0_transpose_50 : decode cX0_transpose 50 = .ok (.iconst 5, 1) := by decide +kernel
theorem dX0_transpose_51 : decode cX0_transpose 51 = .ok (.imul, 1) := by decide +kernel
theorem dX0_transpose_52 : decode cX0_transpose 52 = .ok (.iload_n 1, 1) := by decide +kernel
theorem dX0_transpose_53 : decode cX0_transpose 53 = .ok (.iadd, 1) := by decide +kernel
theorem dX0_transpose_54 : decode cX0_transpose 54 = .ok (.iload_n 3, 1) := by decide +kernel
theorem dX0_transpose_55 : decode cX0_transpose 55 = .ok (.bastore, 1) := by decide +kernel
theorem dX0_transpose_56 : decode cX0_transpose 56 = .ok (.iinc 2 1, 3) := by decide +kernel
theorem dX0_transpose_59 : decode cX0_transpose 59 = .ok (.goto (-50), 3) := by decide +kernel
theorem dX0_transpose_62 : decode cX0_transpose 62 = .ok (.iinc 1 1, 3) := by decide +kernel
theorem dX0_transpose_65 : decode cX0_transpose 65 = .ok (.goto (-63), 3) := by decide +kernel
theorem dX0_transpose_68 : decode cX0_transpose 68 = .ok (.return_, 1) := by decide +kernel
abbrev cX0_determinant : ByteArray := prog_1_method_19_code
def yX0_determinant : MethodName := ⟨RX0, "determinant", "()I"⟩
theorem dX0_determinant_0 : decode cX0_determinant 0 = .ok (.aload_n 0, 1) := by decide +kernel
theorem dX0_determinant_1 : decode cX0_determinant 1 = .ok (.sipush 32749, 3) := by decide +kernel
theorem dX0_determinant_4 : decode cX0_determinant 4 = .ok (.invokevirtual 63, 3) := by decide +kernel
theorem dX0_determinant_7 : decode cX0_determinant 7 = .ok (.aload_n 0, 1) := by decide +kernel
theorem dX0_determinant_8 : decode cX0_determinant 8 = .ok (.iconst 4, 1) := by decide +kernel
theorem dX0_determinant_9 : decode cX0_determinant 9 = .ok (.invokevirtual 67, 3) := by decide +kernel
theorem dX0_determinant_12 : decode cX0_determinant 12 = .ok (.istore_n 1, 1) := by decide +kernel
theorem dX0_determinant_13 : decode cX0_determinant 13 = .ok (.aload_n 0, 1) := by decide +kernel
theorem dX0_determinant_14 : decode cX0_determinant 14 = .ok (.sipush 32719, 3) := by decide +kernel
theorem dX0_determinant_17 : decode cX0_determinant 17 = .ok (.invokevirtual 63, 3) := by decide +kernel
theorem dX0_determinant_20 : decode cX0_determinant 20 = .ok (.aload_n 0, 1) := by decide +kernel
theorem dX0_determinant_21 : decode cX0_determinant 21 = .ok (.iconst 4, 1) := by decide +kernel
theorem dX0_determinant_22 : decode cX0_determinant 22 = .ok (.invokevirtual 67, 3) := by decide +kernel
theorem dX0_determinant_25 : decode cX0_determinant 25 = .ok (.istore_n 2, 1) := by decide +kernel
theorem dX0_determinant_26 : decode cX0_determinant 26 = .ok (.aload_n 0, 1) := by decide +kernel
theorem dX0_determinant_27 : decode cX0_determinant 27 = .ok (.iload_n 1, 1) := by decide +kernel
theorem dX0_determinant_28 : decode cX0_determinant 28 = .ok (.iload_n 2, 1) := by decide +kernel
theorem dX0_determinant_29 : decode cX0_determinant 29 = .ok (.invokevirtual 70, 3) := by decide +kernel
theorem dX0_determinant_32 : decode cX0_determinant 32 = .ok (.ireturn, 1) := by decide +kernel
abbrev cX0_load : ByteArray := prog_1_method_12_code
def yX0_load : MethodName := ⟨RX0, "load", "(I)V"⟩
theorem dX0_load_0 : decode cX0_load 0 = .ok (.aload_n 0, 1) := by decide +kernel
theorem dX0_load_1 : decode cX0_load 1 = .ok (.iload_n 1, 1) := by decide +kernel
theorem dX0_load_2 : decode cX0_load 2 = .ok (.putfield 34, 3) := by decide +kernel
theorem dX0_load_5 : decode cX0_load 5 = .ok (.iconst 0, 1) := by decide +kernel
theorem dX0_load_6 : decode cX0_load 6 = .ok (.istore_n 2, 1) := by decide +kernel
theorem dX0_load_7 : decode cX0_load 7 = .ok (.iload_n 2, 1) := by decide +kernel
theorem dX0_load_8 : decode cX0_load 8 = .ok (.bipush 20, 2) := by decide +kernel
theorem dX0_load_10 : decode cX0_load 10 = .ok (.if_icmp .ge 25, 3) := by decide +kernel
theorem dX0_load_13 : decode cX0_load 13 = .ok (.aload_n 0, 1) := by decide +kernel
theorem dX0_load_14 : decode cX0_load 14 = .ok (.getfield 13, 3) := by decide +kernel
theorem dX0_load_17 : decode cX0_load 17 = .ok (.iload_n 2, 1) := by decide +kernel
theorem dX0_load_18 : decode cX0_load 18 = .ok (.aload_n 0, 1) := by decide +kernel
theorem dX0_load_19 : decode cX0_load 19 = .ok (.aload_n 0, 1) := by decide +kernel
theorem dX0_load_20 : decode cX0_load 20 = .ok (.getfield 7, 3) := by decide +kernel
theorem dX0_load_23 : decode cX0_load 23 = .ok (.iload_n 2, 1) := by decide +kernel
theorem dX0_load_24 : decode cX0_load 24 = .ok (.baload, 1) := by decide +kernel
theorem dX0_load_25 : decode cX0_load 25 = .ok (.invokevirtual 38, 3) := by decide +kernel
theorem dX0_load_28 : decode cX0_load 28 = .ok (.iastore, 1) := by decide +kernel
theorem dX0_load_29 : decode cX0_load 29 = .ok (.iinc 2 1, 3) := by decide +kernel
theorem dX0_load_32 : decode cX0_load 32 = .ok (.goto (-25), 3) := by decide +kernel
theorem dX0_load_35 : decode cX0_load 35 = .ok (.return_, 1) := by decide +kernel
abbrev cX0_reduce : ByteArray := prog_1_method_9_code
def yX0_reduce : MethodName := ⟨RX0, "reduce", "(I)I"⟩
theorem dX0_reduce_0 : decode cX0_reduce 0 = .ok (.aload_n 0, 1) := by decide +kernel
theorem dX0_reduce_1 : decode cX0_reduce 1 = .ok (.getfield 34, 3) := by decide +kernel
theorem dX0_reduce_4 : decode cX0_reduce 4 = .ok (.ifCond .le 12, 3) := by decide +kernel
theorem dX0_reduce_7 : decode cX0_reduce 7 = .ok (.iload_n 1, 1) := by decide +kernel
theorem dX0_reduce_8 : decode cX0_reduce 8 = .ok (.aload_n 0, 1) := by decide +kernel
theorem dX0_reduce_9 : decode cX0_reduce 9 = .ok (.getfield 34, 3) := by decide +kernel
theorem dX0_reduce_12 : decode cX0_reduce 12 = .ok (.irem, 1) := by decide +kernel
theorem dX0_reduce_13 : decode cX0_reduce 13 = .ok (.goto 4, 3) := by decide +kernel
theorem dX0_reduce_16 : decode cX0_reduce 16 = .ok (.iconst 0, 1) := by decide +kernel
theorem dX0_reduce_17 : decode cX0_reduce 17 = .ok (.istore_n 2, 1) := by decide +kernel
theorem dX0_reduce_18 : decode cX0_reduce 18 = .ok (.iload_n 2, 1) := by decide +kernel
theorem dX0_reduce_19 : decode cX0_reduce 19 = .ok (.ifCond .ge 12, 3) := by decide +kernel
theorem dX0_reduce_22 : decode cX0_reduce 22 = .ok (.iload_n 2, 1) := by decide +kernel
theorem dX0_reduce_23 : decode cX0_reduce 23 = .ok (.aload_n 0, 1) := by decide +kernel
theorem dX0_reduce_24 : decode cX0_reduce 24 = .ok (.getfield 34, 3) := by decide +kernel
theorem dX0_reduce_27 : decode cX0_reduce 27 = .ok (.iadd, 1) := by decide +kernel
theorem dX0_reduce_28 : decode cX0_reduce 28 = .ok (.goto 4, 3) := by decide +kernel
theorem dX0_reduce_31 : decode cX0_reduce 31 = .ok (.iload_n 2, 1) := by decide +kernel
theorem dX0_reduce_32 : decode cX0_reduce 32 = .ok (.ireturn, 1) := by decide +kernel
abbrev cX0_determinantOf : ByteArray := prog_1_method_16_code
def yX0_determinantOf : MethodName := ⟨RX0, "determinantOf", "(I)I"⟩
theorem dX0_determinantOf_0 : decode cX0_determinantOf 0 = .ok (.iconst 1, 1) := by decide +kernel
theorem dX0_determinantOf_1 : decode cX0_determinantOf 1 = .ok (.istore_n 2, 1) := by decide +kernel
theorem dX0_determinantOf_2 : decode cX0_determinantOf 2 = .ok (.iconst 0, 1) := by decide +kernel
theorem dX0_determinantOf_3 : decode cX0_determinantOf 3 = .ok (.istore_n 3, 1) := by decide +kernel
theorem dX0_determinantOf_4 : decode cX0_determinantOf 4 = .ok (.iload_n 3, 1) := by decide +kernel
theorem dX0_determinantOf_5 : decode cX0_determinantOf 5 = .ok (.iload_n 1, 1) := by decide +kernel
theorem dX0_determinantOf_6 : decode cX0_determinantOf 6 = .ok (.if_icmp .ge 68, 3) := by decide +kernel
theorem dX0_determinantOf_9 : decode cX0_determinantOf 9 = .ok (.aload_n 0, 1) := by decide +kernel
theorem dX0_determinantOf_10 : decode cX0_determinantOf 10 = .ok (.iload_n 3, 1) := by decide +kernel
theorem dX0_determinantOf_11 : decode cX0_determinantOf 11 = .ok (.iload_n 1, 1) := by decide +kernel
theorem dX0_determinantOf_12 : decode cX0_determinantOf 12 = .ok (.iload_n 3, 1) := by decide +kernel
theorem dX0_determinantOf_13 : decode cX0_determinantOf 13 = .ok (.invokevirtual 49, 3) := by decide +kernel
theorem dX0_determinantOf_16 : decode cX0_determinantOf 16 = .ok (.istore 4, 2) := by decide +kernel
theorem dX0_determinantOf_18 : decode cX0_determinantOf 18 = .ok (.iload 4, 2) := by decide +kernel
theorem dX0_determinantOf_20 : decode cX0_determinantOf 20 = .ok (.ifCond .ge 5, 3) := by decide +kernel
theorem dX0_determinantOf_23 : decode cX0_determinantOf 23 = .ok (.iconst 0, 1) := by decide +kernel
theorem dX0_determinantOf_24 : decode cX0_determinantOf 24 = .ok (.ireturn, 1) := by decide +kernel
theorem dX0_determinantOf_25 : decode cX0_determinantOf 25 = .ok (.iload 4, 2) := by decide +kernel
theorem dX0_determinantOf_27 : decode cX0_determinantOf 27 = .ok (.iload_n 3, 1) := by decide +kernel
theorem dX0_determinantOf_28 : decode cX0_determinantOf 28 = .ok (.if_icmp .eq 17, 3) := by decide +kernel
theorem dX0_determinantOf_31 : decode cX0_determinantOf 31 = .ok (.aload_n 0, 1) := by decide +kernel
theorem dX0_determinantOf_32 : decode cX0_determinantOf 32 = .ok (.iload 4, 2) := by decide +kernel
theorem dX0_determinantOf_34 : decode cX0_determinantOf 34 = .ok (.iload_n 3, 1) := by decide +kernel
theorem dX0_determinantOf_35 : decode cX0_determinantOf 35 = .ok (.invokevirtual 53, 3) := by decide +kernel
theorem dX0_determinantOf_38 : decode cX0_determinantOf 38 = .ok (.aload_n 0, 1) := by decide +kernel
theorem dX0_determinantOf_39 : decode cX0_determinantOf 39 = .ok (.iload_n 2, 1) := by decide +kernel
theorem dX0_determinantOf_40 : decode cX0_determinantOf 40 = .ok (.ineg, 1) := by decide +kernel
theorem dX0_determinantOf_41 : decode cX0_determinantOf 41 = .ok (.invokevirtual 38, 3) := by decide +kernel
theorem dX0_determinantOf_44 : decode cX0_determinantOf 44 = .ok (.istore_n 2, 1) := by decide +kernel
theorem dX0_determinantOf_45 : decode cX0_determinantOf 45 = .ok (.aload_n 0, 1) := by decide +kernel
theorem dX0_determinantOf_46 : decode cX0_determinantOf 46 = .ok (.iload_n 2, 1) := by decide +kernel
theorem dX0_determinantOf_47 : decode cX0_determinantOf 47 = .ok (.aload_n 0, 1) := by decide +kernel
theorem dX0_determinantOf_48 : decode cX0_determinantOf 48 = .ok (.getfield 13, 3) := by decide +kernel
theorem dX0_determinantOf_51 : decode cX0_determinantOf 51 = .ok (.iload_n 3, 1) := by decide +kernel
theorem dX0_determinantOf_52 : decode cX0_determinantOf 52 = .ok (.iconst 5, 1) := by decide +kernel
theorem dX0_determinantOf_53 : decode cX0_determinantOf 53 = .ok (.imul, 1) := by decide +kernel
theorem dX0_determinantOf_54 : decode cX0_determinantOf 54 = .ok (.iload_n 3, 1) := by decide +kernel
theorem dX0_determinantOf_55 : decode cX0_determinantOf 55 = .ok (.iadd, 1) := by decide +kernel
theorem dX0_determinantOf_56 : decode cX0_determinantOf 56 = .ok (.iaload, 1) := by decide +kernel
theorem dX0_determinantOf_57 : decode cX0_determinantOf 57 = .ok (.invokevirtual 42, 3) := by decide +kernel
theorem dX0_determinantOf_60 : decode cX0_determinantOf 60 = .ok (.istore_n 2, 1) := by decide +kernel
theorem dX0_determinantOf_61 : decode cX0_determinantOf 61 = .ok (.aload_n 0, 1) := by decide +kernel
theorem dX0_determinantOf_62 : decode cX0_determinantOf 62 = .ok (.iload_n 3, 1) := by decide +kernel
theorem dX0_determinantOf_63 : decode cX0_determinantOf 63 = .ok (.iload_n 1, 1) := by decide +kernel
theorem dX0_determinantOf_64 : decode cX0_determinantOf 64 = .ok (.iload_n 3, 1) := by decide +kernel
theorem dX0_determinantOf_65 : decode cX0_determinantOf 65 = .ok (.invokevirtual 57, 3) := by decide +kernel
theorem dX0_determinantOf_68 : decode cX0_determinantOf 68 = .ok (.iinc 3 1, 3) := by decide +kernel
theorem dX0_determinantOf_71 : decode cX0_determinantOf 71 = .ok (.goto (-67), 3) := by decide +kernel
theorem dX0_determinantOf_74 : decode cX0_determinantOf 74 = .ok (.iload_n 2, 1) := by decide +kernel
theorem dX0_determinantOf_75 : decode cX0_determinantOf 75 = .ok (.ireturn, 1) := by decide +kernel
abbrev cX0_pivotFrom : ByteArray := prog_1_method_13_code
def yX0_pivotFrom : MethodName := ⟨RX0, "pivotFrom", "(III)I"⟩
theorem dX0_pivotFrom_0 : decode cX0_pivotFrom 0 = .ok (.iload_n 1, 1) := by decide +kernel
theorem dX0_pivotFrom_1 : decode cX0_pivotFrom 1 = .ok (.istore 4, 2) := by decide +kernel
theorem dX0_pivotFrom_3 : decode cX0_pivotFrom 3 = .ok (.iload 4, 2) := by decide +kernel
theorem dX0_pivotFrom_5 : decode cX0_pivotFrom 5 = .ok (.iload_n 2, 1) := by decide +kernel
theorem dX0_pivotFrom_6 : decode cX0_pivotFrom 6 = .ok (.if_icmp .ge 26, 3) := by decide +kernel
theorem dX0_pivotFrom_9 : decode cX0_pivotFrom 9 = .ok (.aload_n 0, 1) := by decide +kernel
theorem dX0_pivotFrom_10 : decode cX0_pivotFrom 10 = .ok (.getfield 13, 3) := by decide +kernel
theorem dX0_pivotFrom_13 : decode cX0_pivotFrom 13 = .ok (.iload 4, 2) := by decide +kernel
theorem dX0_pivotFrom_15 : decode cX0_pivotFrom 15 = .ok (.iconst 5, 1) := by decide +kernel
theorem dX0_pivotFrom_16 : decode cX0_pivotFrom 16 = .ok (.imul, 1) := by decide +kernel
theorem dX0_pivotFrom_17 : decode cX0_pivotFrom 17 = .ok (.iload_n 3, 1) := by decide +kernel
theorem dX0_pivotFrom_18 : decode cX0_pivotFrom 18 = .ok (.iadd, 1) := by decide +kernel
theorem dX0_pivotFrom_19 : decode cX0_pivotFrom 19 = .ok (.iaload, 1) := by decide +kernel
theorem dX0_pivotFrom_20 : decode cX0_pivotFrom 20 = .ok (.ifCond .eq 6, 3) := by decide +kernel
theorem dX0_pivotFrom_23 : decode cX0_pivotFrom 23 = .ok (.iload 4, 2) := by decide +kernel
theorem dX0_pivotFrom_25 : decode cX0_pivotFrom 25 = .ok (.ireturn, 1) := by decide +kernel
theorem dX0_pivotFrom_26 : decode cX0_pivotFrom 26 = .ok (.iinc 4 1, 3) := by decide +kernel
end
section
set_option maxRecDepth 100000
theorem dX0_pivotFrom_29 : decode cX0_pivotFrom 29 = .ok (.goto (-26), 3) := by decide +kernel
theorem dX0_pivotFrom_32 : decode cX0_pivotFrom 32 = .ok (.iconst (-1), 1) := by decide +kernel
theorem dX0_pivotFrom_33 : decode cX0_pivotFrom 33 = .ok (.ireturn, 1) := by decide +kernel
abbrev cX0_exchange : ByteArray := prog_1_method_14_code
def yX0_exchange : MethodName := ⟨RX0, "exchange", "(II)V"⟩
theorem dX0_exchange_0 : decode cX0_exchange 0 = .ok (.iconst 0, 1) := by decide +kernel
theorem dX0_exchange_1 : decode cX0_exchange 1 = .ok (.istore_n 3, 1) := by decide +kernel
theorem dX0_exchange_2 : decode cX0_exchange 2 = .ok (.iload_n 3, 1) := by decide +kernel
theorem dX0_exchange_3 : decode cX0_exchange 3 = .ok (.iconst 5, 1) := by decide +kernel
theorem dX0_exchange_4 : decode cX0_exchange 4 = .ok (.if_icmp .ge 53, 3) := by decide +kernel
theorem dX0_exchange_7 : decode cX0_exchange 7 = .ok (.aload_n 0, 1) := by decide +kernel
theorem dX0_exchange_8 : decode cX0_exchange 8 = .ok (.getfield 13, 3) := by decide +kernel
theorem dX0_exchange_11 : decode cX0_exchange 11 = .ok (.iload_n 1, 1) := by decide +kernel
theorem dX0_exchange_12 : decode cX0_exchange 12 = .ok (.iconst 5, 1) := by decide +kernel
theorem dX0_exchange_13 : decode cX0_exchange 13 = .ok (.imul, 1) := by decide +kernel
theorem dX0_exchange_14 : decode cX0_exchange 14 = .ok (.iload_n 3, 1) := by decide +kernel
theorem dX0_exchange_15 : decode cX0_exchange 15 = .ok (.iadd, 1) := by decide +kernel
theorem dX0_exchange_16 : decode cX0_exchange 16 = .ok (.iaload, 1) := by decide +kernel
theorem dX0_exchange_17 : decode cX0_exchange 17 = .ok (.istore 4, 2) := by decide +kernel
theorem dX0_exchange_19 : decode cX0_exchange 19 = .ok (.aload_n 0, 1) := by decide +kernel
theorem dX0_exchange_20 : decode cX0_exchange 20 = .ok (.getfield 13, 3) := by decide +kernel
theorem dX0_exchange_23 : decode cX0_exchange 23 = .ok (.iload_n 1, 1) := by decide +kernel
theorem dX0_exchange_24 : decode cX0_exchange 24 = .ok (.iconst 5, 1) := by decide +kernel
theorem dX0_exchange_25 : decode cX0_exchange 25 = .ok (.imul, 1) := by decide +kernel
theorem dX0_exchange_26 : decode cX0_exchange 26 = .ok (.iload_n 3, 1) := by decide +kernel
theorem dX0_exchange_27 : decode cX0_exchange 27 = .ok (.iadd, 1) := by decide +kernel
theorem dX0_exchange_28 : decode cX0_exchange 28 = .ok (.aload_n 0, 1) := by decide +kernel
theorem dX0_exchange_29 : decode cX0_exchange 29 = .ok (.getfield 13, 3) := by decide +kernel
theorem dX0_exchange_32 : decode cX0_exchange 32 = .ok (.iload_n 2, 1) := by decide +kernel
theorem dX0_exchange_33 : decode cX0_exchange 33 = .ok (.iconst 5, 1) := by decide +kernel
theorem dX0_exchange_34 : decode cX0_exchange 34 = .ok (.imul, 1) := by decide +kernel
theorem dX0_exchange_35 : decode cX0_exchange 35 = .ok (.iload_n 3, 1) := by decide +kernel
theorem dX0_exchange_36 : decode cX0_exchange 36 = .ok (.iadd, 1) := by decide +kernel
theorem dX0_exchange_37 : decode cX0_exchange 37 = .ok (.iaload, 1) := by decide +kernel
theorem dX0_exchange_38 : decode cX0_exchange 38 = .ok (.iastore, 1) := by decide +kernel
theorem dX0_exchange_39 : decode cX0_exchange 39 = .ok (.aload_n 0, 1) := by decide +kernel
theorem dX0_exchange_40 : decode cX0_exchange 40 = .ok (.getfield 13, 3) := by decide +kernel
theorem dX0_exchange_43 : decode cX0_exchange 43 = .ok (.iload_n 2, 1) := by decide +kernel
theorem dX0_exchange_44 : decode cX0_exchange 44 = .ok (.iconst 5, 1) := by decide +kernel
theorem dX0_exchange_45 : decode cX0_exchange 45 = .ok (.imul, 1) := by decide +kernel
theorem dX0_exchange_46 : decode cX0_exchange 46 = .ok (.iload_n 3, 1) := by decide +kernel
theorem dX0_exchange_47 : decode cX0_exchange 47 = .ok (.iadd, 1) := by decide +kernel
theorem dX0_exchange_48 : decode cX0_exchange 48 = .ok (.iload 4, 2) := by decide +kernel
theorem dX0_exchange_50 : decode cX0_exchange 50 = .ok (.iastore, 1) := by decide +kernel
theorem dX0_exchange_51 : decode cX0_exchange 51 = .ok (.iinc 3 1, 3) := by decide +kernel
theorem dX0_exchange_54 : decode cX0_exchange 54 = .ok (.goto (-52), 3) := by decide +kernel
theorem dX0_exchange_57 : decode cX0_exchange 57 = .ok (.return_, 1) := by decide +kernel
abbrev cX0_times : ByteArray := prog_1_method_10_code
def yX0_times : MethodName := ⟨RX0, "times", "(II)I"⟩
theorem dX0_times_0 : decode cX0_times 0 = .ok (.aload_n 0, 1) := by decide +kernel
theorem dX0_times_1 : decode cX0_times 1 = .ok (.iload_n 1, 1) := by decide +kernel
theorem dX0_times_2 : decode cX0_times 2 = .ok (.iload_n 2, 1) := by decide +kernel
theorem dX0_times_3 : decode cX0_times 3 = .ok (.imul, 1) := by decide +kernel
theorem dX0_times_4 : decode cX0_times 4 = .ok (.invokevirtual 38, 3) := by decide +kernel
theorem dX0_times_7 : decode cX0_times 7 = .ok (.ireturn, 1) := by decide +kernel
abbrev cX0_clearBelow : ByteArray := prog_1_method_15_code
def yX0_clearBelow : MethodName := ⟨RX0, "clearBelow", "(III)V"⟩
theorem dX0_clearBelow_0 : decode cX0_clearBelow 0 = .ok (.aload_n 0, 1) := by decide +kernel
theorem dX0_clearBelow_1 : decode cX0_clearBelow 1 = .ok (.aload_n 0, 1) := by decide +kernel
theorem dX0_clearBelow_2 : decode cX0_clearBelow 2 = .ok (.getfield 13, 3) := by decide +kernel
theorem dX0_clearBelow_5 : decode cX0_clearBelow 5 = .ok (.iload_n 1, 1) := by decide +kernel
theorem dX0_clearBelow_6 : decode cX0_clearBelow 6 = .ok (.iconst 5, 1) := by decide +kernel
theorem dX0_clearBelow_7 : decode cX0_clearBelow 7 = .ok (.imul, 1) := by decide +kernel
theorem dX0_clearBelow_8 : decode cX0_clearBelow 8 = .ok (.iload_n 3, 1) := by decide +kernel
theorem dX0_clearBelow_9 : decode cX0_clearBelow 9 = .ok (.iadd, 1) := by decide +kernel
theorem dX0_clearBelow_10 : decode cX0_clearBelow 10 = .ok (.iaload, 1) := by decide +kernel
theorem dX0_clearBelow_11 : decode cX0_clearBelow 11 = .ok (.invokevirtual 46, 3) := by decide +kernel
theorem dX0_clearBelow_14 : decode cX0_clearBelow 14 = .ok (.istore 4, 2) := by decide +kernel
theorem dX0_clearBelow_16 : decode cX0_clearBelow 16 = .ok (.iload_n 1, 1) := by decide +kernel
theorem dX0_clearBelow_17 : decode cX0_clearBelow 17 = .ok (.iconst 1, 1) := by decide +kernel
theorem dX0_clearBelow_18 : decode cX0_clearBelow 18 = .ok (.iadd, 1) := by decide +kernel
theorem dX0_clearBelow_19 : decode cX0_clearBelow 19 = .ok (.istore 5, 2) := by decide +kernel
theorem dX0_clearBelow_21 : decode cX0_clearBelow 21 = .ok (.iload 5, 2) := by decide +kernel
theorem dX0_clearBelow_23 : decode cX0_clearBelow 23 = .ok (.iload_n 2, 1) := by decide +kernel
theorem dX0_clearBelow_24 : decode cX0_clearBelow 24 = .ok (.if_icmp .ge 93, 3) := by decide +kernel
theorem dX0_clearBelow_27 : decode cX0_clearBelow 27 = .ok (.aload_n 0, 1) := by decide +kernel
theorem dX0_clearBelow_28 : decode cX0_clearBelow 28 = .ok (.aload_n 0, 1) := by decide +kernel
theorem dX0_clearBelow_29 : decode cX0_clearBelow 29 = .ok (.getfield 13, 3) := by decide +kernel
theorem dX0_clearBelow_32 : decode cX0_clearBelow 32 = .ok (.iload 5, 2) := by decide +kernel
theorem dX0_clearBelow_34 : decode cX0_clearBelow 34 = .ok (.iconst 5, 1) := by decide +kernel
theorem dX0_clearBelow_35 : decode cX0_clearBelow 35 = .ok (.imul, 1) := by decide +kernel
theorem dX0_clearBelow_36 : decode cX0_clearBelow 36 = .ok (.iload_n 3, 1) := by decide +kernel
theorem dX0_clearBelow_37 : decode cX0_clearBelow 37 = .ok (.iadd, 1) := by decide +kernel
theorem dX0_clearBelow_38 : decode cX0_clearBelow 38 = .ok (.iaload, 1) := by decide +kernel
theorem dX0_clearBelow_39 : decode cX0_clearBelow 39 = .ok (.iload 4, 2) := by decide +kernel
theorem dX0_clearBelow_41 : decode cX0_clearBelow 41 = .ok (.invokevirtual 42, 3) := by decide +kernel
theorem dX0_clearBelow_44 : decode cX0_clearBelow 44 = .ok (.istore 6, 2) := by decide +kernel
theorem dX0_clearBelow_46 : decode cX0_clearBelow 46 = .ok (.iload_n 3, 1) := by decide +kernel
theorem dX0_clearBelow_47 : decode cX0_clearBelow 47 = .ok (.istore 7, 2) := by decide +kernel
theorem dX0_clearBelow_49 : decode cX0_clearBelow 49 = .ok (.iload 7, 2) := by decide +kernel
theorem dX0_clearBelow_51 : decode cX0_clearBelow 51 = .ok (.iconst 5, 1) := by decide +kernel
theorem dX0_clearBelow_52 : decode cX0_clearBelow 52 = .ok (.if_icmp .ge 59, 3) := by decide +kernel
theorem dX0_clearBelow_55 : decode cX0_clearBelow 55 = .ok (.aload_n 0, 1) := by decide +kernel
theorem dX0_clearBelow_56 : decode cX0_clearBelow 56 = .ok (.iload 6, 2) := by decide +kernel
theorem dX0_clearBelow_58 : decode cX0_clearBelow 58 = .ok (.aload_n 0, 1) := by decide +kernel
theorem dX0_clearBelow_59 : decode cX0_clearBelow 59 = .ok (.getfield 13, 3) := by decide +kernel
theorem dX0_clearBelow_62 : decode cX0_clearBelow 62 = .ok (.iload_n 1, 1) := by decide +kernel
theorem dX0_clearBelow_63 : decode cX0_clearBelow 63 = .ok (.iconst 5, 1) := by decide +kernel
theorem dX0_clearBelow_64 : decode cX0_clearBelow 64 = .ok (.imul, 1) := by decide +kernel
theorem dX0_clearBelow_65 : decode cX0_clearBelow 65 = .ok (.iload 7, 2) := by decide +kernel
theorem dX0_clearBelow_67 : decode cX0_clearBelow 67 = .ok (.iadd, 1) := by decide +kernel
theorem dX0_clearBelow_68 : decode cX0_clearBelow 68 = .ok (.iaload, 1) := by decide +kernel
theorem dX0_clearBelow_69 : decode cX0_clearBelow 69 = .ok (.invokevirtual 42, 3) := by decide +kernel
theorem dX0_clearBelow_72 : decode cX0_clearBelow 72 = .ok (.istore 8, 2) := by decide +kernel
theorem dX0_clearBelow_74 : decode cX0_clearBelow 74 = .ok (.aload_n 0, 1) := by decide +kernel
theorem dX0_clearBelow_75 : decode cX0_clearBelow 75 = .ok (.getfield 13, 3) := by decide +kernel
theorem dX0_clearBelow_78 : decode cX0_clearBelow 78 = .ok (.iload 5, 2) := by decide +kernel
theorem dX0_clearBelow_80 : decode cX0_clearBelow 80 = .ok (.iconst 5, 1) := by decide +kernel
theorem dX0_clearBelow_81 : decode cX0_clearBelow 81 = .ok (.imul, 1) := by decide +kernel
theorem dX0_clearBelow_82 : decode cX0_clearBelow 82 = .ok (.iload 7, 2) := by decide +kernel
theorem dX0_clearBelow_84 : decode cX0_clearBelow 84 = .ok (.iadd, 1) := by decide +kernel
theorem dX0_clearBelow_85 : decode cX0_clearBelow 85 = .ok (.aload_n 0, 1) := by decide +kernel
theorem dX0_clearBelow_86 : decode cX0_clearBelow 86 = .ok (.aload_n 0, 1) := by decide +kernel
theorem dX0_clearBelow_87 : decode cX0_clearBelow 87 = .ok (.getfield 13, 3) := by decide +kernel
theorem dX0_clearBelow_90 : decode cX0_clearBelow 90 = .ok (.iload 5, 2) := by decide +kernel
theorem dX0_clearBelow_92 : decode cX0_clearBelow 92 = .ok (.iconst 5, 1) := by decide +kernel
theorem dX0_clearBelow_93 : decode cX0_clearBelow 93 = .ok (.imul, 1) := by decide +kernel
theorem dX0_clearBelow_94 : decode cX0_clearBelow 94 = .ok (.iload 7, 2) := by decide +kernel
theorem dX0_clearBelow_96 : decode cX0_clearBelow 96 = .ok (.iadd, 1) := by decide +kernel
theorem dX0_clearBelow_97 : decode cX0_clearBelow 97 = .ok (.iaload, 1) := by decide +kernel
theorem dX0_clearBelow_98 : decode cX0_clearBelow 98 = .ok (.iload 8, 2) := by decide +kernel
theorem dX0_clearBelow_100 : decode cX0_clearBelow 100 = .ok (.isub, 1) := by decide +kernel
theorem dX0_clearBelow_101 : decode cX0_clearBelow 101 = .ok (.invokevirtual 38, 3) := by decide +kernel
theorem dX0_clearBelow_104 : decode cX0_clearBelow 104 = .ok (.iastore, 1) := by decide +kernel
theorem dX0_clearBelow_105 : decode cX0_clearBelow 105 = .ok (.iinc 7 1, 3) := by decide +kernel
theorem dX0_clearBelow_108 : decode cX0_clearBelow 108 = .ok (.goto (-59), 3) := by decide +kernel
theorem dX0_clearBelow_111 : decode cX0_clearBelow 111 = .ok (.iinc 5 1, 3) := by decide +kernel
theorem dX0_clearBelow_114 : decode cX0_clearBelow 114 = .ok (.goto (-93), 3) := by decide +kernel
theorem dX0_clearBelow_117 : decode cX0_clearBelow 117 = .ok (.return_, 1) := by decide +kernel
abbrev cX0_inverse : ByteArray := prog_1_method_11_code
def yX0_inverse : MethodName := ⟨RX0, "inverse", "(I)I"⟩
theorem dX0_inverse_0 : decode cX0_inverse 0 = .ok (.iconst 1, 1) := by decide +kernel
theorem dX0_inverse_1 : decode cX0_inverse 1 = .ok (.istore_n 2, 1) := by decide +kernel
theorem dX0_inverse_2 : decode cX0_inverse 2 = .ok (.iload_n 1, 1) := by decide +kernel
theorem dX0_inverse_3 : decode cX0_inverse 3 = .ok (.istore_n 3, 1) := by decide +kernel
theorem dX0_inverse_4 : decode cX0_inverse 4 = .ok (.iconst 0, 1) := by decide +kernel
theorem dX0_inverse_5 : decode cX0_inverse 5 = .ok (.istore 4, 2) := by decide +kernel
theorem dX0_inverse_7 : decode cX0_inverse 7 = .ok (.iload 4, 2) := by decide +kernel
theorem dX0_inverse_9 : decode cX0_inverse 9 = .ok (.bipush 15, 2) := by decide +kernel
theorem dX0_inverse_11 : decode cX0_inverse 11 = .ok (.if_icmp .ge 37, 3) := by decide +kernel
theorem dX0_inverse_14 : decode cX0_inverse 14 = .ok (.aload_n 0, 1) := by decide +kernel
theorem dX0_inverse_15 : decode cX0_inverse 15 = .ok (.getfield 34, 3) := by decide +kernel
theorem dX0_inverse_18 : decode cX0_inverse 18 = .ok (.iconst 2, 1) := by decide +kernel
theorem dX0_inverse_19 : decode cX0_inverse 19 = .ok (.isub, 1) := by decide +kernel
theorem dX0_inverse_20 : decode cX0_inverse 20 = .ok (.iload 4, 2) := by decide +kernel
theorem dX0_inverse_22 : decode cX0_inverse 22 = .ok (.ishr, 1) := by decide +kernel
theorem dX0_inverse_23 : decode cX0_inverse 23 = .ok (.iconst 1, 1) := by decide +kernel
theorem dX0_inverse_24 : decode cX0_inverse 24 = .ok (.iand, 1) := by decide +kernel
theorem dX0_inverse_25 : decode cX0_inverse 25 = .ok (.ifCond .eq 10, 3) := by decide +kernel
theorem dX0_inverse_28 : decode cX0_inverse 28 = .ok (.aload_n 0, 1) := by decide +kernel
theorem dX0_inverse_29 : decode cX0_inverse 29 = .ok (.iload_n 2, 1) := by decide +kernel
theorem dX0_inverse_30 : decode cX0_inverse 30 = .ok (.iload_n 3, 1) := by decide +kernel
theorem dX0_inverse_31 : decode cX0_inverse 31 = .ok (.invokevirtual 42, 3) := by decide +kernel
theorem dX0_inverse_34 : decode cX0_inverse 34 = .ok (.istore_n 2, 1) := by decide +kernel
theorem dX0_inverse_35 : decode cX0_inverse 35 = .ok (.aload_n 0, 1) := by decide +kernel
theorem dX0_inverse_36 : decode cX0_inverse 36 = .ok (.iload_n 3, 1) := by decide +kernel
theorem dX0_inverse_37 : decode cX0_inverse 37 = .ok (.iload_n 3, 1) := by decide +kernel
theorem dX0_inverse_38 : decode cX0_inverse 38 = .ok (.invokevirtual 42, 3) := by decide +kernel
theorem dX0_inverse_41 : decode cX0_inverse 41 = .ok (.istore_n 3, 1) := by decide +kernel
theorem dX0_inverse_42 : decode cX0_inverse 42 = .ok (.iinc 4 1, 3) := by decide +kernel
theorem dX0_inverse_45 : decode cX0_inverse 45 = .ok (.goto (-38), 3) := by decide +kernel
theorem dX0_inverse_48 : decode cX0_inverse 48 = .ok (.iload_n 2, 1) := by decide +kernel
theorem dX0_inverse_49 : decode cX0_inverse 49 = .ok (.ireturn, 1) := by decide +kernel
abbrev cX0_join : ByteArray := prog_1_method_18_code
def yX0_join : MethodName := ⟨RX0, "join", "(II)I"⟩
theorem dX0_join_0 : decode cX0_join 0 = .ok (.aload_n 0, 1) := by decide +kernel
theorem dX0_join_1 : decode cX0_join 1 = .ok (.sipush 32719, 3) := by decide +kernel
theorem dX0_join_4 : decode cX0_join 4 = .ok (.putfield 34, 3) := by decide +kernel
theorem dX0_join_7 : decode cX0_join 7 = .ok (.aload_n 0, 1) := by decide +kernel
theorem dX0_join_8 : decode cX0_join 8 = .ok (.bipush 30, 2) := by decide +kernel
theorem dX0_join_10 : decode cX0_join 10 = .ok (.invokevirtual 46, 3) := by decide +kernel
theorem dX0_join_13 : decode cX0_join 13 = .ok (.istore_n 3, 1) := by decide +kernel
theorem dX0_join_14 : decode cX0_join 14 = .ok (.aload_n 0, 1) := by decide +kernel
theorem dX0_join_15 : decode cX0_join 15 = .ok (.iload_n 2, 1) := by decide +kernel
theorem dX0_join_16 : decode cX0_join 16 = .ok (.iload_n 1, 1) := by decide +kernel
theorem dX0_join_17 : decode cX0_join 17 = .ok (.isub, 1) := by decide +kernel
theorem dX0_join_18 : decode cX0_join 18 = .ok (.invokevirtual 38, 3) := by decide +kernel
theorem dX0_join_21 : decode cX0_join 21 = .ok (.istore 4, 2) := by decide +kernel
theorem dX0_join_23 : decode cX0_join 23 = .ok (.aload_n 0, 1) := by decide +kernel
theorem dX0_join_24 : decode cX0_join 24 = .ok (.iload 4, 2) := by decide +kernel
theorem dX0_join_26 : decode cX0_join 26 = .ok (.iload_n 3, 1) := by decide +kernel
theorem dX0_join_27 : decode cX0_join 27 = .ok (.invokevirtual 42, 3) := by decide +kernel
theorem dX0_join_30 : decode cX0_join 30 = .ok (.istore 5, 2) := by decide +kernel
theorem dX0_join_32 : decode cX0_join 32 = .ok (.iload_n 1, 1) := by decide +kernel
theorem dX0_join_33 : decode cX0_join 33 = .ok (.sipush 32749, 3) := by decide +kernel
theorem dX0_join_36 : decode cX0_join 36 = .ok (.iload 5, 2) := by decide +kernel
theorem dX0_join_38 : decode cX0_join 38 = .ok (.imul, 1) := by decide +kernel
theorem dX0_join_39 : decode cX0_join 39 = .ok (.iadd, 1) := by decide +kernel
theorem dX0_join_40 : decode cX0_join 40 = .ok (.istore 6, 2) := by decide +kernel
theorem dX0_join_42 : decode cX0_join 42 = .ok (.iload 6, 2) := by decide +kernel
theorem dX0_join_44 : decode cX0_join 44 = .ok (.ldc 61, 2) := by decide +kernel
theorem dX0_join_46 : decode cX0_join 46 = .ok (.if_icmp .le 11, 3) := by decide +kernel
theorem dX0_join_49 : decode cX0_join 49 = .ok (.iload 6, 2) := by decide +kernel
theorem dX0_join_51 : decode cX0_join 51 = .ok (.ldc 62, 2) := by decide +kernel
theorem dX0_join_53 : decode cX0_join 53 = .ok (.isub, 1) := by decide +kernel
theorem dX0_join_54 : decode cX0_join 54 = .ok (.goto 5, 3) := by decide +kernel
theorem dX0_join_57 : decode cX0_join 57 = .ok (.iload 6, 2) := by decide +kernel
theorem dX0_join_59 : decode cX0_join 59 = .ok (.ireturn, 1) := by decide +kernel
abbrev cX0_minor : ByteArray := prog_1_method_21_code
def yX0_minor : MethodName := ⟨RX0, "minor", "(II)I"⟩
theorem dX0_minor_0 : decode cX0_minor 0 = .ok (.iload_n 1, 1) := by decide +kernel
theorem dX0_minor_1 : decode cX0_minor 1 = .ok (.invokestatic 26, 3) := by decide +kernel
theorem dX0_minor_4 : decode cX0_minor 4 = .ok (.ifCond .eq 10, 3) := by decide +kernel
theorem dX0_minor_7 : decode cX0_minor 7 = .ok (.iload_n 2, 1) := by decide +kernel
theorem dX0_minor_8 : decode cX0_minor 8 = .ok (.invokestatic 26, 3) := by decide +kernel
theorem dX0_minor_11 : decode cX0_minor 11 = .ok (.ifCond .ne 6, 3) := by decide +kernel
theorem dX0_minor_14 : decode cX0_minor 14 = .ok (.ldc 33, 2) := by decide +kernel
theorem dX0_minor_16 : decode cX0_minor 16 = .ok (.ireturn, 1) := by decide +kernel
theorem dX0_minor_17 : decode cX0_minor 17 = .ok (.aload_n 0, 1) := by decide +kernel
theorem dX0_minor_18 : decode cX0_minor 18 = .ok (.sipush 32749, 3) := by decide +kernel
theorem dX0_minor_21 : decode cX0_minor 21 = .ok (.invokevirtual 63, 3) := by decide +kernel
theorem dX0_minor_24 : decode cX0_minor 24 = .ok (.aload_n 0, 1) := by decide +kernel
theorem dX0_minor_25 : decode cX0_minor 25 = .ok (.iload_n 1, 1) := by decide +kernel
theorem dX0_minor_26 : decode cX0_minor 26 = .ok (.iload_n 2, 1) := by decide +kernel
theorem dX0_minor_27 : decode cX0_minor 27 = .ok (.invokevirtual 73, 3) := by decide +kernel
theorem dX0_minor_30 : decode cX0_minor 30 = .ok (.aload_n 0, 1) := by decide +kernel
theorem dX0_minor_31 : decode cX0_minor 31 = .ok (.iconst 3, 1) := by decide +kernel
theorem dX0_minor_32 : decode cX0_minor 32 = .ok (.invokevirtual 67, 3) := by decide +kernel
theorem dX0_minor_35 : decode cX0_minor 35 = .ok (.istore_n 3, 1) := by decide +kernel
theorem dX0_minor_36 : decode cX0_minor 36 = .ok (.aload_n 0, 1) := by decide +kernel
theorem dX0_minor_37 : decode cX0_minor 37 = .ok (.sipush 32719, 3) := by decide +kernel
theorem dX0_minor_40 : decode cX0_minor 40 = .ok (.invokevirtual 63, 3) := by decide +kernel
theorem dX0_minor_43 : decode cX0_minor 43 = .ok (.aload_n 0, 1) := by decide +kernel
theorem dX0_minor_44 : decode cX0_minor 44 = .ok (.iload_n 1, 1) := by decide +kernel
theorem dX0_minor_45 : decode cX0_minor 45 = .ok (.iload_n 2, 1) := by decide +kernel
theorem dX0_minor_46 : decode cX0_minor 46 = .ok (.invokevirtual 73, 3) := by decide +kernel
theorem dX0_minor_49 : decode cX0_minor 49 = .ok (.aload_n 0, 1) := by decide +kernel
theorem dX0_minor_50 : decode cX0_minor 50 = .ok (.iconst 3, 1) := by decide +kernel
theorem dX0_minor_51 : decode cX0_minor 51 = .ok (.invokevirtual 67, 3) := by decide +kernel
theorem dX0_minor_54 : decode cX0_minor 54 = .ok (.istore 4, 2) := by decide +kernel
theorem dX0_minor_56 : decode cX0_minor 56 = .ok (.aload_n 0, 1) := by decide +kernel
theorem dX0_minor_57 : decode cX0_minor 57 = .ok (.iload_n 3, 1) := by decide +kernel
theorem dX0_minor_58 : decode cX0_minor 58 = .ok (.iload 4, 2) := by decide +kernel
theorem dX0_minor_60 : decode cX0_minor 60 = .ok (.invokevirtual 70, 3) := by decide +kernel
theorem dX0_minor_63 : decode cX0_minor 63 = .ok (.ireturn, 1) := by decide +kernel
abbrev cX0_leaveOut : ByteArray := prog_1_method_20_code
def yX0_leaveOut : MethodName := ⟨RX0, "leaveOut", "(II)V"⟩
theorem dX0_leaveOut_0 : decode cX0_leaveOut 0 = .ok (.iconst 0, 1) := by decide +kernel
theorem dX0_leaveOut_1 : decode cX0_leaveOut 1 = .ok (.istore_n 3, 1) := by decide +kernel
theorem dX0_leaveOut_2 : decode cX0_leaveOut 2 = .ok (.iload_n 3, 1) := by decide +kernel
theorem dX0_leaveOut_3 : decode cX0_leaveOut 3 = .ok (.iconst 4, 1) := by decide +kernel
theorem dX0_leaveOut_4 : decode cX0_leaveOut 4 = .ok (.if_icmp .ge 85, 3) := by decide +kernel
theorem dX0_leaveOut_7 : decode cX0_leaveOut 7 = .ok (.iconst 0, 1) := by decide +kernel
theorem dX0_leaveOut_8 : decode cX0_leaveOut 8 = .ok (.istore 4, 2) := by decide +kernel
theorem dX0_leaveOut_10 : decode cX0_leaveOut 10 = .ok (.iload 4, 2) := by decide +kernel
theorem dX0_leaveOut_12 : decode cX0_leaveOut 12 = .ok (.iconst 4, 1) := by decide +kernel
theorem dX0_leaveOut_13 : decode cX0_leaveOut 13 = .ok (.if_icmp .ge 70, 3) := by decide +kernel
theorem dX0_leaveOut_16 : decode cX0_leaveOut 16 = .ok (.iload_n 3, 1) := by decide +kernel
theorem dX0_leaveOut_17 : decode cX0_leaveOut 17 = .ok (.iload_n 1, 1) := by decide +kernel
theorem dX0_leaveOut_18 : decode cX0_leaveOut 18 = .ok (.if_icmp .le 9, 3) := by decide +kernel
theorem dX0_leaveOut_21 : decode cX0_leaveOut 21 = .ok (.iload_n 3, 1) := by decide +kernel
theorem dX0_leaveOut_22 : decode cX0_leaveOut 22 = .ok (.iconst 1, 1) := by decide +kernel
theorem dX0_leaveOut_23 : decode cX0_leaveOut 23 = .ok (.isub, 1) := by decide +kernel
theorem dX0_leaveOut_24 : decode cX0_leaveOut 24 = .ok (.goto 4, 3) := by decide +kernel
theorem dX0_leaveOut_27 : decode cX0_leaveOut 27 = .ok (.iload_n 3, 1) := by decide +kernel
theorem dX0_leaveOut_28 : decode cX0_leaveOut 28 = .ok (.iconst 5, 1) := by decide +kernel
theorem dX0_leaveOut_29 : decode cX0_leaveOut 29 = .ok (.imul, 1) := by decide +kernel
theorem dX0_leaveOut_30 : decode cX0_leaveOut 30 = .ok (.iload 4, 2) := by decide +kernel
theorem dX0_leaveOut_32 : decode cX0_leaveOut 32 = .ok (.iload_n 2, 1) := by decide +kernel
theorem dX0_leaveOut_33 : decode cX0_leaveOut 33 = .ok (.if_icmp .le 10, 3) := by decide +kernel
theorem dX0_leaveOut_36 : decode cX0_leaveOut 36 = .ok (.iload 4, 2) := by decide +kernel
theorem dX0_leaveOut_38 : decode cX0_leaveOut 38 = .ok (.iconst 1, 1) := by decide +kernel
theorem dX0_leaveOut_39 : decode cX0_leaveOut 39 = .ok (.isub, 1) := by decide +kernel
theorem dX0_leaveOut_40 : decode cX0_leaveOut 40 = .ok (.goto 5, 3) := by decide +kernel
theorem dX0_leaveOut_43 : decode cX0_leaveOut 43 = .ok (.iload 4, 2) := by decide +kernel
theorem dX0_leaveOut_45 : decode cX0_leaveOut 45 = .ok (.iadd, 1) := by decide +kernel
theorem dX0_leaveOut_46 : decode cX0_leaveOut 46 = .ok (.istore 5, 2) := by decide +kernel
theorem dX0_leaveOut_48 : decode cX0_leaveOut 48 = .ok (.iload_n 3, 1) := by decide +kernel
theorem dX0_leaveOut_49 : decode cX0_leaveOut 49 = .ok (.iload_n 1, 1) := by decide +kernel
theorem dX0_leaveOut_50 : decode cX0_leaveOut 50 = .ok (.if_icmp .eq 27, 3) := by decide +kernel
theorem dX0_leaveOut_53 : decode cX0_leaveOut 53 = .ok (.iload 4, 2) := by decide +kernel
theorem dX0_leaveOut_55 : decode cX0_leaveOut 55 = .ok (.iload_n 2, 1) := by decide +kernel
theorem dX0_leaveOut_56 : decode cX0_leaveOut 56 = .ok (.if_icmp .eq 21, 3) := by decide +kernel
theorem dX0_leaveOut_59 : decode cX0_leaveOut 59 = .ok (.aload_n 0, 1) := by decide +kernel
theorem dX0_leaveOut_60 : decode cX0_leaveOut 60 = .ok (.getfield 13, 3) := by decide +kernel
theorem dX0_leaveOut_63 : decode cX0_leaveOut 63 = .ok (.iload 5, 2) := by decide +kernel
theorem dX0_leaveOut_65 : decode cX0_leaveOut 65 = .ok (.aload_n 0, 1) := by decide +kernel
theorem dX0_leaveOut_66 : decode cX0_leaveOut 66 = .ok (.getfield 13, 3) := by decide +kernel
theorem dX0_leaveOut_69 : decode cX0_leaveOut 69 = .ok (.iload_n 3, 1) := by decide +kernel
theorem dX0_leaveOut_70 : decode cX0_leaveOut 70 = .ok (.iconst 5, 1) := by decide +kernel
theorem dX0_leaveOut_71 : decode cX0_leaveOut 71 = .ok (.imul, 1) := by decide +kernel
theorem dX0_leaveOut_72 : decode cX0_leaveOut 72 = .ok (.iload 4, 2) := by decide +kernel
theorem dX0_leaveOut_74 : decode cX0_leaveOut 74 = .ok (.iadd, 1) := by decide +kernel
theorem dX0_leaveOut_75 : decode cX0_leaveOut 75 = .ok (.iaload, 1) := by decide +kernel
theorem dX0_leaveOut_76 : decode cX0_leaveOut 76 = .ok (.iastore, 1) := by decide +kernel
theorem dX0_leaveOut_77 : decode cX0_leaveOut 77 = .ok (.iinc 4 1, 3) := by decide +kernel
theorem dX0_leaveOut_80 : decode cX0_leaveOut 80 = .ok (.goto (-70), 3) := by decide +kernel
theorem dX0_leaveOut_83 : decode cX0_leaveOut 83 = .ok (.iinc 3 1, 3) := by decide +kernel
theorem dX0_leaveOut_86 : decode cX0_leaveOut 86 = .ok (.goto (-84), 3) := by decide +kernel
theorem dX0_leaveOut_89 : decode cX0_leaveOut 89 = .ok (.return_, 1) := by decide +kernel
abbrev cX0_replaced : ByteArray := prog_1_method_23_code
def yX0_replaced : MethodName := ⟨RX0, "replaced", "(I)I"⟩
theorem dX0_replaced_0 : decode cX0_replaced 0 = .ok (.iload_n 1, 1) := by decide +kernel
theorem dX0_replaced_1 : decode cX0_replaced 1 = .ok (.invokestatic 26, 3) := by decide +kernel
theorem dX0_replaced_4 : decode cX0_replaced 4 = .ok (.ifCond .ne 6, 3) := by decide +kernel
theorem dX0_replaced_7 : decode cX0_replaced 7 = .ok (.ldc 33, 2) := by decide +kernel
theorem dX0_replaced_9 : decode cX0_replaced 9 = .ok (.ireturn, 1) := by decide +kernel
theorem dX0_replaced_10 : decode cX0_replaced 10 = .ok (.aload_n 0, 1) := by decide +kernel
theorem dX0_replaced_11 : decode cX0_replaced 11 = .ok (.sipush 32749, 3) := by decide +kernel
theorem dX0_replaced_14 : decode cX0_replaced 14 = .ok (.invokevirtual 63, 3) := by decide +kernel
theorem dX0_replaced_17 : decode cX0_replaced 17 = .ok (.aload_n 0, 1) := by decide +kernel
theorem dX0_replaced_18 : decode cX0_replaced 18 = .ok (.iload_n 1, 1) := by decide +kernel
theorem dX0_replaced_19 : decode cX0_replaced 19 = .ok (.invokevirtual 76, 3) := by decide +kernel
theorem dX0_replaced_22 : decode cX0_replaced 22 = .ok (.aload_n 0, 1) := by decide +kernel
theorem dX0_replaced_23 : decode cX0_replaced 23 = .ok (.iconst 4, 1) := by decide +kernel
theorem dX0_replaced_24 : decode cX0_replaced 24 = .ok (.invokevirtual 67, 3) := by decide +kernel
theorem dX0_replaced_27 : decode cX0_replaced 27 = .ok (.istore_n 2, 1) := by decide +kernel
theorem dX0_replaced_28 : decode cX0_replaced 28 = .ok (.aload_n 0, 1) := by decide +kernel
theorem dX0_replaced_29 : decode cX0_replaced 29 = .ok (.sipush 32719, 3) := by decide +kernel
theorem dX0_replaced_32 : decode cX0_replaced 32 = .ok (.invokevirtual 63, 3) := by decide +kernel
theorem dX0_replaced_35 : decode cX0_replaced 35 = .ok (.aload_n 0, 1) := by decide +kernel
theorem dX0_replaced_36 : decode cX0_replaced 36 = .ok (.iload_n 1, 1) := by decide +kernel
theorem dX0_replaced_37 : decode cX0_replaced 37 = .ok (.invokevirtual 76, 3) := by decide +kernel
theorem dX0_replaced_40 : decode cX0_replaced 40 = .ok (.aload_n 0, 1) := by decide +kernel
theorem dX0_replaced_41 : decode cX0_replaced 41 = .ok (.iconst 4, 1) := by decide +kernel
theorem dX0_replaced_42 : decode cX0_replaced 42 = .ok (.invokevirtual 67, 3) := by decide +kernel
theorem dX0_replaced_45 : decode cX0_replaced 45 = .ok (.istore_n 3, 1) := by decide +kernel
theorem dX0_replaced_46 : decode cX0_replaced 46 = .ok (.aload_n 0, 1) := by decide +kernel
theorem dX0_replaced_47 : decode cX0_replaced 47 = .ok (.iload_n 2, 1) := by decide +kernel
theorem dX0_replaced_48 : decode cX0_replaced 48 = .ok (.iload_n 3, 1) := by decide +kernel
theorem dX0_replaced_49 : decode cX0_replaced 49 = .ok (.invokevirtual 70, 3) := by decide +kernel
theorem dX0_replaced_52 : decode cX0_replaced 52 = .ok (.ireturn, 1) := by decide +kernel
abbrev cX0_replaceColumn : ByteArray := prog_1_method_22_code
def yX0_replaceColumn : MethodName := ⟨RX0, "replaceColumn", "(I)V"⟩
theorem dX0_replaceColumn_0 : decode cX0_replaceColumn 0 = .ok (.iconst 0, 1) := by decide +kernel
theorem dX0_replaceColumn_1 : decode cX0_replaceColumn 1 = .ok (.istore_n 2, 1) := by decide +kernel
theorem dX0_replaceColumn_2 : decode cX0_replaceColumn 2 = .ok (.iload_n 2, 1) := by decide +kernel
theorem dX0_replaceColumn_3 : decode cX0_replaceColumn 3 = .ok (.iconst 4, 1) := by decide +kernel
theorem dX0_replaceColumn_4 : decode cX0_replaceColumn 4 = .ok (.if_icmp .ge 29, 3) := by decide +kernel
theorem dX0_replaceColumn_7 : decode cX0_replaceColumn 7 = .ok (.aload_n 0, 1) := by decide +kernel
theorem dX0_replaceColumn_8 : decode cX0_replaceColumn 8 = .ok (.getfield 13, 3) := by decide +kernel
theorem dX0_replaceColumn_11 : decode cX0_replaceColumn 11 = .ok (.iload_n 2, 1) := by decide +kernel
theorem dX0_replaceColumn_12 : decode cX0_replaceColumn 12 = .ok (.iconst 5, 1) := by decide +kernel
theorem dX0_replaceColumn_13 : decode cX0_replaceColumn 13 = .ok (.imul, 1) := by decide +kernel
theorem dX0_replaceColumn_14 : decode cX0_replaceColumn 14 = .ok (.iload_n 1, 1) := by decide +kernel
theorem dX0_replaceColumn_15 : decode cX0_replaceColumn 15 = .ok (.iadd, 1) := by decide +kernel
theorem dX0_replaceColumn_16 : decode cX0_replaceColumn 16 = .ok (.aload_n 0, 1) := by decide +kernel
theorem dX0_replaceColumn_17 : decode cX0_replaceColumn 17 = .ok (.getfield 13, 3) := by decide +kernel
theorem dX0_replaceColumn_20 : decode cX0_replaceColumn 20 = .ok (.iload_n 2, 1) := by decide +kernel
theorem dX0_replaceColumn_21 : decode cX0_replaceColumn 21 = .ok (.iconst 5, 1) := by decide +kernel
theorem dX0_replaceColumn_22 : decode cX0_replaceColumn 22 = .ok (.imul, 1) := by decide +kernel
theorem dX0_replaceColumn_23 : decode cX0_replaceColumn 23 = .ok (.iconst 4, 1) := by decide +kernel
theorem dX0_replaceColumn_24 : decode cX0_replaceColumn 24 = .ok (.iadd, 1) := by decide +kernel
theorem dX0_replaceColumn_25 : decode cX0_replaceColumn 25 = .ok (.iaload, 1) := by decide +kernel
theorem dX0_replaceColumn_26 : decode cX0_replaceColumn 26 = .ok (.iastore, 1) := by decide +kernel
theorem dX0_replaceColumn_27 : decode cX0_replaceColumn 27 = .ok (.iinc 2 1, 3) := by decide +kernel
theorem dX0_replaceColumn_30 : decode cX0_replaceColumn 30 = .ok (.goto (-28), 3) := by decide +kernel
theorem dX0_replaceColumn_33 : decode cX0_replaceColumn 33 = .ok (.return_, 1) := by decide +kernel
abbrev cX0_rank : ByteArray := prog_1_method_24_code
def yX0_rank : MethodName := ⟨RX0, "rank", "()I"⟩
theorem dX0_rank_0 : decode cX0_rank 0 = .ok (.aload_n 0, 1) := by decide +kernel
theorem dX0_rank_1 : decode cX0_rank 1 = .ok (.bipush 15, 2) := by decide +kernel
theorem dX0_rank_3 : decode cX0_rank 3 = .ok (.iconst 4, 1) := by decide +kernel
theorem dX0_rank_4 : decode cX0_rank 4 = .ok (.invokevirtual 79, 3) := by decide +kernel
theorem dX0_rank_7 : decode cX0_rank 7 = .ok (.ireturn, 1) := by decide +kernel
abbrev cX0_rankIn : ByteArray := prog_1_method_28_code
def yX0_rankIn : MethodName := ⟨RX0, "rankIn", "(II)I"⟩
theorem dX0_rankIn_0 : decode cX0_rankIn 0 = .ok (.aload_n 0, 1) := by decide +kernel
theorem dX0_rankIn_1 : decode cX0_rankIn 1 = .ok (.sipush 32749, 3) := by decide +kernel
theorem dX0_rankIn_4 : decode cX0_rankIn 4 = .ok (.invokevirtual 63, 3) := by decide +kernel
theorem dX0_rankIn_7 : decode cX0_rankIn 7 = .ok (.aload_n 0, 1) := by decide +kernel
theorem dX0_rankIn_8 : decode cX0_rankIn 8 = .ok (.iload_n 1, 1) := by decide +kernel
theorem dX0_rankIn_9 : decode cX0_rankIn 9 = .ok (.invokevirtual 82, 3) := by decide +kernel
theorem dX0_rankIn_12 : decode cX0_rankIn 12 = .ok (.istore_n 3, 1) := by decide +kernel
theorem dX0_rankIn_13 : decode cX0_rankIn 13 = .ok (.aload_n 0, 1) := by decide +kernel
theorem dX0_rankIn_14 : decode cX0_rankIn 14 = .ok (.iload_n 3, 1) := by decide +kernel
theorem dX0_rankIn_15 : decode cX0_rankIn 15 = .ok (.iload_n 2, 1) := by decide +kernel
theorem dX0_rankIn_16 : decode cX0_rankIn 16 = .ok (.invokevirtual 85, 3) := by decide +kernel
theorem dX0_rankIn_19 : decode cX0_rankIn 19 = .ok (.istore 4, 2) := by decide +kernel
theorem dX0_rankIn_21 : decode cX0_rankIn 21 = .ok (.aload_n 0, 1) := by decide +kernel
theorem dX0_rankIn_22 : decode cX0_rankIn 22 = .ok (.sipush 32719, 3) := by decide +kernel
theorem dX0_rankIn_25 : decode cX0_rankIn 25 = .ok (.invokevirtual 63, 3) := by decide +kernel
theorem dX0_rankIn_28 : decode cX0_rankIn 28 = .ok (.aload_n 0, 1) := by decide +kernel
theorem dX0_rankIn_29 : decode cX0_rankIn 29 = .ok (.iload_n 1, 1) := by decide +kernel
theorem dX0_rankIn_30 : decode cX0_rankIn 30 = .ok (.invokevirtual 82, 3) := by decide +kernel
theorem dX0_rankIn_33 : decode cX0_rankIn 33 = .ok (.pop, 1) := by decide +kernel
theorem dX0_rankIn_34 : decode cX0_rankIn 34 = .ok (.aload_n 0, 1) := by decide +kernel
theorem dX0_rankIn_35 : decode cX0_rankIn 35 = .ok (.iload_n 3, 1) := by decide +kernel
theorem dX0_rankIn_36 : decode cX0_rankIn 36 = .ok (.iload_n 2, 1) := by decide +kernel
theorem dX0_rankIn_37 : decode cX0_rankIn 37 = .ok (.invokevirtual 85, 3) := by decide +kernel
theorem dX0_rankIn_40 : decode cX0_rankIn 40 = .ok (.istore 5, 2) := by decide +kernel
theorem dX0_rankIn_42 : decode cX0_rankIn 42 = .ok (.iload 4, 2) := by decide +kernel
theorem dX0_rankIn_44 : decode cX0_rankIn 44 = .ok (.iload 5, 2) := by decide +kernel
theorem dX0_rankIn_46 : decode cX0_rankIn 46 = .ok (.if_icmp .le 8, 3) := by decide +kernel
theorem dX0_rankIn_49 : decode cX0_rankIn 49 = .ok (.iload 4, 2) := by decide +kernel
theorem dX0_rankIn_51 : decode cX0_rankIn 51 = .ok (.goto 5, 3) := by decide +kernel
theorem dX0_rankIn_54 : decode cX0_rankIn 54 = .ok (.iload 5, 2) := by decide +kernel
theorem dX0_rankIn_56 : decode cX0_rankIn 56 = .ok (.ireturn, 1) := by decide +kernel
abbrev cX0_keepRows : ByteArray := prog_1_method_27_code
def yX0_keepRows : MethodName := ⟨RX0, "keepRows", "(I)I"⟩
theorem dX0_keepRows_0 : decode cX0_keepRows 0 = .ok (.iconst 0, 1) := by decide +kernel
theorem dX0_keepRows_1 : decode cX0_keepRows 1 = .ok (.istore_n 2, 1) := by decide +kernel
theorem dX0_keepRows_2 : decode cX0_keepRows 2 = .ok (.iconst 0, 1) := by decide +kernel
theorem dX0_keepRows_3 : decode cX0_keepRows 3 = .ok (.istore_n 3, 1) := by decide +kernel
theorem dX0_keepRows_4 : decode cX0_keepRows 4 = .ok (.iload_n 3, 1) := by decide +kernel
theorem dX0_keepRows_5 : decode cX0_keepRows 5 = .ok (.iconst 4, 1) := by decide +kernel
theorem dX0_keepRows_6 : decode cX0_keepRows 6 = .ok (.if_icmp .ge 26, 3) := by decide +kernel
theorem dX0_keepRows_9 : decode cX0_keepRows 9 = .ok (.iload_n 1, 1) := by decide +kernel
theorem dX0_keepRows_10 : decode cX0_keepRows 10 = .ok (.iload_n 3, 1) := by decide +kernel
theorem dX0_keepRows_11 : decode cX0_keepRows 11 = .ok (.ishr, 1) := by decide +kernel
theorem dX0_keepRows_12 : decode cX0_keepRows 12 = .ok (.iconst 1, 1) := by decide +kernel
theorem dX0_keepRows_13 : decode cX0_keepRows 13 = .ok (.iand, 1) := by decide +kernel
theorem dX0_keepRows_14 : decode cX0_keepRows 14 = .ok (.ifCond .eq 12, 3) := by decide +kernel
theorem dX0_keepRows_17 : decode cX0_keepRows 17 = .ok (.aload_n 0, 1) := by decide +kernel
theorem dX0_keepRows_18 : decode cX0_keepRows 18 = .ok (.iload_n 3, 1) := by decide +kernel
theorem dX0_keepRows_19 : decode cX0_keepRows 19 = .ok (.iload_n 2, 1) := by decide +kernel
theorem dX0_keepRows_20 : decode cX0_keepRows 20 = .ok (.invokevirtual 53, 3) := by decide +kernel
theorem dX0_keepRows_23 : decode cX0_keepRows 23 = .ok (.iinc 2 1, 3) := by decide +kernel
theorem dX0_keepRows_26 : decode cX0_keepRows 26 = .ok (.iinc 3 1, 3) := by decide +kernel
theorem dX0_keepRows_29 : decode cX0_keepRows 29 = .ok (.goto (-25), 3) := by decide +kernel
theorem dX0_keepRows_32 : decode cX0_keepRows 32 = .ok (.iload_n 2, 1) := by decide +kernel
theorem dX0_keepRows_33 : decode cX0_keepRows 33 = .ok (.ireturn, 1) := by decide +kernel
abbrev cX0_rankAtWork : ByteArray := prog_1_method_17_code
def yX0_rankAtWork : MethodName := ⟨RX0, "rankAtWork", "(II)I"⟩
theorem dX0_rankAtWork_0 : decode cX0_rankAtWork 0 = .ok (.iconst 0, 1) := by decide +kernel
theorem dX0_rankAtWork_1 : decode cX0_rankAtWork 1 = .ok (.istore_n 3, 1) := by decide +kernel
theorem dX0_rankAtWork_2 : decode cX0_rankAtWork 2 = .ok (.iconst 0, 1) := by decide +kernel
theorem dX0_rankAtWork_3 : decode cX0_rankAtWork 3 = .ok (.istore 4, 2) := by decide +kernel
theorem dX0_rankAtWork_5 : decode cX0_rankAtWork 5 = .ok (.iload 4, 2) := by decide +kernel
theorem dX0_rankAtWork_7 : decode cX0_rankAtWork 7 = .ok (.iload_n 2, 1) := by decide +kernel
theorem dX0_rankAtWork_8 : decode cX0_rankAtWork 8 = .ok (.if_icmp .ge 47, 3) := by decide +kernel
theorem dX0_rankAtWork_11 : decode cX0_rankAtWork 11 = .ok (.iload_n 3, 1) := by decide +kernel
theorem dX0_rankAtWork_12 : decode cX0_rankAtWork 12 = .ok (.iload_n 1, 1) := by decide +kernel
theorem dX0_rankAtWork_13 : decode cX0_rankAtWork 13 = .ok (.if_icmp .ge 42, 3) := by decide +kernel
theorem dX0_rankAtWork_16 : decode cX0_rankAtWork 16 = .ok (.aload_n 0, 1) := by decide +kernel
theorem dX0_rankAtWork_17 : decode cX0_rankAtWork 17 = .ok (.iload_n 3, 1) := by decide +kernel
end
section
set_option maxRecDepth 100000
theorem dX0_rankAtWork_18 : decode cX0_rankAtWork 18 = .ok (.iload_n 1, 1) := by decide +kernel
theorem dX0_rankAtWork_19 : decode cX0_rankAtWork 19 = .ok (.iload 4, 2) := by decide +kernel
theorem dX0_rankAtWork_21 : decode cX0_rankAtWork 21 = .ok (.invokevirtual 49, 3) := by decide +kernel
theorem dX0_rankAtWork_24 : decode cX0_rankAtWork 24 = .ok (.istore 5, 2) := by decide +kernel
theorem dX0_rankAtWork_26 : decode cX0_rankAtWork 26 = .ok (.iload 5, 2) := by decide +kernel
theorem dX0_rankAtWork_28 : decode cX0_rankAtWork 28 = .ok (.ifCond .lt 21, 3) := by decide +kernel
theorem dX0_rankAtWork_31 : decode cX0_rankAtWork 31 = .ok (.aload_n 0, 1) := by decide +kernel
theorem dX0_rankAtWork_32 : decode cX0_rankAtWork 32 = .ok (.iload 5, 2) := by decide +kernel
theorem dX0_rankAtWork_34 : decode cX0_rankAtWork 34 = .ok (.iload_n 3, 1) := by decide +kernel
theorem dX0_rankAtWork_35 : decode cX0_rankAtWork 35 = .ok (.invokevirtual 53, 3) := by decide +kernel
theorem dX0_rankAtWork_38 : decode cX0_rankAtWork 38 = .ok (.aload_n 0, 1) := by decide +kernel
theorem dX0_rankAtWork_39 : decode cX0_rankAtWork 39 = .ok (.iload_n 3, 1) := by decide +kernel
theorem dX0_rankAtWork_40 : decode cX0_rankAtWork 40 = .ok (.iload_n 1, 1) := by decide +kernel
theorem dX0_rankAtWork_41 : decode cX0_rankAtWork 41 = .ok (.iload 4, 2) := by decide +kernel
theorem dX0_rankAtWork_43 : decode cX0_rankAtWork 43 = .ok (.invokevirtual 57, 3) := by decide +kernel
theorem dX0_rankAtWork_46 : decode cX0_rankAtWork 46 = .ok (.iinc 3 1, 3) := by decide +kernel
theorem dX0_rankAtWork_49 : decode cX0_rankAtWork 49 = .ok (.iinc 4 1, 3) := by decide +kernel
theorem dX0_rankAtWork_52 : decode cX0_rankAtWork 52 = .ok (.goto (-47), 3) := by decide +kernel
theorem dX0_rankAtWork_55 : decode cX0_rankAtWork 55 = .ok (.iload_n 3, 1) := by decide +kernel
theorem dX0_rankAtWork_56 : decode cX0_rankAtWork 56 = .ok (.ireturn, 1) := by decide +kernel
abbrev cX0_wideRank : ByteArray := prog_1_method_26_code
def yX0_wideRank : MethodName := ⟨RX0, "wideRank", "()I"⟩
theorem dX0_wideRank_0 : decode cX0_wideRank 0 = .ok (.aload_n 0, 1) := by decide +kernel
theorem dX0_wideRank_1 : decode cX0_wideRank 1 = .ok (.bipush 15, 2) := by decide +kernel
theorem dX0_wideRank_3 : decode cX0_wideRank 3 = .ok (.iconst 5, 1) := by decide +kernel
theorem dX0_wideRank_4 : decode cX0_wideRank 4 = .ok (.invokevirtual 79, 3) := by decide +kernel
theorem dX0_wideRank_7 : decode cX0_wideRank 7 = .ok (.ireturn, 1) := by decide +kernel
abbrev cX0_coefficient : ByteArray := prog_1_method_29_code
def yX0_coefficient : MethodName := ⟨RX0, "coefficient", "(I)I"⟩
theorem dX0_coefficient_0 : decode cX0_coefficient 0 = .ok (.iload_n 1, 1) := by decide +kernel
theorem dX0_coefficient_1 : decode cX0_coefficient 1 = .ok (.ifCond .lt 8, 3) := by decide +kernel
theorem dX0_coefficient_4 : decode cX0_coefficient 4 = .ok (.iload_n 1, 1) := by decide +kernel
theorem dX0_coefficient_5 : decode cX0_coefficient 5 = .ok (.iconst 4, 1) := by decide +kernel
theorem dX0_coefficient_6 : decode cX0_coefficient 6 = .ok (.if_icmp .le 6, 3) := by decide +kernel
theorem dX0_coefficient_9 : decode cX0_coefficient 9 = .ok (.ldc 33, 2) := by decide +kernel
theorem dX0_coefficient_11 : decode cX0_coefficient 11 = .ok (.ireturn, 1) := by decide +kernel
theorem dX0_coefficient_12 : decode cX0_coefficient 12 = .ok (.aload_n 0, 1) := by decide +kernel
theorem dX0_coefficient_13 : decode cX0_coefficient 13 = .ok (.sipush 32749, 3) := by decide +kernel
theorem dX0_coefficient_16 : decode cX0_coefficient 16 = .ok (.iload_n 1, 1) := by decide +kernel
theorem dX0_coefficient_17 : decode cX0_coefficient 17 = .ok (.invokevirtual 88, 3) := by decide +kernel
theorem dX0_coefficient_20 : decode cX0_coefficient 20 = .ok (.istore_n 2, 1) := by decide +kernel
theorem dX0_coefficient_21 : decode cX0_coefficient 21 = .ok (.aload_n 0, 1) := by decide +kernel
theorem dX0_coefficient_22 : decode cX0_coefficient 22 = .ok (.sipush 32719, 3) := by decide +kernel
theorem dX0_coefficient_25 : decode cX0_coefficient 25 = .ok (.iload_n 1, 1) := by decide +kernel
theorem dX0_coefficient_26 : decode cX0_coefficient 26 = .ok (.invokevirtual 88, 3) := by decide +kernel
theorem dX0_coefficient_29 : decode cX0_coefficient 29 = .ok (.istore_n 3, 1) := by decide +kernel
theorem dX0_coefficient_30 : decode cX0_coefficient 30 = .ok (.aload_n 0, 1) := by decide +kernel
theorem dX0_coefficient_31 : decode cX0_coefficient 31 = .ok (.iload_n 2, 1) := by decide +kernel
theorem dX0_coefficient_32 : decode cX0_coefficient 32 = .ok (.iload_n 3, 1) := by decide +kernel
theorem dX0_coefficient_33 : decode cX0_coefficient 33 = .ok (.invokevirtual 70, 3) := by decide +kernel
theorem dX0_coefficient_36 : decode cX0_coefficient 36 = .ok (.ireturn, 1) := by decide +kernel
abbrev cX0_coefficientFor : ByteArray := prog_1_method_32_code
def yX0_coefficientFor : MethodName := ⟨RX0, "coefficientFor", "(II)I"⟩
theorem dX0_coefficientFor_0 : decode cX0_coefficientFor 0 = .ok (.iconst 0, 1) := by decide +kernel
theorem dX0_coefficientFor_1 : decode cX0_coefficientFor 1 = .ok (.istore_n 3, 1) := by decide +kernel
theorem dX0_coefficientFor_2 : decode cX0_coefficientFor 2 = .ok (.iload_n 3, 1) := by decide +kernel
theorem dX0_coefficientFor_3 : decode cX0_coefficientFor 3 = .ok (.iconst 4, 1) := by decide +kernel
theorem dX0_coefficientFor_4 : decode cX0_coefficientFor 4 = .ok (.if_icmp .gt 65, 3) := by decide +kernel
theorem dX0_coefficientFor_7 : decode cX0_coefficientFor 7 = .ok (.aload_n 0, 1) := by decide +kernel
theorem dX0_coefficientFor_8 : decode cX0_coefficientFor 8 = .ok (.iload_n 1, 1) := by decide +kernel
theorem dX0_coefficientFor_9 : decode cX0_coefficientFor 9 = .ok (.invokevirtual 63, 3) := by decide +kernel
theorem dX0_coefficientFor_12 : decode cX0_coefficientFor 12 = .ok (.iconst 0, 1) := by decide +kernel
theorem dX0_coefficientFor_13 : decode cX0_coefficientFor 13 = .ok (.istore 4, 2) := by decide +kernel
theorem dX0_coefficientFor_15 : decode cX0_coefficientFor 15 = .ok (.iload 4, 2) := by decide +kernel
theorem dX0_coefficientFor_17 : decode cX0_coefficientFor 17 = .ok (.bipush 20, 2) := by decide +kernel
theorem dX0_coefficientFor_19 : decode cX0_coefficientFor 19 = .ok (.if_icmp .ge 28, 3) := by decide +kernel
theorem dX0_coefficientFor_22 : decode cX0_coefficientFor 22 = .ok (.aload_n 0, 1) := by decide +kernel
theorem dX0_coefficientFor_23 : decode cX0_coefficientFor 23 = .ok (.getfield 13, 3) := by decide +kernel
theorem dX0_coefficientFor_26 : decode cX0_coefficientFor 26 = .ok (.iload 4, 2) := by decide +kernel
theorem dX0_coefficientFor_28 : decode cX0_coefficientFor 28 = .ok (.aload_n 0, 1) := by decide +kernel
theorem dX0_coefficientFor_29 : decode cX0_coefficientFor 29 = .ok (.aload_n 0, 1) := by decide +kernel
theorem dX0_coefficientFor_30 : decode cX0_coefficientFor 30 = .ok (.getfield 13, 3) := by decide +kernel
theorem dX0_coefficientFor_33 : decode cX0_coefficientFor 33 = .ok (.iload 4, 2) := by decide +kernel
theorem dX0_coefficientFor_35 : decode cX0_coefficientFor 35 = .ok (.iaload, 1) := by decide +kernel
theorem dX0_coefficientFor_36 : decode cX0_coefficientFor 36 = .ok (.ineg, 1) := by decide +kernel
theorem dX0_coefficientFor_37 : decode cX0_coefficientFor 37 = .ok (.invokevirtual 38, 3) := by decide +kernel
theorem dX0_coefficientFor_40 : decode cX0_coefficientFor 40 = .ok (.iastore, 1) := by decide +kernel
theorem dX0_coefficientFor_41 : decode cX0_coefficientFor 41 = .ok (.iinc 4 1, 3) := by decide +kernel
theorem dX0_coefficientFor_44 : decode cX0_coefficientFor 44 = .ok (.goto (-29), 3) := by decide +kernel
theorem dX0_coefficientFor_47 : decode cX0_coefficientFor 47 = .ok (.aload_n 0, 1) := by decide +kernel
theorem dX0_coefficientFor_48 : decode cX0_coefficientFor 48 = .ok (.iload_n 3, 1) := by decide +kernel
theorem dX0_coefficientFor_49 : decode cX0_coefficientFor 49 = .ok (.invokevirtual 94, 3) := by decide +kernel
theorem dX0_coefficientFor_52 : decode cX0_coefficientFor 52 = .ok (.aload_n 0, 1) := by decide +kernel
theorem dX0_coefficientFor_53 : decode cX0_coefficientFor 53 = .ok (.getfield 17, 3) := by decide +kernel
theorem dX0_coefficientFor_56 : decode cX0_coefficientFor 56 = .ok (.iload_n 3, 1) := by decide +kernel
theorem dX0_coefficientFor_57 : decode cX0_coefficientFor 57 = .ok (.aload_n 0, 1) := by decide +kernel
theorem dX0_coefficientFor_58 : decode cX0_coefficientFor 58 = .ok (.iconst 4, 1) := by decide +kernel
theorem dX0_coefficientFor_59 : decode cX0_coefficientFor 59 = .ok (.invokevirtual 67, 3) := by decide +kernel
theorem dX0_coefficientFor_62 : decode cX0_coefficientFor 62 = .ok (.iastore, 1) := by decide +kernel
theorem dX0_coefficientFor_63 : decode cX0_coefficientFor 63 = .ok (.iinc 3 1, 3) := by decide +kernel
theorem dX0_coefficientFor_66 : decode cX0_coefficientFor 66 = .ok (.goto (-64), 3) := by decide +kernel
theorem dX0_coefficientFor_69 : decode cX0_coefficientFor 69 = .ok (.aload_n 0, 1) := by decide +kernel
theorem dX0_coefficientFor_70 : decode cX0_coefficientFor 70 = .ok (.getfield 20, 3) := by decide +kernel
theorem dX0_coefficientFor_73 : decode cX0_coefficientFor 73 = .ok (.iconst 0, 1) := by decide +kernel
theorem dX0_coefficientFor_74 : decode cX0_coefficientFor 74 = .ok (.iconst 1, 1) := by decide +kernel
theorem dX0_coefficientFor_75 : decode cX0_coefficientFor 75 = .ok (.iastore, 1) := by decide +kernel
theorem dX0_coefficientFor_76 : decode cX0_coefficientFor 76 = .ok (.iconst 1, 1) := by decide +kernel
theorem dX0_coefficientFor_77 : decode cX0_coefficientFor 77 = .ok (.istore_n 3, 1) := by decide +kernel
theorem dX0_coefficientFor_78 : decode cX0_coefficientFor 78 = .ok (.iload_n 3, 1) := by decide +kernel
theorem dX0_coefficientFor_79 : decode cX0_coefficientFor 79 = .ok (.iconst 4, 1) := by decide +kernel
theorem dX0_coefficientFor_80 : decode cX0_coefficientFor 80 = .ok (.if_icmp .gt 16, 3) := by decide +kernel
theorem dX0_coefficientFor_83 : decode cX0_coefficientFor 83 = .ok (.aload_n 0, 1) := by decide +kernel
theorem dX0_coefficientFor_84 : decode cX0_coefficientFor 84 = .ok (.getfield 20, 3) := by decide +kernel
theorem dX0_coefficientFor_87 : decode cX0_coefficientFor 87 = .ok (.iload_n 3, 1) := by decide +kernel
theorem dX0_coefficientFor_88 : decode cX0_coefficientFor 88 = .ok (.iconst 0, 1) := by decide +kernel
theorem dX0_coefficientFor_89 : decode cX0_coefficientFor 89 = .ok (.iastore, 1) := by decide +kernel
theorem dX0_coefficientFor_90 : decode cX0_coefficientFor 90 = .ok (.iinc 3 1, 3) := by decide +kernel
theorem dX0_coefficientFor_93 : decode cX0_coefficientFor 93 = .ok (.goto (-15), 3) := by decide +kernel
theorem dX0_coefficientFor_96 : decode cX0_coefficientFor 96 = .ok (.iconst 1, 1) := by decide +kernel
theorem dX0_coefficientFor_97 : decode cX0_coefficientFor 97 = .ok (.istore_n 3, 1) := by decide +kernel
theorem dX0_coefficientFor_98 : decode cX0_coefficientFor 98 = .ok (.iconst 0, 1) := by decide +kernel
theorem dX0_coefficientFor_99 : decode cX0_coefficientFor 99 = .ok (.istore 4, 2) := by decide +kernel
theorem dX0_coefficientFor_101 : decode cX0_coefficientFor 101 = .ok (.iconst 0, 1) := by decide +kernel
theorem dX0_coefficientFor_102 : decode cX0_coefficientFor 102 = .ok (.istore 5, 2) := by decide +kernel
theorem dX0_coefficientFor_104 : decode cX0_coefficientFor 104 = .ok (.iload 5, 2) := by decide +kernel
theorem dX0_coefficientFor_106 : decode cX0_coefficientFor 106 = .ok (.iconst 4, 1) := by decide +kernel
theorem dX0_coefficientFor_107 : decode cX0_coefficientFor 107 = .ok (.if_icmp .gt 77, 3) := by decide +kernel
theorem dX0_coefficientFor_110 : decode cX0_coefficientFor 110 = .ok (.aload_n 0, 1) := by decide +kernel
theorem dX0_coefficientFor_111 : decode cX0_coefficientFor 111 = .ok (.iload_n 3, 1) := by decide +kernel
theorem dX0_coefficientFor_112 : decode cX0_coefficientFor 112 = .ok (.invokevirtual 46, 3) := by decide +kernel
theorem dX0_coefficientFor_115 : decode cX0_coefficientFor 115 = .ok (.istore 6, 2) := by decide +kernel
theorem dX0_coefficientFor_117 : decode cX0_coefficientFor 117 = .ok (.aload_n 0, 1) := by decide +kernel
theorem dX0_coefficientFor_118 : decode cX0_coefficientFor 118 = .ok (.aload_n 0, 1) := by decide +kernel
theorem dX0_coefficientFor_119 : decode cX0_coefficientFor 119 = .ok (.getfield 17, 3) := by decide +kernel
theorem dX0_coefficientFor_122 : decode cX0_coefficientFor 122 = .ok (.iconst 0, 1) := by decide +kernel
theorem dX0_coefficientFor_123 : decode cX0_coefficientFor 123 = .ok (.iaload, 1) := by decide +kernel
theorem dX0_coefficientFor_124 : decode cX0_coefficientFor 124 = .ok (.iload 6, 2) := by decide +kernel
theorem dX0_coefficientFor_126 : decode cX0_coefficientFor 126 = .ok (.invokevirtual 42, 3) := by decide +kernel
theorem dX0_coefficientFor_129 : decode cX0_coefficientFor 129 = .ok (.istore 7, 2) := by decide +kernel
theorem dX0_coefficientFor_131 : decode cX0_coefficientFor 131 = .ok (.aload_n 0, 1) := by decide +kernel
theorem dX0_coefficientFor_132 : decode cX0_coefficientFor 132 = .ok (.iload 7, 2) := by decide +kernel
theorem dX0_coefficientFor_134 : decode cX0_coefficientFor 134 = .ok (.aload_n 0, 1) := by decide +kernel
theorem dX0_coefficientFor_135 : decode cX0_coefficientFor 135 = .ok (.getfield 20, 3) := by decide +kernel
theorem dX0_coefficientFor_138 : decode cX0_coefficientFor 138 = .ok (.iload_n 2, 1) := by decide +kernel
theorem dX0_coefficientFor_139 : decode cX0_coefficientFor 139 = .ok (.iaload, 1) := by decide +kernel
theorem dX0_coefficientFor_140 : decode cX0_coefficientFor 140 = .ok (.invokevirtual 42, 3) := by decide +kernel
theorem dX0_coefficientFor_143 : decode cX0_coefficientFor 143 = .ok (.istore 8, 2) := by decide +kernel
theorem dX0_coefficientFor_145 : decode cX0_coefficientFor 145 = .ok (.aload_n 0, 1) := by decide +kernel
theorem dX0_coefficientFor_146 : decode cX0_coefficientFor 146 = .ok (.iload 4, 2) := by decide +kernel
theorem dX0_coefficientFor_148 : decode cX0_coefficientFor 148 = .ok (.iload 8, 2) := by decide +kernel
theorem dX0_coefficientFor_150 : decode cX0_coefficientFor 150 = .ok (.iadd, 1) := by decide +kernel
theorem dX0_coefficientFor_151 : decode cX0_coefficientFor 151 = .ok (.invokevirtual 38, 3) := by decide +kernel
theorem dX0_coefficientFor_154 : decode cX0_coefficientFor 154 = .ok (.istore 4, 2) := by decide +kernel
theorem dX0_coefficientFor_156 : decode cX0_coefficientFor 156 = .ok (.aload_n 0, 1) := by decide +kernel
theorem dX0_coefficientFor_157 : decode cX0_coefficientFor 157 = .ok (.iload 5, 2) := by decide +kernel
theorem dX0_coefficientFor_159 : decode cX0_coefficientFor 159 = .ok (.invokevirtual 97, 3) := by decide +kernel
theorem dX0_coefficientFor_162 : decode cX0_coefficientFor 162 = .ok (.aload_n 0, 1) := by decide +kernel
theorem dX0_coefficientFor_163 : decode cX0_coefficientFor 163 = .ok (.iload 5, 2) := by decide +kernel
theorem dX0_coefficientFor_165 : decode cX0_coefficientFor 165 = .ok (.invokevirtual 100, 3) := by decide +kernel
theorem dX0_coefficientFor_168 : decode cX0_coefficientFor 168 = .ok (.aload_n 0, 1) := by decide +kernel
theorem dX0_coefficientFor_169 : decode cX0_coefficientFor 169 = .ok (.iload_n 3, 1) := by decide +kernel
theorem dX0_coefficientFor_170 : decode cX0_coefficientFor 170 = .ok (.iload 5, 2) := by decide +kernel
theorem dX0_coefficientFor_172 : decode cX0_coefficientFor 172 = .ok (.iconst 1, 1) := by decide +kernel
theorem dX0_coefficientFor_173 : decode cX0_coefficientFor 173 = .ok (.iadd, 1) := by decide +kernel
theorem dX0_coefficientFor_174 : decode cX0_coefficientFor 174 = .ok (.invokevirtual 42, 3) := by decide +kernel
theorem dX0_coefficientFor_177 : decode cX0_coefficientFor 177 = .ok (.istore_n 3, 1) := by decide +kernel
theorem dX0_coefficientFor_178 : decode cX0_coefficientFor 178 = .ok (.iinc 5 1, 3) := by decide +kernel
theorem dX0_coefficientFor_181 : decode cX0_coefficientFor 181 = .ok (.goto (-77), 3) := by decide +kernel
theorem dX0_coefficientFor_184 : decode cX0_coefficientFor 184 = .ok (.iload 4, 2) := by decide +kernel
theorem dX0_coefficientFor_186 : decode cX0_coefficientFor 186 = .ok (.ireturn, 1) := by decide +kernel
abbrev cX0_shift : ByteArray := prog_1_method_25_code
def yX0_shift : MethodName := ⟨RX0, "shift", "(I)V"⟩
theorem dX0_shift_0 : decode cX0_shift 0 = .ok (.iconst 0, 1) := by decide +kernel
theorem dX0_shift_1 : decode cX0_shift 1 = .ok (.istore_n 2, 1) := by decide +kernel
theorem dX0_shift_2 : decode cX0_shift 2 = .ok (.iload_n 2, 1) := by decide +kernel
theorem dX0_shift_3 : decode cX0_shift 3 = .ok (.iconst 4, 1) := by decide +kernel
theorem dX0_shift_4 : decode cX0_shift 4 = .ok (.if_icmp .ge 35, 3) := by decide +kernel
theorem dX0_shift_7 : decode cX0_shift 7 = .ok (.aload_n 0, 1) := by decide +kernel
theorem dX0_shift_8 : decode cX0_shift 8 = .ok (.getfield 13, 3) := by decide +kernel
theorem dX0_shift_11 : decode cX0_shift 11 = .ok (.iload_n 2, 1) := by decide +kernel
theorem dX0_shift_12 : decode cX0_shift 12 = .ok (.iconst 5, 1) := by decide +kernel
theorem dX0_shift_13 : decode cX0_shift 13 = .ok (.imul, 1) := by decide +kernel
theorem dX0_shift_14 : decode cX0_shift 14 = .ok (.iload_n 2, 1) := by decide +kernel
theorem dX0_shift_15 : decode cX0_shift 15 = .ok (.iadd, 1) := by decide +kernel
theorem dX0_shift_16 : decode cX0_shift 16 = .ok (.aload_n 0, 1) := by decide +kernel
theorem dX0_shift_17 : decode cX0_shift 17 = .ok (.aload_n 0, 1) := by decide +kernel
theorem dX0_shift_18 : decode cX0_shift 18 = .ok (.getfield 13, 3) := by decide +kernel
theorem dX0_shift_21 : decode cX0_shift 21 = .ok (.iload_n 2, 1) := by decide +kernel
theorem dX0_shift_22 : decode cX0_shift 22 = .ok (.iconst 5, 1) := by decide +kernel
theorem dX0_shift_23 : decode cX0_shift 23 = .ok (.imul, 1) := by decide +kernel
theorem dX0_shift_24 : decode cX0_shift 24 = .ok (.iload_n 2, 1) := by decide +kernel
theorem dX0_shift_25 : decode cX0_shift 25 = .ok (.iadd, 1) := by decide +kernel
theorem dX0_shift_26 : decode cX0_shift 26 = .ok (.iaload, 1) := by decide +kernel
theorem dX0_shift_27 : decode cX0_shift 27 = .ok (.iload_n 1, 1) := by decide +kernel
theorem dX0_shift_28 : decode cX0_shift 28 = .ok (.iadd, 1) := by decide +kernel
theorem dX0_shift_29 : decode cX0_shift 29 = .ok (.invokevirtual 38, 3) := by decide +kernel
theorem dX0_shift_32 : decode cX0_shift 32 = .ok (.iastore, 1) := by decide +kernel
theorem dX0_shift_33 : decode cX0_shift 33 = .ok (.iinc 2 1, 3) := by decide +kernel
theorem dX0_shift_36 : decode cX0_shift 36 = .ok (.goto (-34), 3) := by decide +kernel
theorem dX0_shift_39 : decode cX0_shift 39 = .ok (.return_, 1) := by decide +kernel
abbrev cX0_nextProduct : ByteArray := prog_1_method_33_code
def yX0_nextProduct : MethodName := ⟨RX0, "nextProduct", "(I)V"⟩
theorem dX0_nextProduct_0 : decode cX0_nextProduct 0 = .ok (.iconst 4, 1) := by decide +kernel
theorem dX0_nextProduct_1 : decode cX0_nextProduct 1 = .ok (.istore_n 2, 1) := by decide +kernel
theorem dX0_nextProduct_2 : decode cX0_nextProduct 2 = .ok (.iload_n 2, 1) := by decide +kernel
theorem dX0_nextProduct_3 : decode cX0_nextProduct 3 = .ok (.ifCond .lt 53, 3) := by decide +kernel
theorem dX0_nextProduct_6 : decode cX0_nextProduct 6 = .ok (.iload_n 2, 1) := by decide +kernel
theorem dX0_nextProduct_7 : decode cX0_nextProduct 7 = .ok (.ifCond .le 14, 3) := by decide +kernel
theorem dX0_nextProduct_10 : decode cX0_nextProduct 10 = .ok (.aload_n 0, 1) := by decide +kernel
theorem dX0_nextProduct_11 : decode cX0_nextProduct 11 = .ok (.getfield 20, 3) := by decide +kernel
theorem dX0_nextProduct_14 : decode cX0_nextProduct 14 = .ok (.iload_n 2, 1) := by decide +kernel
theorem dX0_nextProduct_15 : decode cX0_nextProduct 15 = .ok (.iconst 1, 1) := by decide +kernel
theorem dX0_nextProduct_16 : decode cX0_nextProduct 16 = .ok (.isub, 1) := by decide +kernel
theorem dX0_nextProduct_17 : decode cX0_nextProduct 17 = .ok (.iaload, 1) := by decide +kernel
theorem dX0_nextProduct_18 : decode cX0_nextProduct 18 = .ok (.goto 4, 3) := by decide +kernel
theorem dX0_nextProduct_21 : decode cX0_nextProduct 21 = .ok (.iconst 0, 1) := by decide +kernel
theorem dX0_nextProduct_22 : decode cX0_nextProduct 22 = .ok (.istore_n 3, 1) := by decide +kernel
theorem dX0_nextProduct_23 : decode cX0_nextProduct 23 = .ok (.aload_n 0, 1) := by decide +kernel
theorem dX0_nextProduct_24 : decode cX0_nextProduct 24 = .ok (.iload_n 1, 1) := by decide +kernel
theorem dX0_nextProduct_25 : decode cX0_nextProduct 25 = .ok (.aload_n 0, 1) := by decide +kernel
theorem dX0_nextProduct_26 : decode cX0_nextProduct 26 = .ok (.getfield 20, 3) := by decide +kernel
theorem dX0_nextProduct_29 : decode cX0_nextProduct 29 = .ok (.iload_n 2, 1) := by decide +kernel
theorem dX0_nextProduct_30 : decode cX0_nextProduct 30 = .ok (.iaload, 1) := by decide +kernel
theorem dX0_nextProduct_31 : decode cX0_nextProduct 31 = .ok (.invokevirtual 42, 3) := by decide +kernel
theorem dX0_nextProduct_34 : decode cX0_nextProduct 34 = .ok (.istore 4, 2) := by decide +kernel
theorem dX0_nextProduct_36 : decode cX0_nextProduct 36 = .ok (.aload_n 0, 1) := by decide +kernel
theorem dX0_nextProduct_37 : decode cX0_nextProduct 37 = .ok (.getfield 23, 3) := by decide +kernel
theorem dX0_nextProduct_40 : decode cX0_nextProduct 40 = .ok (.iload_n 2, 1) := by decide +kernel
theorem dX0_nextProduct_41 : decode cX0_nextProduct 41 = .ok (.aload_n 0, 1) := by decide +kernel
theorem dX0_nextProduct_42 : decode cX0_nextProduct 42 = .ok (.iload_n 3, 1) := by decide +kernel
theorem dX0_nextProduct_43 : decode cX0_nextProduct 43 = .ok (.iload 4, 2) := by decide +kernel
theorem dX0_nextProduct_45 : decode cX0_nextProduct 45 = .ok (.isub, 1) := by decide +kernel
theorem dX0_nextProduct_46 : decode cX0_nextProduct 46 = .ok (.invokevirtual 38, 3) := by decide +kernel
theorem dX0_nextProduct_49 : decode cX0_nextProduct 49 = .ok (.iastore, 1) := by decide +kernel
theorem dX0_nextProduct_50 : decode cX0_nextProduct 50 = .ok (.iinc 2 (-1), 3) := by decide +kernel
theorem dX0_nextProduct_53 : decode cX0_nextProduct 53 = .ok (.goto (-51), 3) := by decide +kernel
theorem dX0_nextProduct_56 : decode cX0_nextProduct 56 = .ok (.iconst 0, 1) := by decide +kernel
theorem dX0_nextProduct_57 : decode cX0_nextProduct 57 = .ok (.istore_n 2, 1) := by decide +kernel
theorem dX0_nextProduct_58 : decode cX0_nextProduct 58 = .ok (.iload_n 2, 1) := by decide +kernel
theorem dX0_nextProduct_59 : decode cX0_nextProduct 59 = .ok (.iconst 4, 1) := by decide +kernel
theorem dX0_nextProduct_60 : decode cX0_nextProduct 60 = .ok (.if_icmp .gt 21, 3) := by decide +kernel
theorem dX0_nextProduct_63 : decode cX0_nextProduct 63 = .ok (.aload_n 0, 1) := by decide +kernel
theorem dX0_nextProduct_64 : decode cX0_nextProduct 64 = .ok (.getfield 20, 3) := by decide +kernel
theorem dX0_nextProduct_67 : decode cX0_nextProduct 67 = .ok (.iload_n 2, 1) := by decide +kernel
theorem dX0_nextProduct_68 : decode cX0_nextProduct 68 = .ok (.aload_n 0, 1) := by decide +kernel
theorem dX0_nextProduct_69 : decode cX0_nextProduct 69 = .ok (.getfield 23, 3) := by decide +kernel
theorem dX0_nextProduct_72 : decode cX0_nextProduct 72 = .ok (.iload_n 2, 1) := by decide +kernel
theorem dX0_nextProduct_73 : decode cX0_nextProduct 73 = .ok (.iaload, 1) := by decide +kernel
theorem dX0_nextProduct_74 : decode cX0_nextProduct 74 = .ok (.iastore, 1) := by decide +kernel
theorem dX0_nextProduct_75 : decode cX0_nextProduct 75 = .ok (.iinc 2 1, 3) := by decide +kernel
theorem dX0_nextProduct_78 : decode cX0_nextProduct 78 = .ok (.goto (-20), 3) := by decide +kernel
theorem dX0_nextProduct_81 : decode cX0_nextProduct 81 = .ok (.return_, 1) := by decide +kernel
abbrev cX0_nextDifferences : ByteArray := prog_1_method_34_code
def yX0_nextDifferences : MethodName := ⟨RX0, "nextDifferences", "(I)V"⟩
theorem dX0_nextDifferences_0 : decode cX0_nextDifferences 0 = .ok (.iconst 0, 1) := by decide +kernel
theorem dX0_nextDifferences_1 : decode cX0_nextDifferences 1 = .ok (.istore_n 2, 1) := by decide +kernel
theorem dX0_nextDifferences_2 : decode cX0_nextDifferences 2 = .ok (.iload_n 2, 1) := by decide +kernel
theorem dX0_nextDifferences_3 : decode cX0_nextDifferences 3 = .ok (.iload_n 1, 1) := by decide +kernel
theorem dX0_nextDifferences_4 : decode cX0_nextDifferences 4 = .ok (.iadd, 1) := by decide +kernel
theorem dX0_nextDifferences_5 : decode cX0_nextDifferences 5 = .ok (.iconst 4, 1) := by decide +kernel
theorem dX0_nextDifferences_6 : decode cX0_nextDifferences 6 = .ok (.if_icmp .ge 34, 3) := by decide +kernel
theorem dX0_nextDifferences_9 : decode cX0_nextDifferences 9 = .ok (.aload_n 0, 1) := by decide +kernel
theorem dX0_nextDifferences_10 : decode cX0_nextDifferences 10 = .ok (.getfield 17, 3) := by decide +kernel
theorem dX0_nextDifferences_13 : decode cX0_nextDifferences 13 = .ok (.iload_n 2, 1) := by decide +kernel
theorem dX0_nextDifferences_14 : decode cX0_nextDifferences 14 = .ok (.aload_n 0, 1) := by decide +kernel
theorem dX0_nextDifferences_15 : decode cX0_nextDifferences 15 = .ok (.aload_n 0, 1) := by decide +kernel
theorem dX0_nextDifferences_16 : decode cX0_nextDifferences 16 = .ok (.getfield 17, 3) := by decide +kernel
theorem dX0_nextDifferences_19 : decode cX0_nextDifferences 19 = .ok (.iload_n 2, 1) := by decide +kernel
theorem dX0_nextDifferences_20 : decode cX0_nextDifferences 20 = .ok (.iconst 1, 1) := by decide +kernel
theorem dX0_nextDifferences_21 : decode cX0_nextDifferences 21 = .ok (.iadd, 1) := by decide +kernel
theorem dX0_nextDifferences_22 : decode cX0_nextDifferences 22 = .ok (.iaload, 1) := by decide +kernel
theorem dX0_nextDifferences_23 : decode cX0_nextDifferences 23 = .ok (.aload_n 0, 1) := by decide +kernel
theorem dX0_nextDifferences_24 : decode cX0_nextDifferences 24 = .ok (.getfield 17, 3) := by decide +kernel
theorem dX0_nextDifferences_27 : decode cX0_nextDifferences 27 = .ok (.iload_n 2, 1) := by decide +kernel
theorem dX0_nextDifferences_28 : decode cX0_nextDifferences 28 = .ok (.iaload, 1) := by decide +kernel
theorem dX0_nextDifferences_29 : decode cX0_nextDifferences 29 = .ok (.isub, 1) := by decide +kernel
theorem dX0_nextDifferences_30 : decode cX0_nextDifferences 30 = .ok (.invokevirtual 38, 3) := by decide +kernel
theorem dX0_nextDifferences_33 : decode cX0_nextDifferences 33 = .ok (.iastore, 1) := by decide +kernel
theorem dX0_nextDifferences_34 : decode cX0_nextDifferences 34 = .ok (.iinc 2 1, 3) := by decide +kernel
theorem dX0_nextDifferences_37 : decode cX0_nextDifferences 37 = .ok (.goto (-35), 3) := by decide +kernel
theorem dX0_nextDifferences_40 : decode cX0_nextDifferences 40 = .ok (.return_, 1) := by decide +kernel
abbrev cX0_principal : ByteArray := prog_1_method_30_code
def yX0_principal : MethodName := ⟨RX0, "principal", "(I)I"⟩
theorem dX0_principal_0 : decode cX0_principal 0 = .ok (.iload_n 1, 1) := by decide +kernel
theorem dX0_principal_1 : decode cX0_principal 1 = .ok (.iconst 1, 1) := by decide +kernel
theorem dX0_principal_2 : decode cX0_principal 2 = .ok (.if_icmp .lt 8, 3) := by decide +kernel
theorem dX0_principal_5 : decode cX0_principal 5 = .ok (.iload_n 1, 1) := by decide +kernel
theorem dX0_principal_6 : decode cX0_principal 6 = .ok (.iconst 4, 1) := by decide +kernel
theorem dX0_principal_7 : decode cX0_principal 7 = .ok (.if_icmp .le 6, 3) := by decide +kernel
theorem dX0_principal_10 : decode cX0_principal 10 = .ok (.ldc 33, 2) := by decide +kernel
theorem dX0_principal_12 : decode cX0_principal 12 = .ok (.ireturn, 1) := by decide +kernel
theorem dX0_principal_13 : decode cX0_principal 13 = .ok (.aload_n 0, 1) := by decide +kernel
theorem dX0_principal_14 : decode cX0_principal 14 = .ok (.iconst 4, 1) := by decide +kernel
theorem dX0_principal_15 : decode cX0_principal 15 = .ok (.iload_n 1, 1) := by decide +kernel
theorem dX0_principal_16 : decode cX0_principal 16 = .ok (.isub, 1) := by decide +kernel
theorem dX0_principal_17 : decode cX0_principal 17 = .ok (.invokevirtual 91, 3) := by decide +kernel
theorem dX0_principal_20 : decode cX0_principal 20 = .ok (.istore_n 2, 1) := by decide +kernel
theorem dX0_principal_21 : decode cX0_principal 21 = .ok (.iload_n 1, 1) := by decide +kernel
theorem dX0_principal_22 : decode cX0_principal 22 = .ok (.iconst 1, 1) := by decide +kernel
theorem dX0_principal_23 : decode cX0_principal 23 = .ok (.iand, 1) := by decide +kernel
theorem dX0_principal_24 : decode cX0_principal 24 = .ok (.ifCond .ne 7, 3) := by decide +kernel
theorem dX0_principal_27 : decode cX0_principal 27 = .ok (.iload_n 2, 1) := by decide +kernel
theorem dX0_principal_28 : decode cX0_principal 28 = .ok (.goto 5, 3) := by decide +kernel
theorem dX0_principal_31 : decode cX0_principal 31 = .ok (.iload_n 2, 1) := by decide +kernel
theorem dX0_principal_32 : decode cX0_principal 32 = .ok (.ineg, 1) := by decide +kernel
theorem dX0_principal_33 : decode cX0_principal 33 = .ok (.ireturn, 1) := by decide +kernel
abbrev cX0_rankOf : ByteArray := prog_1_method_31_code
def yX0_rankOf : MethodName := ⟨RX0, "rankOf", "(I)I"⟩
theorem dX0_rankOf_0 : decode cX0_rankOf 0 = .ok (.iload_n 1, 1) := by decide +kernel
theorem dX0_rankOf_1 : decode cX0_rankOf 1 = .ok (.ifCond .lt 9, 3) := by decide +kernel
theorem dX0_rankOf_4 : decode cX0_rankOf 4 = .ok (.iload_n 1, 1) := by decide +kernel
theorem dX0_rankOf_5 : decode cX0_rankOf 5 = .ok (.bipush 15, 2) := by decide +kernel
theorem dX0_rankOf_7 : decode cX0_rankOf 7 = .ok (.if_icmp .le 8, 3) := by decide +kernel
theorem dX0_rankOf_10 : decode cX0_rankOf 10 = .ok (.ldc 33, 2) := by decide +kernel
theorem dX0_rankOf_12 : decode cX0_rankOf 12 = .ok (.goto 9, 3) := by decide +kernel
theorem dX0_rankOf_15 : decode cX0_rankOf 15 = .ok (.aload_n 0, 1) := by decide +kernel
theorem dX0_rankOf_16 : decode cX0_rankOf 16 = .ok (.iload_n 1, 1) := by decide +kernel
theorem dX0_rankOf_17 : decode cX0_rankOf 17 = .ok (.iconst 4, 1) := by decide +kernel
theorem dX0_rankOf_18 : decode cX0_rankOf 18 = .ok (.invokevirtual 79, 3) := by decide +kernel
theorem dX0_rankOf_21 : decode cX0_rankOf 21 = .ok (.ireturn, 1) := by decide +kernel
abbrev cX0_determinantWith : ByteArray := prog_1_method_35_code
def yX0_determinantWith : MethodName := ⟨RX0, "determinantWith", "(III)I"⟩
theorem dX0_determinantWith_0 : decode cX0_determinantWith 0 = .ok (.iload_n 1, 1) := by decide +kernel
theorem dX0_determinantWith_1 : decode cX0_determinantWith 1 = .ok (.invokestatic 26, 3) := by decide +kernel
theorem dX0_determinantWith_4 : decode cX0_determinantWith 4 = .ok (.ifCond .eq 17, 3) := by decide +kernel
theorem dX0_determinantWith_7 : decode cX0_determinantWith 7 = .ok (.iload_n 2, 1) := by decide +kernel
theorem dX0_determinantWith_8 : decode cX0_determinantWith 8 = .ok (.invokestatic 26, 3) := by decide +kernel
theorem dX0_determinantWith_11 : decode cX0_determinantWith 11 = .ok (.ifCond .eq 10, 3) := by decide +kernel
theorem dX0_determinantWith_14 : decode cX0_determinantWith 14 = .ok (.iload_n 3, 1) := by decide +kernel
theorem dX0_determinantWith_15 : decode cX0_determinantWith 15 = .ok (.invokestatic 30, 3) := by decide +kernel
theorem dX0_determinantWith_18 : decode cX0_determinantWith 18 = .ok (.ifCond .ne 6, 3) := by decide +kernel
theorem dX0_determinantWith_21 : decode cX0_determinantWith 21 = .ok (.ldc 33, 2) := by decide +kernel
theorem dX0_determinantWith_23 : decode cX0_determinantWith 23 = .ok (.ireturn, 1) := by decide +kernel
theorem dX0_determinantWith_24 : decode cX0_determinantWith 24 = .ok (.aload_n 0, 1) := by decide +kernel
theorem dX0_determinantWith_25 : decode cX0_determinantWith 25 = .ok (.getfield 7, 3) := by decide +kernel
theorem dX0_determinantWith_28 : decode cX0_determinantWith 28 = .ok (.iload_n 1, 1) := by decide +kernel
theorem dX0_determinantWith_29 : decode cX0_determinantWith 29 = .ok (.iconst 5, 1) := by decide +kernel
theorem dX0_determinantWith_30 : decode cX0_determinantWith 30 = .ok (.imul, 1) := by decide +kernel
theorem dX0_determinantWith_31 : decode cX0_determinantWith 31 = .ok (.iload_n 2, 1) := by decide +kernel
theorem dX0_determinantWith_32 : decode cX0_determinantWith 32 = .ok (.iadd, 1) := by decide +kernel
theorem dX0_determinantWith_33 : decode cX0_determinantWith 33 = .ok (.baload, 1) := by decide +kernel
theorem dX0_determinantWith_34 : decode cX0_determinantWith 34 = .ok (.istore 4, 2) := by decide +kernel
theorem dX0_determinantWith_36 : decode cX0_determinantWith 36 = .ok (.aload_n 0, 1) := by decide +kernel
theorem dX0_determinantWith_37 : decode cX0_determinantWith 37 = .ok (.getfield 7, 3) := by decide +kernel
theorem dX0_determinantWith_40 : decode cX0_determinantWith 40 = .ok (.iload_n 1, 1) := by decide +kernel
theorem dX0_determinantWith_41 : decode cX0_determinantWith 41 = .ok (.iconst 5, 1) := by decide +kernel
theorem dX0_determinantWith_42 : decode cX0_determinantWith 42 = .ok (.imul, 1) := by decide +kernel
theorem dX0_determinantWith_43 : decode cX0_determinantWith 43 = .ok (.iload_n 2, 1) := by decide +kernel
theorem dX0_determinantWith_44 : decode cX0_determinantWith 44 = .ok (.iadd, 1) := by decide +kernel
theorem dX0_determinantWith_45 : decode cX0_determinantWith 45 = .ok (.iload_n 3, 1) := by decide +kernel
theorem dX0_determinantWith_46 : decode cX0_determinantWith 46 = .ok (.i2b, 1) := by decide +kernel
theorem dX0_determinantWith_47 : decode cX0_determinantWith 47 = .ok (.bastore, 1) := by decide +kernel
theorem dX0_determinantWith_48 : decode cX0_determinantWith 48 = .ok (.aload_n 0, 1) := by decide +kernel
theorem dX0_determinantWith_49 : decode cX0_determinantWith 49 = .ok (.invokevirtual 103, 3) := by decide +kernel
theorem dX0_determinantWith_52 : decode cX0_determinantWith 52 = .ok (.istore 5, 2) := by decide +kernel
theorem dX0_determinantWith_54 : decode cX0_determinantWith 54 = .ok (.aload_n 0, 1) := by decide +kernel
theorem dX0_determinantWith_55 : decode cX0_determinantWith 55 = .ok (.getfield 7, 3) := by decide +kernel
theorem dX0_determinantWith_58 : decode cX0_determinantWith 58 = .ok (.iload_n 1, 1) := by decide +kernel
theorem dX0_determinantWith_59 : decode cX0_determinantWith 59 = .ok (.iconst 5, 1) := by decide +kernel
theorem dX0_determinantWith_60 : decode cX0_determinantWith 60 = .ok (.imul, 1) := by decide +kernel
theorem dX0_determinantWith_61 : decode cX0_determinantWith 61 = .ok (.iload_n 2, 1) := by decide +kernel
theorem dX0_determinantWith_62 : decode cX0_determinantWith 62 = .ok (.iadd, 1) := by decide +kernel
theorem dX0_determinantWith_63 : decode cX0_determinantWith 63 = .ok (.iload 4, 2) := by decide +kernel
theorem dX0_determinantWith_65 : decode cX0_determinantWith 65 = .ok (.bastore, 1) := by decide +kernel
theorem dX0_determinantWith_66 : decode cX0_determinantWith 66 = .ok (.iload 5, 2) := by decide +kernel
theorem dX0_determinantWith_68 : decode cX0_determinantWith 68 = .ok (.ireturn, 1) := by decide +kernel
abbrev cX0_shifted : ByteArray := prog_1_method_36_code
def yX0_shifted : MethodName := ⟨RX0, "shifted", "(I)I"⟩
theorem dX0_shifted_0 : decode cX0_shifted 0 = .ok (.iload_n 1, 1) := by decide +kernel
theorem dX0_shifted_1 : decode cX0_shifted 1 = .ok (.invokestatic 30, 3) := by decide +kernel
theorem dX0_shifted_4 : decode cX0_shifted 4 = .ok (.ifCond .ne 6, 3) := by decide +kernel
theorem dX0_shifted_7 : decode cX0_shifted 7 = .ok (.ldc 33, 2) := by decide +kernel
theorem dX0_shifted_9 : decode cX0_shifted 9 = .ok (.ireturn, 1) := by decide +kernel
theorem dX0_shifted_10 : decode cX0_shifted 10 = .ok (.aload_n 0, 1) := by decide +kernel
theorem dX0_shifted_11 : decode cX0_shifted 11 = .ok (.sipush 32749, 3) := by decide +kernel
theorem dX0_shifted_14 : decode cX0_shifted 14 = .ok (.invokevirtual 63, 3) := by decide +kernel
theorem dX0_shifted_17 : decode cX0_shifted 17 = .ok (.aload_n 0, 1) := by decide +kernel
theorem dX0_shifted_18 : decode cX0_shifted 18 = .ok (.iload_n 1, 1) := by decide +kernel
theorem dX0_shifted_19 : decode cX0_shifted 19 = .ok (.invokevirtual 94, 3) := by decide +kernel
theorem dX0_shifted_22 : decode cX0_shifted 22 = .ok (.aload_n 0, 1) := by decide +kernel
theorem dX0_shifted_23 : decode cX0_shifted 23 = .ok (.iconst 4, 1) := by decide +kernel
theorem dX0_shifted_24 : decode cX0_shifted 24 = .ok (.invokevirtual 67, 3) := by decide +kernel
theorem dX0_shifted_27 : decode cX0_shifted 27 = .ok (.istore_n 2, 1) := by decide +kernel
theorem dX0_shifted_28 : decode cX0_shifted 28 = .ok (.aload_n 0, 1) := by decide +kernel
theorem dX0_shifted_29 : decode cX0_shifted 29 = .ok (.sipush 32719, 3) := by decide +kernel
theorem dX0_shifted_32 : decode cX0_shifted 32 = .ok (.invokevirtual 63, 3) := by decide +kernel
theorem dX0_shifted_35 : decode cX0_shifted 35 = .ok (.aload_n 0, 1) := by decide +kernel
theorem dX0_shifted_36 : decode cX0_shifted 36 = .ok (.iload_n 1, 1) := by decide +kernel
theorem dX0_shifted_37 : decode cX0_shifted 37 = .ok (.invokevirtual 94, 3) := by decide +kernel
theorem dX0_shifted_40 : decode cX0_shifted 40 = .ok (.aload_n 0, 1) := by decide +kernel
theorem dX0_shifted_41 : decode cX0_shifted 41 = .ok (.iconst 4, 1) := by decide +kernel
theorem dX0_shifted_42 : decode cX0_shifted 42 = .ok (.invokevirtual 67, 3) := by decide +kernel
theorem dX0_shifted_45 : decode cX0_shifted 45 = .ok (.istore_n 3, 1) := by decide +kernel
theorem dX0_shifted_46 : decode cX0_shifted 46 = .ok (.aload_n 0, 1) := by decide +kernel
theorem dX0_shifted_47 : decode cX0_shifted 47 = .ok (.iload_n 2, 1) := by decide +kernel
theorem dX0_shifted_48 : decode cX0_shifted 48 = .ok (.iload_n 3, 1) := by decide +kernel
theorem dX0_shifted_49 : decode cX0_shifted 49 = .ok (.invokevirtual 70, 3) := by decide +kernel
theorem dX0_shifted_52 : decode cX0_shifted 52 = .ok (.ireturn, 1) := by decide +kernel
theorem q27 : (Jvm.Cond.initialized "DeterminantDesk") ∈ lw_all := lw_g (lw_at lw_m1 1 rfl) rfl
theorem q30 : (Jvm.Cond.instantiable "DeterminantDesk" (6 : Nat)) ∈ lw_all := lw_g (lw_at lw_m1 4 rfl) rfl
theorem q32 : (Jvm.Cond.instanceMethod ({ cls := "DeterminantDesk", name := "<init>", desc := "()V" } : Jvm.MethodName)) ∈ lw_all := lw_g (lw_at lw_m1 6 rfl) rfl
theorem q33 : (Jvm.Cond.code ({ cls := "DeterminantDesk", name := "<init>", desc := "()V" } : Jvm.MethodName) prog_1_method_1_code (1 : Nat) (Option.none : Option Jvm.ClassFile.FieldType)) ∈ lw_all := lw_g (lw_at lw_m1 7 rfl) rfl
theorem q34 : (Jvm.Cond.methodLink "DeterminantDesk" (1 : Nat) ({ cls := "java/lang/Object", name := "<init>", desc := "()V" } : Jvm.MethodName)) ∈ lw_all := lw_g (lw_at lw_m1 8 rfl) rfl
theorem q37 : (Jvm.Cond.fieldLink "DeterminantDesk" (7 : Nat) "DeterminantDesk" "numbers" "[B") ∈ lw_all := lw_g (lw_at lw_m1 11 rfl) rfl
theorem q38 : (Jvm.Cond.fieldLink "DeterminantDesk" (34 : Nat) "DeterminantDesk" "prime" "I") ∈ lw_all := lw_g (lw_at lw_m1 12 rfl) rfl
theorem q39 : (Jvm.Cond.fieldLink "DeterminantDesk" (13 : Nat) "DeterminantDesk" "work" "[I") ∈ lw_all := lw_g (lw_at lw_m1 13 rfl) rfl
theorem q40 : (Jvm.Cond.fieldLink "DeterminantDesk" (17 : Nat) "DeterminantDesk" "values" "[I") ∈ lw_all := lw_g (lw_at lw_m1 14 rfl) rfl
theorem q41 : (Jvm.Cond.fieldLink "DeterminantDesk" (20 : Nat) "DeterminantDesk" "product" "[I") ∈ lw_all := lw_g (lw_at lw_m1 15 rfl) rfl
theorem q42 : (Jvm.Cond.fieldLink "DeterminantDesk" (23 : Nat) "DeterminantDesk" "sum" "[I") ∈ lw_all := lw_g (lw_at lw_m1 16 rfl) rfl
theorem q43 : (Jvm.Cond.laysFinal "DeterminantDesk" "DeterminantDesk" "numbers" "[B") ∈ lw_all := lw_g (lw_at lw_m1 17 rfl) rfl
theorem q44 : (Jvm.Cond.soleField "DeterminantDesk" "numbers") ∈ lw_all := lw_g (lw_at lw_m1 18 rfl) rfl
theorem q45 : (Jvm.Cond.lays "DeterminantDesk" "DeterminantDesk" "prime" "I") ∈ lw_all := lw_g (lw_at lw_m1 19 rfl) rfl
theorem q46 : (Jvm.Cond.soleField "DeterminantDesk" "prime") ∈ lw_all := lw_g (lw_at lw_m1 20 rfl) rfl
theorem q47 : (Jvm.Cond.laysFinal "DeterminantDesk" "DeterminantDesk" "work" "[I") ∈ lw_all := lw_g (lw_at lw_m1 21 rfl) rfl
theorem q48 : (Jvm.Cond.soleField "DeterminantDesk" "work") ∈ lw_all := lw_g (lw_at lw_m1 22 rfl) rfl
theorem q49 : (Jvm.Cond.laysFinal "DeterminantDesk" "DeterminantDesk" "values" "[I") ∈ lw_all := lw_g (lw_at lw_m1 23 rfl) rfl
theorem q50 : (Jvm.Cond.soleField "DeterminantDesk" "values") ∈ lw_all := lw_g (lw_at lw_m1 24 rfl) rfl
theorem q51 : (Jvm.Cond.laysFinal "DeterminantDesk" "DeterminantDesk" "product" "[I") ∈ lw_all := lw_g (lw_at lw_m1 25 rfl) rfl
theorem q52 : (Jvm.Cond.soleField "DeterminantDesk" "product") ∈ lw_all := lw_g (lw_at lw_m1 26 rfl) rfl
theorem q53 : (Jvm.Cond.laysFinal "DeterminantDesk" "DeterminantDesk" "sum" "[I") ∈ lw_all := lw_g (lw_at lw_m1 27 rfl) rfl
theorem q54 : (Jvm.Cond.soleField "DeterminantDesk" "sum") ∈ lw_all := lw_g (lw_at lw_m1 28 rfl) rfl
theorem q55 : (Jvm.Cond.superclass "DeterminantDesk" "java/lang/Object") ∈ lw_all := lw_g (lw_at lw_m1 29 rfl) rfl
theorem q59 : (Jvm.Cond.instanceMethod ({ cls := "DeterminantDesk", name := "set", desc := "(III)Z" } : Jvm.MethodName)) ∈ lw_all := lw_g (lw_at lw_m1 33 rfl) rfl
theorem q60 : (Jvm.Cond.selects "DeterminantDesk" ({ cls := "DeterminantDesk", name := "set", desc := "(III)Z" } : Jvm.MethodName) ({ cls := "DeterminantDesk", name := "set", desc := "(III)Z" } : Jvm.MethodName)) ∈ lw_all := lw_g (lw_at lw_m1 34 rfl) rfl
theorem q61 : (Jvm.Cond.code ({ cls := "DeterminantDesk", name := "set", desc := "(III)Z" } : Jvm.MethodName) prog_1_method_4_code (4 : Nat) (Option.some Jvm.ClassFile.FieldType.boolean)) ∈ lw_all := lw_g (lw_at lw_m1 35 rfl) rfl
theorem q62 : (Jvm.Cond.methodLink "DeterminantDesk" (26 : Nat) ({ cls := "DeterminantDesk", name := "isRow", desc := "(I)Z" } : Jvm.MethodName)) ∈ lw_all := lw_g (lw_at lw_m1 36 rfl) rfl
theorem q63 : (Jvm.Cond.static ({ cls := "DeterminantDesk", name := "isRow", desc := "(I)Z" } : Jvm.MethodName)) ∈ lw_all := lw_g (lw_at lw_m1 37 rfl) rfl
theorem q64 : (Jvm.Cond.code ({ cls := "DeterminantDesk", name := "isRow", desc := "(I)Z" } : Jvm.MethodName) prog_1_method_2_code (1 : Nat) (Option.some Jvm.ClassFile.FieldType.boolean)) ∈ lw_all := lw_g (lw_at lw_m1 38 rfl) rfl
theorem q65 : (Jvm.Cond.methodLink "DeterminantDesk" (30 : Nat) ({ cls := "DeterminantDesk", name := "isNumber", desc := "(I)Z" } : Jvm.MethodName)) ∈ lw_all := lw_g (lw_at lw_m1 39 rfl) rfl
theorem q66 : (Jvm.Cond.static ({ cls := "DeterminantDesk", name := "isNumber", desc := "(I)Z" } : Jvm.MethodName)) ∈ lw_all := lw_g (lw_at lw_m1 40 rfl) rfl
end
section
set_option maxRecDepth 100000
theorem q67 : (Jvm.Cond.code ({ cls := "DeterminantDesk", name := "isNumber", desc := "(I)Z" } : Jvm.MethodName) prog_1_method_3_code (1 : Nat) (Option.some Jvm.ClassFile.FieldType.boolean)) ∈ lw_all := lw_g (lw_at lw_m1 41 rfl) rfl
theorem q69 : (Jvm.Cond.instanceMethod ({ cls := "DeterminantDesk", name := "at", desc := "(II)I" } : Jvm.MethodName)) ∈ lw_all := lw_g (lw_at lw_m1 43 rfl) rfl
theorem q70 : (Jvm.Cond.selects "DeterminantDesk" ({ cls := "DeterminantDesk", name := "at", desc := "(II)I" } : Jvm.MethodName) ({ cls := "DeterminantDesk", name := "at", desc := "(II)I" } : Jvm.MethodName)) ∈ lw_all := lw_g (lw_at lw_m1 44 rfl) rfl
theorem q71 : (Jvm.Cond.code ({ cls := "DeterminantDesk", name := "at", desc := "(II)I" } : Jvm.MethodName) prog_1_method_5_code (3 : Nat) (Option.some Jvm.ClassFile.FieldType.int)) ∈ lw_all := lw_g (lw_at lw_m1 45 rfl) rfl
theorem q72 : (Jvm.Cond.constant "DeterminantDesk" (33 : Nat) (-1000000000 : Int32)) ∈ lw_all := lw_g (lw_at lw_m1 46 rfl) rfl
theorem q74 : (Jvm.Cond.instanceMethod ({ cls := "DeterminantDesk", name := "swapRows", desc := "(II)Z" } : Jvm.MethodName)) ∈ lw_all := lw_g (lw_at lw_m1 48 rfl) rfl
theorem q75 : (Jvm.Cond.selects "DeterminantDesk" ({ cls := "DeterminantDesk", name := "swapRows", desc := "(II)Z" } : Jvm.MethodName) ({ cls := "DeterminantDesk", name := "swapRows", desc := "(II)Z" } : Jvm.MethodName)) ∈ lw_all := lw_g (lw_at lw_m1 49 rfl) rfl
theorem q76 : (Jvm.Cond.code ({ cls := "DeterminantDesk", name := "swapRows", desc := "(II)Z" } : Jvm.MethodName) prog_1_method_6_code (5 : Nat) (Option.some Jvm.ClassFile.FieldType.boolean)) ∈ lw_all := lw_g (lw_at lw_m1 50 rfl) rfl
theorem q78 : (Jvm.Cond.instanceMethod ({ cls := "DeterminantDesk", name := "addRow", desc := "(III)Z" } : Jvm.MethodName)) ∈ lw_all := lw_g (lw_at lw_m1 52 rfl) rfl
theorem q79 : (Jvm.Cond.selects "DeterminantDesk" ({ cls := "DeterminantDesk", name := "addRow", desc := "(III)Z" } : Jvm.MethodName) ({ cls := "DeterminantDesk", name := "addRow", desc := "(III)Z" } : Jvm.MethodName)) ∈ lw_all := lw_g (lw_at lw_m1 53 rfl) rfl
theorem q80 : (Jvm.Cond.code ({ cls := "DeterminantDesk", name := "addRow", desc := "(III)Z" } : Jvm.MethodName) prog_1_method_7_code (6 : Nat) (Option.some Jvm.ClassFile.FieldType.boolean)) ∈ lw_all := lw_g (lw_at lw_m1 54 rfl) rfl
theorem q82 : (Jvm.Cond.instanceMethod ({ cls := "DeterminantDesk", name := "transpose", desc := "()V" } : Jvm.MethodName)) ∈ lw_all := lw_g (lw_at lw_m1 56 rfl) rfl
theorem q83 : (Jvm.Cond.selects "DeterminantDesk" ({ cls := "DeterminantDesk", name := "transpose", desc := "()V" } : Jvm.MethodName) ({ cls := "DeterminantDesk", name := "transpose", desc := "()V" } : Jvm.MethodName)) ∈ lw_all := lw_g (lw_at lw_m1 57 rfl) rfl
theorem q84 : (Jvm.Cond.code ({ cls := "DeterminantDesk", name := "transpose", desc := "()V" } : Jvm.MethodName) prog_1_method_8_code (4 : Nat) (Option.none : Option Jvm.ClassFile.FieldType)) ∈ lw_all := lw_g (lw_at lw_m1 58 rfl) rfl
theorem q86 : (Jvm.Cond.instanceMethod ({ cls := "DeterminantDesk", name := "determinant", desc := "()I" } : Jvm.MethodName)) ∈ lw_all := lw_g (lw_at lw_m1 60 rfl) rfl
theorem q87 : (Jvm.Cond.selects "DeterminantDesk" ({ cls := "DeterminantDesk", name := "determinant", desc := "()I" } : Jvm.MethodName) ({ cls := "DeterminantDesk", name := "determinant", desc := "()I" } : Jvm.MethodName)) ∈ lw_all := lw_g (lw_at lw_m1 61 rfl) rfl
theorem q88 : (Jvm.Cond.code ({ cls := "DeterminantDesk", name := "determinant", desc := "()I" } : Jvm.MethodName) prog_1_method_19_code (3 : Nat) (Option.some Jvm.ClassFile.FieldType.int)) ∈ lw_all := lw_g (lw_at lw_m1 62 rfl) rfl
theorem q89 : (Jvm.Cond.methodLink "DeterminantDesk" (63 : Nat) ({ cls := "DeterminantDesk", name := "load", desc := "(I)V" } : Jvm.MethodName)) ∈ lw_all := lw_g (lw_at lw_m1 63 rfl) rfl
theorem q90 : (Jvm.Cond.privateMethod ({ cls := "DeterminantDesk", name := "load", desc := "(I)V" } : Jvm.MethodName)) ∈ lw_tbl := lw_at lw_m1 64 rfl
theorem q91 : (Jvm.Cond.instanceMethod ({ cls := "DeterminantDesk", name := "load", desc := "(I)V" } : Jvm.MethodName)) ∈ lw_all := lw_g (lw_at lw_m1 65 rfl) rfl
theorem q92 : (Jvm.Cond.code ({ cls := "DeterminantDesk", name := "load", desc := "(I)V" } : Jvm.MethodName) prog_1_method_12_code (3 : Nat) (Option.none : Option Jvm.ClassFile.FieldType)) ∈ lw_all := lw_g (lw_at lw_m1 66 rfl) rfl
theorem q93 : (Jvm.Cond.methodLink "DeterminantDesk" (38 : Nat) ({ cls := "DeterminantDesk", name := "reduce", desc := "(I)I" } : Jvm.MethodName)) ∈ lw_all := lw_g (lw_at lw_m1 67 rfl) rfl
theorem q94 : (Jvm.Cond.privateMethod ({ cls := "DeterminantDesk", name := "reduce", desc := "(I)I" } : Jvm.MethodName)) ∈ lw_tbl := lw_at lw_m1 68 rfl
theorem q95 : (Jvm.Cond.instanceMethod ({ cls := "DeterminantDesk", name := "reduce", desc := "(I)I" } : Jvm.MethodName)) ∈ lw_all := lw_g (lw_at lw_m1 69 rfl) rfl
theorem q96 : (Jvm.Cond.code ({ cls := "DeterminantDesk", name := "reduce", desc := "(I)I" } : Jvm.MethodName) prog_1_method_9_code (3 : Nat) (Option.some Jvm.ClassFile.FieldType.int)) ∈ lw_all := lw_g (lw_at lw_m1 70 rfl) rfl
theorem q97 : (Jvm.Cond.methodLink "DeterminantDesk" (67 : Nat) ({ cls := "DeterminantDesk", name := "determinantOf", desc := "(I)I" } : Jvm.MethodName)) ∈ lw_all := lw_g (lw_at lw_m1 71 rfl) rfl
theorem q98 : (Jvm.Cond.privateMethod ({ cls := "DeterminantDesk", name := "determinantOf", desc := "(I)I" } : Jvm.MethodName)) ∈ lw_tbl := lw_at lw_m1 72 rfl
theorem q99 : (Jvm.Cond.instanceMethod ({ cls := "DeterminantDesk", name := "determinantOf", desc := "(I)I" } : Jvm.MethodName)) ∈ lw_all := lw_g (lw_at lw_m1 73 rfl) rfl
theorem q100 : (Jvm.Cond.code ({ cls := "DeterminantDesk", name := "determinantOf", desc := "(I)I" } : Jvm.MethodName) prog_1_method_16_code (5 : Nat) (Option.some Jvm.ClassFile.FieldType.int)) ∈ lw_all := lw_g (lw_at lw_m1 74 rfl) rfl
theorem q101 : (Jvm.Cond.methodLink "DeterminantDesk" (49 : Nat) ({ cls := "DeterminantDesk", name := "pivotFrom", desc := "(III)I" } : Jvm.MethodName)) ∈ lw_all := lw_g (lw_at lw_m1 75 rfl) rfl
theorem q102 : (Jvm.Cond.privateMethod ({ cls := "DeterminantDesk", name := "pivotFrom", desc := "(III)I" } : Jvm.MethodName)) ∈ lw_tbl := lw_at lw_m1 76 rfl
theorem q103 : (Jvm.Cond.instanceMethod ({ cls := "DeterminantDesk", name := "pivotFrom", desc := "(III)I" } : Jvm.MethodName)) ∈ lw_all := lw_g (lw_at lw_m1 77 rfl) rfl
theorem q104 : (Jvm.Cond.code ({ cls := "DeterminantDesk", name := "pivotFrom", desc := "(III)I" } : Jvm.MethodName) prog_1_method_13_code (5 : Nat) (Option.some Jvm.ClassFile.FieldType.int)) ∈ lw_all := lw_g (lw_at lw_m1 78 rfl) rfl
theorem q105 : (Jvm.Cond.methodLink "DeterminantDesk" (53 : Nat) ({ cls := "DeterminantDesk", name := "exchange", desc := "(II)V" } : Jvm.MethodName)) ∈ lw_all := lw_g (lw_at lw_m1 79 rfl) rfl
theorem q106 : (Jvm.Cond.privateMethod ({ cls := "DeterminantDesk", name := "exchange", desc := "(II)V" } : Jvm.MethodName)) ∈ lw_tbl := lw_at lw_m1 80 rfl
theorem q107 : (Jvm.Cond.instanceMethod ({ cls := "DeterminantDesk", name := "exchange", desc := "(II)V" } : Jvm.MethodName)) ∈ lw_all := lw_g (lw_at lw_m1 81 rfl) rfl
theorem q108 : (Jvm.Cond.code ({ cls := "DeterminantDesk", name := "exchange", desc := "(II)V" } : Jvm.MethodName) prog_1_method_14_code (5 : Nat) (Option.none : Option Jvm.ClassFile.FieldType)) ∈ lw_all := lw_g (lw_at lw_m1 82 rfl) rfl
theorem q109 : (Jvm.Cond.methodLink "DeterminantDesk" (42 : Nat) ({ cls := "DeterminantDesk", name := "times", desc := "(II)I" } : Jvm.MethodName)) ∈ lw_all := lw_g (lw_at lw_m1 83 rfl) rfl
theorem q110 : (Jvm.Cond.privateMethod ({ cls := "DeterminantDesk", name := "times", desc := "(II)I" } : Jvm.MethodName)) ∈ lw_tbl := lw_at lw_m1 84 rfl
theorem q111 : (Jvm.Cond.instanceMethod ({ cls := "DeterminantDesk", name := "times", desc := "(II)I" } : Jvm.MethodName)) ∈ lw_all := lw_g (lw_at lw_m1 85 rfl) rfl
theorem q112 : (Jvm.Cond.code ({ cls := "DeterminantDesk", name := "times", desc := "(II)I" } : Jvm.MethodName) prog_1_method_10_code (3 : Nat) (Option.some Jvm.ClassFile.FieldType.int)) ∈ lw_all := lw_g (lw_at lw_m1 86 rfl) rfl
theorem q113 : (Jvm.Cond.methodLink "DeterminantDesk" (57 : Nat) ({ cls := "DeterminantDesk", name := "clearBelow", desc := "(III)V" } : Jvm.MethodName)) ∈ lw_all := lw_g (lw_at lw_m1 87 rfl) rfl
theorem q114 : (Jvm.Cond.privateMethod ({ cls := "DeterminantDesk", name := "clearBelow", desc := "(III)V" } : Jvm.MethodName)) ∈ lw_tbl := lw_at lw_m1 88 rfl
theorem q115 : (Jvm.Cond.instanceMethod ({ cls := "DeterminantDesk", name := "clearBelow", desc := "(III)V" } : Jvm.MethodName)) ∈ lw_all := lw_g (lw_at lw_m1 89 rfl) rfl
theorem q116 : (Jvm.Cond.code ({ cls := "DeterminantDesk", name := "clearBelow", desc := "(III)V" } : Jvm.MethodName) prog_1_method_15_code (9 : Nat) (Option.none : Option Jvm.ClassFile.FieldType)) ∈ lw_all := lw_g (lw_at lw_m1 90 rfl) rfl
theorem q117 : (Jvm.Cond.methodLink "DeterminantDesk" (46 : Nat) ({ cls := "DeterminantDesk", name := "inverse", desc := "(I)I" } : Jvm.MethodName)) ∈ lw_all := lw_g (lw_at lw_m1 91 rfl) rfl
theorem q118 : (Jvm.Cond.privateMethod ({ cls := "DeterminantDesk", name := "inverse", desc := "(I)I" } : Jvm.MethodName)) ∈ lw_tbl := lw_at lw_m1 92 rfl
theorem q119 : (Jvm.Cond.instanceMethod ({ cls := "DeterminantDesk", name := "inverse", desc := "(I)I" } : Jvm.MethodName)) ∈ lw_all := lw_g (lw_at lw_m1 93 rfl) rfl
theorem q120 : (Jvm.Cond.code ({ cls := "DeterminantDesk", name := "inverse", desc := "(I)I" } : Jvm.MethodName) prog_1_method_11_code (5 : Nat) (Option.some Jvm.ClassFile.FieldType.int)) ∈ lw_all := lw_g (lw_at lw_m1 94 rfl) rfl
theorem q121 : (Jvm.Cond.methodLink "DeterminantDesk" (70 : Nat) ({ cls := "DeterminantDesk", name := "join", desc := "(II)I" } : Jvm.MethodName)) ∈ lw_all := lw_g (lw_at lw_m1 95 rfl) rfl
theorem q122 : (Jvm.Cond.privateMethod ({ cls := "DeterminantDesk", name := "join", desc := "(II)I" } : Jvm.MethodName)) ∈ lw_tbl := lw_at lw_m1 96 rfl
theorem q123 : (Jvm.Cond.instanceMethod ({ cls := "DeterminantDesk", name := "join", desc := "(II)I" } : Jvm.MethodName)) ∈ lw_all := lw_g (lw_at lw_m1 97 rfl) rfl
theorem q124 : (Jvm.Cond.code ({ cls := "DeterminantDesk", name := "join", desc := "(II)I" } : Jvm.MethodName) prog_1_method_18_code (7 : Nat) (Option.some Jvm.ClassFile.FieldType.int)) ∈ lw_all := lw_g (lw_at lw_m1 98 rfl) rfl
theorem q125 : (Jvm.Cond.constant "DeterminantDesk" (61 : Nat) (535740906 : Int32)) ∈ lw_all := lw_g (lw_at lw_m1 99 rfl) rfl
theorem q126 : (Jvm.Cond.constant "DeterminantDesk" (62 : Nat) (1071514531 : Int32)) ∈ lw_all := lw_g (lw_at lw_m1 100 rfl) rfl
theorem q128 : (Jvm.Cond.instanceMethod ({ cls := "DeterminantDesk", name := "minor", desc := "(II)I" } : Jvm.MethodName)) ∈ lw_all := lw_g (lw_at lw_m1 102 rfl) rfl
theorem q129 : (Jvm.Cond.selects "DeterminantDesk" ({ cls := "DeterminantDesk", name := "minor", desc := "(II)I" } : Jvm.MethodName) ({ cls := "DeterminantDesk", name := "minor", desc := "(II)I" } : Jvm.MethodName)) ∈ lw_all := lw_g (lw_at lw_m1 103 rfl) rfl
theorem q130 : (Jvm.Cond.code ({ cls := "DeterminantDesk", name := "minor", desc := "(II)I" } : Jvm.MethodName) prog_1_method_21_code (5 : Nat) (Option.some Jvm.ClassFile.FieldType.int)) ∈ lw_all := lw_g (lw_at lw_m1 104 rfl) rfl
theorem q131 : (Jvm.Cond.methodLink "DeterminantDesk" (73 : Nat) ({ cls := "DeterminantDesk", name := "leaveOut", desc := "(II)V" } : Jvm.MethodName)) ∈ lw_all := lw_g (lw_at lw_m1 105 rfl) rfl
theorem q132 : (Jvm.Cond.privateMethod ({ cls := "DeterminantDesk", name := "leaveOut", desc := "(II)V" } : Jvm.MethodName)) ∈ lw_tbl := lw_at lw_m1 106 rfl
theorem q133 : (Jvm.Cond.instanceMethod ({ cls := "DeterminantDesk", name := "leaveOut", desc := "(II)V" } : Jvm.MethodName)) ∈ lw_all := lw_g (lw_at lw_m1 107 rfl) rfl
theorem q134 : (Jvm.Cond.code ({ cls := "DeterminantDesk", name := "leaveOut", desc := "(II)V" } : Jvm.MethodName) prog_1_method_20_code (6 : Nat) (Option.none : Option Jvm.ClassFile.FieldType)) ∈ lw_all := lw_g (lw_at lw_m1 108 rfl) rfl
theorem q136 : (Jvm.Cond.instanceMethod ({ cls := "DeterminantDesk", name := "replaced", desc := "(I)I" } : Jvm.MethodName)) ∈ lw_all := lw_g (lw_at lw_m1 110 rfl) rfl
theorem q137 : (Jvm.Cond.selects "DeterminantDesk" ({ cls := "DeterminantDesk", name := "replaced", desc := "(I)I" } : Jvm.MethodName) ({ cls := "DeterminantDesk", name := "replaced", desc := "(I)I" } : Jvm.MethodName)) ∈ lw_all := lw_g (lw_at lw_m1 111 rfl) rfl
theorem q138 : (Jvm.Cond.code ({ cls := "DeterminantDesk", name := "replaced", desc := "(I)I" } : Jvm.MethodName) prog_1_method_23_code (4 : Nat) (Option.some Jvm.ClassFile.FieldType.int)) ∈ lw_all := lw_g (lw_at lw_m1 112 rfl) rfl
theorem q139 : (Jvm.Cond.methodLink "DeterminantDesk" (76 : Nat) ({ cls := "DeterminantDesk", name := "replaceColumn", desc := "(I)V" } : Jvm.MethodName)) ∈ lw_all := lw_g (lw_at lw_m1 113 rfl) rfl
theorem q140 : (Jvm.Cond.privateMethod ({ cls := "DeterminantDesk", name := "replaceColumn", desc := "(I)V" } : Jvm.MethodName)) ∈ lw_tbl := lw_at lw_m1 114 rfl
theorem q141 : (Jvm.Cond.instanceMethod ({ cls := "DeterminantDesk", name := "replaceColumn", desc := "(I)V" } : Jvm.MethodName)) ∈ lw_all := lw_g (lw_at lw_m1 115 rfl) rfl
theorem q142 : (Jvm.Cond.code ({ cls := "DeterminantDesk", name := "replaceColumn", desc := "(I)V" } : Jvm.MethodName) prog_1_method_22_code (3 : Nat) (Option.none : Option Jvm.ClassFile.FieldType)) ∈ lw_all := lw_g (lw_at lw_m1 116 rfl) rfl
theorem q144 : (Jvm.Cond.instanceMethod ({ cls := "DeterminantDesk", name := "rank", desc := "()I" } : Jvm.MethodName)) ∈ lw_all := lw_g (lw_at lw_m1 118 rfl) rfl
theorem q145 : (Jvm.Cond.selects "DeterminantDesk" ({ cls := "DeterminantDesk", name := "rank", desc := "()I" } : Jvm.MethodName) ({ cls := "DeterminantDesk", name := "rank", desc := "()I" } : Jvm.MethodName)) ∈ lw_all := lw_g (lw_at lw_m1 119 rfl) rfl
theorem q146 : (Jvm.Cond.code ({ cls := "DeterminantDesk", name := "rank", desc := "()I" } : Jvm.MethodName) prog_1_method_24_code (1 : Nat) (Option.some Jvm.ClassFile.FieldType.int)) ∈ lw_all := lw_g (lw_at lw_m1 120 rfl) rfl
theorem q147 : (Jvm.Cond.methodLink "DeterminantDesk" (79 : Nat) ({ cls := "DeterminantDesk", name := "rankIn", desc := "(II)I" } : Jvm.MethodName)) ∈ lw_all := lw_g (lw_at lw_m1 121 rfl) rfl
theorem q148 : (Jvm.Cond.privateMethod ({ cls := "DeterminantDesk", name := "rankIn", desc := "(II)I" } : Jvm.MethodName)) ∈ lw_tbl := lw_at lw_m1 122 rfl
theorem q149 : (Jvm.Cond.instanceMethod ({ cls := "DeterminantDesk", name := "rankIn", desc := "(II)I" } : Jvm.MethodName)) ∈ lw_all := lw_g (lw_at lw_m1 123 rfl) rfl
theorem q150 : (Jvm.Cond.code ({ cls := "DeterminantDesk", name := "rankIn", desc := "(II)I" } : Jvm.MethodName) prog_1_method_28_code (6 : Nat) (Option.some Jvm.ClassFile.FieldType.int)) ∈ lw_all := lw_g (lw_at lw_m1 124 rfl) rfl
theorem q151 : (Jvm.Cond.methodLink "DeterminantDesk" (82 : Nat) ({ cls := "DeterminantDesk", name := "keepRows", desc := "(I)I" } : Jvm.MethodName)) ∈ lw_all := lw_g (lw_at lw_m1 125 rfl) rfl
theorem q152 : (Jvm.Cond.privateMethod ({ cls := "DeterminantDesk", name := "keepRows", desc := "(I)I" } : Jvm.MethodName)) ∈ lw_tbl := lw_at lw_m1 126 rfl
theorem q153 : (Jvm.Cond.instanceMethod ({ cls := "DeterminantDesk", name := "keepRows", desc := "(I)I" } : Jvm.MethodName)) ∈ lw_all := lw_g (lw_at lw_m1 127 rfl) rfl
theorem q154 : (Jvm.Cond.code ({ cls := "DeterminantDesk", name := "keepRows", desc := "(I)I" } : Jvm.MethodName) prog_1_method_27_code (4 : Nat) (Option.some Jvm.ClassFile.FieldType.int)) ∈ lw_all := lw_g (lw_at lw_m1 128 rfl) rfl
theorem q155 : (Jvm.Cond.methodLink "DeterminantDesk" (85 : Nat) ({ cls := "DeterminantDesk", name := "rankAtWork", desc := "(II)I" } : Jvm.MethodName)) ∈ lw_all := lw_g (lw_at lw_m1 129 rfl) rfl
theorem q156 : (Jvm.Cond.privateMethod ({ cls := "DeterminantDesk", name := "rankAtWork", desc := "(II)I" } : Jvm.MethodName)) ∈ lw_tbl := lw_at lw_m1 130 rfl
theorem q157 : (Jvm.Cond.instanceMethod ({ cls := "DeterminantDesk", name := "rankAtWork", desc := "(II)I" } : Jvm.MethodName)) ∈ lw_all := lw_g (lw_at lw_m1 131 rfl) rfl
theorem q158 : (Jvm.Cond.code ({ cls := "DeterminantDesk", name := "rankAtWork", desc := "(II)I" } : Jvm.MethodName) prog_1_method_17_code (6 : Nat) (Option.some Jvm.ClassFile.FieldType.int)) ∈ lw_all := lw_g (lw_at lw_m1 132 rfl) rfl
theorem q160 : (Jvm.Cond.instanceMethod ({ cls := "DeterminantDesk", name := "wideRank", desc := "()I" } : Jvm.MethodName)) ∈ lw_all := lw_g (lw_at lw_m1 134 rfl) rfl
theorem q161 : (Jvm.Cond.selects "DeterminantDesk" ({ cls := "DeterminantDesk", name := "wideRank", desc := "()I" } : Jvm.MethodName) ({ cls := "DeterminantDesk", name := "wideRank", desc := "()I" } : Jvm.MethodName)) ∈ lw_all := lw_g (lw_at lw_m1 135 rfl) rfl
theorem q162 : (Jvm.Cond.code ({ cls := "DeterminantDesk", name := "wideRank", desc := "()I" } : Jvm.MethodName) prog_1_method_26_code (1 : Nat) (Option.some Jvm.ClassFile.FieldType.int)) ∈ lw_all := lw_g (lw_at lw_m1 136 rfl) rfl
theorem q164 : (Jvm.Cond.instanceMethod ({ cls := "DeterminantDesk", name := "coefficient", desc := "(I)I" } : Jvm.MethodName)) ∈ lw_all := lw_g (lw_at lw_m1 138 rfl) rfl
theorem q165 : (Jvm.Cond.selects "DeterminantDesk" ({ cls := "DeterminantDesk", name := "coefficient", desc := "(I)I" } : Jvm.MethodName) ({ cls := "DeterminantDesk", name := "coefficient", desc := "(I)I" } : Jvm.MethodName)) ∈ lw_all := lw_g (lw_at lw_m1 139 rfl) rfl
theorem q166 : (Jvm.Cond.code ({ cls := "DeterminantDesk", name := "coefficient", desc := "(I)I" } : Jvm.MethodName) prog_1_method_29_code (4 : Nat) (Option.some Jvm.ClassFile.FieldType.int)) ∈ lw_all := lw_g (lw_at lw_m1 140 rfl) rfl
theorem q167 : (Jvm.Cond.methodLink "DeterminantDesk" (88 : Nat) ({ cls := "DeterminantDesk", name := "coefficientFor", desc := "(II)I" } : Jvm.MethodName)) ∈ lw_all := lw_g (lw_at lw_m1 141 rfl) rfl
theorem q168 : (Jvm.Cond.privateMethod ({ cls := "DeterminantDesk", name := "coefficientFor", desc := "(II)I" } : Jvm.MethodName)) ∈ lw_tbl := lw_at lw_m1 142 rfl
theorem q169 : (Jvm.Cond.instanceMethod ({ cls := "DeterminantDesk", name := "coefficientFor", desc := "(II)I" } : Jvm.MethodName)) ∈ lw_all := lw_g (lw_at lw_m1 143 rfl) rfl
theorem q170 : (Jvm.Cond.code ({ cls := "DeterminantDesk", name := "coefficientFor", desc := "(II)I" } : Jvm.MethodName) prog_1_method_32_code (9 : Nat) (Option.some Jvm.ClassFile.FieldType.int)) ∈ lw_all := lw_g (lw_at lw_m1 144 rfl) rfl
theorem q171 : (Jvm.Cond.methodLink "DeterminantDesk" (94 : Nat) ({ cls := "DeterminantDesk", name := "shift", desc := "(I)V" } : Jvm.MethodName)) ∈ lw_all := lw_g (lw_at lw_m1 145 rfl) rfl
theorem q172 : (Jvm.Cond.privateMethod ({ cls := "DeterminantDesk", name := "shift", desc := "(I)V" } : Jvm.MethodName)) ∈ lw_tbl := lw_at lw_m1 146 rfl
theorem q173 : (Jvm.Cond.instanceMethod ({ cls := "DeterminantDesk", name := "shift", desc := "(I)V" } : Jvm.MethodName)) ∈ lw_all := lw_g (lw_at lw_m1 147 rfl) rfl
theorem q174 : (Jvm.Cond.code ({ cls := "DeterminantDesk", name := "shift", desc := "(I)V" } : Jvm.MethodName) prog_1_method_25_code (3 : Nat) (Option.none : Option Jvm.ClassFile.FieldType)) ∈ lw_all := lw_g (lw_at lw_m1 148 rfl) rfl
theorem q175 : (Jvm.Cond.methodLink "DeterminantDesk" (97 : Nat) ({ cls := "DeterminantDesk", name := "nextProduct", desc := "(I)V" } : Jvm.MethodName)) ∈ lw_all := lw_g (lw_at lw_m1 149 rfl) rfl
theorem q176 : (Jvm.Cond.privateMethod ({ cls := "DeterminantDesk", name := "nextProduct", desc := "(I)V" } : Jvm.MethodName)) ∈ lw_tbl := lw_at lw_m1 150 rfl
theorem q177 : (Jvm.Cond.instanceMethod ({ cls := "DeterminantDesk", name := "nextProduct", desc := "(I)V" } : Jvm.MethodName)) ∈ lw_all := lw_g (lw_at lw_m1 151 rfl) rfl
theorem q178 : (Jvm.Cond.code ({ cls := "DeterminantDesk", name := "nextProduct", desc := "(I)V" } : Jvm.MethodName) prog_1_method_33_code (5 : Nat) (Option.none : Option Jvm.ClassFile.FieldType)) ∈ lw_all := lw_g (lw_at lw_m1 152 rfl) rfl
theorem q179 : (Jvm.Cond.methodLink "DeterminantDesk" (100 : Nat) ({ cls := "DeterminantDesk", name := "nextDifferences", desc := "(I)V" } : Jvm.MethodName)) ∈ lw_all := lw_g (lw_at lw_m1 153 rfl) rfl
theorem q180 : (Jvm.Cond.privateMethod ({ cls := "DeterminantDesk", name := "nextDifferences", desc := "(I)V" } : Jvm.MethodName)) ∈ lw_tbl := lw_at lw_m1 154 rfl
theorem q181 : (Jvm.Cond.instanceMethod ({ cls := "DeterminantDesk", name := "nextDifferences", desc := "(I)V" } : Jvm.MethodName)) ∈ lw_all := lw_g (lw_at lw_m1 155 rfl) rfl
theorem q182 : (Jvm.Cond.code ({ cls := "DeterminantDesk", name := "nextDifferences", desc := "(I)V" } : Jvm.MethodName) prog_1_method_34_code (3 : Nat) (Option.none : Option Jvm.ClassFile.FieldType)) ∈ lw_all := lw_g (lw_at lw_m1 156 rfl) rfl
theorem q184 : (Jvm.Cond.instanceMethod ({ cls := "DeterminantDesk", name := "principal", desc := "(I)I" } : Jvm.MethodName)) ∈ lw_all := lw_g (lw_at lw_m1 158 rfl) rfl
theorem q185 : (Jvm.Cond.selects "DeterminantDesk" ({ cls := "DeterminantDesk", name := "principal", desc := "(I)I" } : Jvm.MethodName) ({ cls := "DeterminantDesk", name := "principal", desc := "(I)I" } : Jvm.MethodName)) ∈ lw_all := lw_g (lw_at lw_m1 159 rfl) rfl
theorem q186 : (Jvm.Cond.code ({ cls := "DeterminantDesk", name := "principal", desc := "(I)I" } : Jvm.MethodName) prog_1_method_30_code (3 : Nat) (Option.some Jvm.ClassFile.FieldType.int)) ∈ lw_all := lw_g (lw_at lw_m1 160 rfl) rfl
theorem q187 : (Jvm.Cond.methodLink "DeterminantDesk" (91 : Nat) ({ cls := "DeterminantDesk", name := "coefficient", desc := "(I)I" } : Jvm.MethodName)) ∈ lw_all := lw_g (lw_at lw_m1 161 rfl) rfl
theorem q189 : (Jvm.Cond.instanceMethod ({ cls := "DeterminantDesk", name := "rankOf", desc := "(I)I" } : Jvm.MethodName)) ∈ lw_all := lw_g (lw_at lw_m1 163 rfl) rfl
theorem q190 : (Jvm.Cond.selects "DeterminantDesk" ({ cls := "DeterminantDesk", name := "rankOf", desc := "(I)I" } : Jvm.MethodName) ({ cls := "DeterminantDesk", name := "rankOf", desc := "(I)I" } : Jvm.MethodName)) ∈ lw_all := lw_g (lw_at lw_m1 164 rfl) rfl
theorem q191 : (Jvm.Cond.code ({ cls := "DeterminantDesk", name := "rankOf", desc := "(I)I" } : Jvm.MethodName) prog_1_method_31_code (2 : Nat) (Option.some Jvm.ClassFile.FieldType.int)) ∈ lw_all := lw_g (lw_at lw_m1 165 rfl) rfl
theorem q193 : (Jvm.Cond.instanceMethod ({ cls := "DeterminantDesk", name := "determinantWith", desc := "(III)I" } : Jvm.MethodName)) ∈ lw_all := lw_g (lw_at lw_m1 167 rfl) rfl
theorem q194 : (Jvm.Cond.selects "DeterminantDesk" ({ cls := "DeterminantDesk", name := "determinantWith", desc := "(III)I" } : Jvm.MethodName) ({ cls := "DeterminantDesk", name := "determinantWith", desc := "(III)I" } : Jvm.MethodName)) ∈ lw_all := lw_g (lw_at lw_m1 168 rfl) rfl
theorem q195 : (Jvm.Cond.code ({ cls := "DeterminantDesk", name := "determinantWith", desc := "(III)I" } : Jvm.MethodName) prog_1_method_35_code (6 : Nat) (Option.some Jvm.ClassFile.FieldType.int)) ∈ lw_all := lw_g (lw_at lw_m1 169 rfl) rfl
theorem q196 : (Jvm.Cond.methodLink "DeterminantDesk" (103 : Nat) ({ cls := "DeterminantDesk", name := "determinant", desc := "()I" } : Jvm.MethodName)) ∈ lw_all := lw_g (lw_at lw_m1 170 rfl) rfl
theorem q198 : (Jvm.Cond.instanceMethod ({ cls := "DeterminantDesk", name := "shifted", desc := "(I)I" } : Jvm.MethodName)) ∈ lw_all := lw_g (lw_at lw_m1 172 rfl) rfl
theorem q199 : (Jvm.Cond.selects "DeterminantDesk" ({ cls := "DeterminantDesk", name := "shifted", desc := "(I)I" } : Jvm.MethodName) ({ cls := "DeterminantDesk", name := "shifted", desc := "(I)I" } : Jvm.MethodName)) ∈ lw_all := lw_g (lw_at lw_m1 173 rfl) rfl
theorem q200 : (Jvm.Cond.code ({ cls := "DeterminantDesk", name := "shifted", desc := "(I)I" } : Jvm.MethodName) prog_1_method_36_code (4 : Nat) (Option.some Jvm.ClassFile.FieldType.int)) ∈ lw_all := lw_g (lw_at lw_m1 174 rfl) rfl
theorem in_X0 : ∀ w ∈ wsX00, w ∈ lw_all := lw_in wsX00 [43, 45, 47, 49, 51, 53] (by decide +kernel) (by decide +kernel)
/-! java/lang/Object -/
def RJ0 : String := "java/lang/Object"
abbrev cJ0_init : ByteArray := object_method_1_code
def yJ0_init : MethodName := ⟨RJ0, "<init>", "()V"⟩
theorem dJ0_init_0 : decode cJ0_init 0 = .ok (.return_, 1) := by decide +kernel
theorem q35 : (Jvm.Cond.instanceMethod ({ cls := "java/lang/Object", name := "<init>", desc := "()V" } : Jvm.MethodName)) ∈ lw_all := lw_g (lw_at lw_m1 9 rfl) rfl
theorem q36 : (Jvm.Cond.code ({ cls := "java/lang/Object", name := "<init>", desc := "()V" } : Jvm.MethodName) object_method_1_code (1 : Nat) (Option.none : Option Jvm.ClassFile.FieldType)) ∈ lw_all := lw_g (lw_at lw_m1 10 rfl) rfl
theorem q56 : (Jvm.Cond.arrayClass Jvm.ClassFile.FieldType.byte) ∈ lw_all := lw_g (lw_at lw_m1 30 rfl) rfl
theorem q57 : (Jvm.Cond.arrayClass Jvm.ClassFile.FieldType.int) ∈ lw_all := lw_g (lw_at lw_m1 31 rfl) rfl
theorem q217 : (Jvm.Cond.arrayClass Jvm.ClassFile.FieldType.long) ∈ lw_all := lw_g (lw_at lw_m1 191 rfl) rfl
end
section
set_option maxRecDepth 100000
/-! DeterminantDeskModel -/
def RX1 : String := "DeterminantDeskModel"
def TX1 : u_T := fun k => match k with
  | 0 => ("DeterminantDeskModel", "cells", "[I", false)
  | 1 => ("DeterminantDeskModel", "kept", "[I", false)
  | _ => ("DeterminantDeskModel", "table", "[J", false)
def tyX1 : Nat → FieldType := fun k => match k with
  | 0 => .array .int
  | 1 => .array .int
  | _ => .array .long
abbrev wsX10 : List Cond := u_ws RX1 TX1 3
theorem nmX1 : ∀ a, a < 3 → ∀ b, b < 3 → a ≠ b → (TX1 a).2.1 ≠ (TX1 b).2.1 := by decide +kernel
theorem tyX1_ok : ∀ k, k < 3 → parseFieldDescriptor (TX1 k).2.2.1 = some (tyX1 k) := by decide +kernel
abbrev cX1_init : ByteArray := prog_3_method_1_code
def yX1_init : MethodName := ⟨RX1, "<init>", "()V"⟩
theorem dX1_init_0 : decode cX1_init 0 = .ok (.aload_n 0, 1) := by decide +kernel
theorem dX1_init_1 : decode cX1_init 1 = .ok (.invokespecial 1, 3) := by decide +kernel
theorem dX1_init_4 : decode cX1_init 4 = .ok (.aload_n 0, 1) := by decide +kernel
theorem dX1_init_5 : decode cX1_init 5 = .ok (.bipush 20, 2) := by decide +kernel
theorem dX1_init_7 : decode cX1_init 7 = .ok (.newarray .int, 2) := by decide +kernel
theorem dX1_init_9 : decode cX1_init 9 = .ok (.putfield 7, 3) := by decide +kernel
theorem dX1_init_12 : decode cX1_init 12 = .ok (.aload_n 0, 1) := by decide +kernel
theorem dX1_init_13 : decode cX1_init 13 = .ok (.bipush 20, 2) := by decide +kernel
theorem dX1_init_15 : decode cX1_init 15 = .ok (.newarray .int, 2) := by decide +kernel
theorem dX1_init_17 : decode cX1_init 17 = .ok (.putfield 13, 3) := by decide +kernel
theorem dX1_init_20 : decode cX1_init 20 = .ok (.aload_n 0, 1) := by decide +kernel
theorem dX1_init_21 : decode cX1_init 21 = .ok (.bipush 32, 2) := by decide +kernel
theorem dX1_init_23 : decode cX1_init 23 = .ok (.newarray .long, 2) := by decide +kernel
theorem dX1_init_25 : decode cX1_init 25 = .ok (.putfield 16, 3) := by decide +kernel
theorem dX1_init_28 : decode cX1_init 28 = .ok (.return_, 1) := by decide +kernel
abbrev cX1_set : ByteArray := prog_3_method_4_code
def yX1_set : MethodName := ⟨RX1, "set", "(III)Z"⟩
theorem dX1_set_0 : decode cX1_set 0 = .ok (.aload_n 0, 1) := by decide +kernel
theorem dX1_set_1 : decode cX1_set 1 = .ok (.iload_n 1, 1) := by decide +kernel
theorem dX1_set_2 : decode cX1_set 2 = .ok (.iload_n 2, 1) := by decide +kernel
theorem dX1_set_3 : decode cX1_set 3 = .ok (.iload_n 3, 1) := by decide +kernel
theorem dX1_set_4 : decode cX1_set 4 = .ok (.invokevirtual 24, 3) := by decide +kernel
theorem dX1_set_7 : decode cX1_set 7 = .ok (.ifCond .ne 5, 3) := by decide +kernel
theorem dX1_set_10 : decode cX1_set 10 = .ok (.iconst 0, 1) := by decide +kernel
theorem dX1_set_11 : decode cX1_set 11 = .ok (.ireturn, 1) := by decide +kernel
theorem dX1_set_12 : decode cX1_set 12 = .ok (.aload_n 0, 1) := by decide +kernel
theorem dX1_set_13 : decode cX1_set 13 = .ok (.getfield 7, 3) := by decide +kernel
theorem dX1_set_16 : decode cX1_set 16 = .ok (.iconst 5, 1) := by decide +kernel
theorem dX1_set_17 : decode cX1_set 17 = .ok (.iload_n 1, 1) := by decide +kernel
theorem dX1_set_18 : decode cX1_set 18 = .ok (.imul, 1) := by decide +kernel
theorem dX1_set_19 : decode cX1_set 19 = .ok (.iload_n 2, 1) := by decide +kernel
theorem dX1_set_20 : decode cX1_set 20 = .ok (.iadd, 1) := by decide +kernel
theorem dX1_set_21 : decode cX1_set 21 = .ok (.iload_n 3, 1) := by decide +kernel
theorem dX1_set_22 : decode cX1_set 22 = .ok (.iastore, 1) := by decide +kernel
theorem dX1_set_23 : decode cX1_set 23 = .ok (.iconst 1, 1) := by decide +kernel
theorem dX1_set_24 : decode cX1_set 24 = .ok (.ireturn, 1) := by decide +kernel
abbrev cX1_fits : ByteArray := prog_3_method_3_code
def yX1_fits : MethodName := ⟨RX1, "fits", "(III)Z"⟩
theorem dX1_fits_0 : decode cX1_fits 0 = .ok (.aload_n 0, 1) := by decide +kernel
theorem dX1_fits_1 : decode cX1_fits 1 = .ok (.iload_n 1, 1) := by decide +kernel
theorem dX1_fits_2 : decode cX1_fits 2 = .ok (.invokevirtual 20, 3) := by decide +kernel
theorem dX1_fits_5 : decode cX1_fits 5 = .ok (.ifCond .eq 28, 3) := by decide +kernel
theorem dX1_fits_8 : decode cX1_fits 8 = .ok (.iload_n 2, 1) := by decide +kernel
theorem dX1_fits_9 : decode cX1_fits 9 = .ok (.ifCond .lt 24, 3) := by decide +kernel
theorem dX1_fits_12 : decode cX1_fits 12 = .ok (.iload_n 2, 1) := by decide +kernel
theorem dX1_fits_13 : decode cX1_fits 13 = .ok (.iconst 4, 1) := by decide +kernel
theorem dX1_fits_14 : decode cX1_fits 14 = .ok (.if_icmp .gt 19, 3) := by decide +kernel
theorem dX1_fits_17 : decode cX1_fits 17 = .ok (.iload_n 3, 1) := by decide +kernel
theorem dX1_fits_18 : decode cX1_fits 18 = .ok (.bipush (-50), 2) := by decide +kernel
theorem dX1_fits_20 : decode cX1_fits 20 = .ok (.if_icmp .lt 13, 3) := by decide +kernel
theorem dX1_fits_23 : decode cX1_fits 23 = .ok (.iload_n 3, 1) := by decide +kernel
theorem dX1_fits_24 : decode cX1_fits 24 = .ok (.bipush 50, 2) := by decide +kernel
theorem dX1_fits_26 : decode cX1_fits 26 = .ok (.if_icmp .gt 7, 3) := by decide +kernel
theorem dX1_fits_29 : decode cX1_fits 29 = .ok (.iconst 1, 1) := by decide +kernel
theorem dX1_fits_30 : decode cX1_fits 30 = .ok (.goto 4, 3) := by decide +kernel
theorem dX1_fits_33 : decode cX1_fits 33 = .ok (.iconst 0, 1) := by decide +kernel
theorem dX1_fits_34 : decode cX1_fits 34 = .ok (.ireturn, 1) := by decide +kernel
abbrev cX1_row : ByteArray := prog_3_method_2_code
def yX1_row : MethodName := ⟨RX1, "row", "(I)Z"⟩
theorem dX1_row_0 : decode cX1_row 0 = .ok (.iload_n 1, 1) := by decide +kernel
theorem dX1_row_1 : decode cX1_row 1 = .ok (.ifCond .lt 12, 3) := by decide +kernel
theorem dX1_row_4 : decode cX1_row 4 = .ok (.iload_n 1, 1) := by decide +kernel
theorem dX1_row_5 : decode cX1_row 5 = .ok (.iconst 3, 1) := by decide +kernel
theorem dX1_row_6 : decode cX1_row 6 = .ok (.if_icmp .gt 7, 3) := by decide +kernel
theorem dX1_row_9 : decode cX1_row 9 = .ok (.iconst 1, 1) := by decide +kernel
theorem dX1_row_10 : decode cX1_row 10 = .ok (.goto 4, 3) := by decide +kernel
theorem dX1_row_13 : decode cX1_row 13 = .ok (.iconst 0, 1) := by decide +kernel
theorem dX1_row_14 : decode cX1_row 14 = .ok (.ireturn, 1) := by decide +kernel
abbrev cX1_at : ByteArray := prog_3_method_5_code
def yX1_at : MethodName := ⟨RX1, "at", "(II)I"⟩
theorem dX1_at_0 : decode cX1_at 0 = .ok (.aload_n 0, 1) := by decide +kernel
theorem dX1_at_1 : decode cX1_at 1 = .ok (.iload_n 1, 1) := by decide +kernel
theorem dX1_at_2 : decode cX1_at 2 = .ok (.invokevirtual 20, 3) := by decide +kernel
theorem dX1_at_5 : decode cX1_at 5 = .ok (.ifCond .eq 25, 3) := by decide +kernel
theorem dX1_at_8 : decode cX1_at 8 = .ok (.iload_n 2, 1) := by decide +kernel
theorem dX1_at_9 : decode cX1_at 9 = .ok (.ifCond .lt 21, 3) := by decide +kernel
theorem dX1_at_12 : decode cX1_at 12 = .ok (.iload_n 2, 1) := by decide +kernel
theorem dX1_at_13 : decode cX1_at 13 = .ok (.iconst 4, 1) := by decide +kernel
theorem dX1_at_14 : decode cX1_at 14 = .ok (.if_icmp .gt 16, 3) := by decide +kernel
theorem dX1_at_17 : decode cX1_at 17 = .ok (.aload_n 0, 1) := by decide +kernel
theorem dX1_at_18 : decode cX1_at 18 = .ok (.getfield 7, 3) := by decide +kernel
theorem dX1_at_21 : decode cX1_at 21 = .ok (.iconst 5, 1) := by decide +kernel
theorem dX1_at_22 : decode cX1_at 22 = .ok (.iload_n 1, 1) := by decide +kernel
theorem dX1_at_23 : decode cX1_at 23 = .ok (.imul, 1) := by decide +kernel
theorem dX1_at_24 : decode cX1_at 24 = .ok (.iload_n 2, 1) := by decide +kernel
theorem dX1_at_25 : decode cX1_at 25 = .ok (.iadd, 1) := by decide +kernel
theorem dX1_at_26 : decode cX1_at 26 = .ok (.iaload, 1) := by decide +kernel
theorem dX1_at_27 : decode cX1_at 27 = .ok (.goto 5, 3) := by decide +kernel
theorem dX1_at_30 : decode cX1_at 30 = .ok (.ldc 28, 2) := by decide +kernel
theorem dX1_at_32 : decode cX1_at 32 = .ok (.ireturn, 1) := by decide +kernel
abbrev cX1_swapRows : ByteArray := prog_3_method_6_code
def yX1_swapRows : MethodName := ⟨RX1, "swapRows", "(II)Z"⟩
theorem dX1_swapRows_0 : decode cX1_swapRows 0 = .ok (.aload_n 0, 1) := by decide +kernel
theorem dX1_swapRows_1 : decode cX1_swapRows 1 = .ok (.iload_n 1, 1) := by decide +kernel
theorem dX1_swapRows_2 : decode cX1_swapRows 2 = .ok (.invokevirtual 20, 3) := by decide +kernel
theorem dX1_swapRows_5 : decode cX1_swapRows 5 = .ok (.ifCond .eq 11, 3) := by decide +kernel
theorem dX1_swapRows_8 : decode cX1_swapRows 8 = .ok (.aload_n 0, 1) := by decide +kernel
theorem dX1_swapRows_9 : decode cX1_swapRows 9 = .ok (.iload_n 2, 1) := by decide +kernel
theorem dX1_swapRows_10 : decode cX1_swapRows 10 = .ok (.invokevirtual 20, 3) := by decide +kernel
theorem dX1_swapRows_13 : decode cX1_swapRows 13 = .ok (.ifCond .ne 5, 3) := by decide +kernel
theorem dX1_swapRows_16 : decode cX1_swapRows 16 = .ok (.iconst 0, 1) := by decide +kernel
theorem dX1_swapRows_17 : decode cX1_swapRows 17 = .ok (.ireturn, 1) := by decide +kernel
theorem dX1_swapRows_18 : decode cX1_swapRows 18 = .ok (.iconst 0, 1) := by decide +kernel
theorem dX1_swapRows_19 : decode cX1_swapRows 19 = .ok (.istore_n 3, 1) := by decide +kernel
theorem dX1_swapRows_20 : decode cX1_swapRows 20 = .ok (.iload_n 3, 1) := by decide +kernel
theorem dX1_swapRows_21 : decode cX1_swapRows 21 = .ok (.iconst 4, 1) := by decide +kernel
theorem dX1_swapRows_22 : decode cX1_swapRows 22 = .ok (.if_icmp .ge 53, 3) := by decide +kernel
theorem dX1_swapRows_25 : decode cX1_swapRows 25 = .ok (.aload_n 0, 1) := by decide +kernel
theorem dX1_swapRows_26 : decode cX1_swapRows 26 = .ok (.getfield 7, 3) := by decide +kernel
theorem dX1_swapRows_29 : decode cX1_swapRows 29 = .ok (.iconst 5, 1) := by decide +kernel
theorem dX1_swapRows_30 : decode cX1_swapRows 30 = .ok (.iload_n 1, 1) := by decide +kernel
theorem dX1_swapRows_31 : decode cX1_swapRows 31 = .ok (.imul, 1) := by decide +kernel
theorem dX1_swapRows_32 : decode cX1_swapRows 32 = .ok (.iload_n 3, 1) := by decide +kernel
theorem dX1_swapRows_33 : decode cX1_swapRows 33 = .ok (.iadd, 1) := by decide +kernel
theorem dX1_swapRows_34 : decode cX1_swapRows 34 = .ok (.iaload, 1) := by decide +kernel
theorem dX1_swapRows_35 : decode cX1_swapRows 35 = .ok (.istore 4, 2) := by decide +kernel
theorem dX1_swapRows_37 : decode cX1_swapRows 37 = .ok (.aload_n 0, 1) := by decide +kernel
theorem dX1_swapRows_38 : decode cX1_swapRows 38 = .ok (.getfield 7, 3) := by decide +kernel
theorem dX1_swapRows_41 : decode cX1_swapRows 41 = .ok (.iconst 5, 1) := by decide +kernel
theorem dX1_swapRows_42 : decode cX1_swapRows 42 = .ok (.iload_n 1, 1) := by decide +kernel
theorem dX1_swapRows_43 : decode cX1_swapRows 43 = .ok (.imul, 1) := by decide +kernel
theorem dX1_swapRows_44 : decode cX1_swapRows 44 = .ok (.iload_n 3, 1) := by decide +kernel
theorem dX1_swapRows_45 : decode cX1_swapRows 45 = .ok (.iadd, 1) := by decide +kernel
theorem dX1_swapRows_46 : decode cX1_swapRows 46 = .ok (.aload_n 0, 1) := by decide +kernel
theorem dX1_swapRows_47 : decode cX1_swapRows 47 = .ok (.getfield 7, 3) := by decide +kernel
theorem dX1_swapRows_50 : decode cX1_swapRows 50 = .ok (.iconst 5, 1) := by decide +kernel
theorem dX1_swapRows_51 : decode cX1_swapRows 51 = .ok (.iload_n 2, 1) := by decide +kernel
theorem dX1_swapRows_52 : decode cX1_swapRows 52 = .ok (.imul, 1) := by decide +kernel
theorem dX1_swapRows_53 : decode cX1_swapRows 53 = .ok (.iload_n 3, 1) := by decide +kernel
theorem dX1_swapRows_54 : decode cX1_swapRows 54 = .ok (.iadd, 1) := by decide +kernel
theorem dX1_swapRows_55 : decode cX1_swapRows 55 = .ok (.iaload, 1) := by decide +kernel
theorem dX1_swapRows_56 : decode cX1_swapRows 56 = .ok (.iastore, 1) := by decide +kernel
theorem dX1_swapRows_57 : decode cX1_swapRows 57 = .ok (.aload_n 0, 1) := by decide +kernel
theorem dX1_swapRows_58 : decode cX1_swapRows 58 = .ok (.getfield 7, 3) := by decide +kernel
theorem dX1_swapRows_61 : decode cX1_swapRows 61 = .ok (.iconst 5, 1) := by decide +kernel
theorem dX1_swapRows_62 : decode cX1_swapRows 62 = .ok (.iload_n 2, 1) := by decide +kernel
theorem dX1_swapRows_63 : decode cX1_swapRows 63 = .ok (.imul, 1) := by decide +kernel
theorem dX1_swapRows_64 : decode cX1_swapRows 64 = .ok (.iload_n 3, 1) := by decide +kernel
theorem dX1_swapRows_65 : decode cX1_swapRows 65 = .ok (.iadd, 1) := by decide +kernel
theorem dX1_swapRows_66 : decode cX1_swapRows 66 = .ok (.iload 4, 2) := by decide +kernel
theorem dX1_swapRows_68 : decode cX1_swapRows 68 = .ok (.iastore, 1) := by decide +kernel
theorem dX1_swapRows_69 : decode cX1_swapRows 69 = .ok (.iinc 3 1, 3) := by decide +kernel
theorem dX1_swapRows_72 : decode cX1_swapRows 72 = .ok (.goto (-52), 3) := by decide +kernel
theorem dX1_swapRows_75 : decode cX1_swapRows 75 = .ok (.iconst 1, 1) := by decide +kernel
theorem dX1_swapRows_76 : decode cX1_swapRows 76 = .ok (.ireturn, 1) := by decide +kernel
abbrev cX1_addRow : ByteArray := prog_3_method_7_code
def yX1_addRow : MethodName := ⟨RX1, "addRow", "(III)Z"⟩
theorem dX1_addRow_0 : decode cX1_addRow 0 = .ok (.iload_n 1, 1) := by decide +kernel
theorem dX1_addRow_1 : decode cX1_addRow 1 = .ok (.iload_n 2, 1) := by decide +kernel
theorem dX1_addRow_2 : decode cX1_addRow 2 = .ok (.if_icmp .eq 31, 3) := by decide +kernel
theorem dX1_addRow_5 : decode cX1_addRow 5 = .ok (.aload_n 0, 1) := by decide +kernel
theorem dX1_addRow_6 : decode cX1_addRow 6 = .ok (.iload_n 1, 1) := by decide +kernel
theorem dX1_addRow_7 : decode cX1_addRow 7 = .ok (.invokevirtual 20, 3) := by decide +kernel
theorem dX1_addRow_10 : decode cX1_addRow 10 = .ok (.ifCond .eq 23, 3) := by decide +kernel
theorem dX1_addRow_13 : decode cX1_addRow 13 = .ok (.aload_n 0, 1) := by decide +kernel
theorem dX1_addRow_14 : decode cX1_addRow 14 = .ok (.iload_n 2, 1) := by decide +kernel
theorem dX1_addRow_15 : decode cX1_addRow 15 = .ok (.invokevirtual 20, 3) := by decide +kernel
theorem dX1_addRow_18 : decode cX1_addRow 18 = .ok (.ifCond .eq 15, 3) := by decide +kernel
theorem dX1_addRow_21 : decode cX1_addRow 21 = .ok (.iload_n 3, 1) := by decide +kernel
theorem dX1_addRow_22 : decode cX1_addRow 22 = .ok (.bipush (-9), 2) := by decide +kernel
theorem dX1_addRow_24 : decode cX1_addRow 24 = .ok (.if_icmp .lt 9, 3) := by decide +kernel
theorem dX1_addRow_27 : decode cX1_addRow 27 = .ok (.iload_n 3, 1) := by decide +kernel
theorem dX1_addRow_28 : decode cX1_addRow 28 = .ok (.bipush 9, 2) := by decide +kernel
theorem dX1_addRow_30 : decode cX1_addRow 30 = .ok (.if_icmp .le 5, 3) := by decide +kernel
theorem dX1_addRow_33 : decode cX1_addRow 33 = .ok (.iconst 0, 1) := by decide +kernel
theorem dX1_addRow_34 : decode cX1_addRow 34 = .ok (.ireturn, 1) := by decide +kernel
theorem dX1_addRow_35 : decode cX1_addRow 35 = .ok (.iconst 1, 1) := by decide +kernel
theorem dX1_addRow_36 : decode cX1_addRow 36 = .ok (.istore 4, 2) := by decide +kernel
theorem dX1_addRow_38 : decode cX1_addRow 38 = .ok (.iconst 0, 1) := by decide +kernel
theorem dX1_addRow_39 : decode cX1_addRow 39 = .ok (.istore 5, 2) := by decide +kernel
theorem dX1_addRow_41 : decode cX1_addRow 41 = .ok (.iload 5, 2) := by decide +kernel
theorem dX1_addRow_43 : decode cX1_addRow 43 = .ok (.iconst 4, 1) := by decide +kernel
theorem dX1_addRow_44 : decode cX1_addRow 44 = .ok (.if_icmp .ge 56, 3) := by decide +kernel
theorem dX1_addRow_47 : decode cX1_addRow 47 = .ok (.iload 4, 2) := by decide +kernel
theorem dX1_addRow_49 : decode cX1_addRow 49 = .ok (.ifCond .eq 42, 3) := by decide +kernel
theorem dX1_addRow_52 : decode cX1_addRow 52 = .ok (.aload_n 0, 1) := by decide +kernel
theorem dX1_addRow_53 : decode cX1_addRow 53 = .ok (.iload_n 1, 1) := by decide +kernel
theorem dX1_addRow_54 : decode cX1_addRow 54 = .ok (.iload 5, 2) := by decide +kernel
theorem dX1_addRow_56 : decode cX1_addRow 56 = .ok (.aload_n 0, 1) := by decide +kernel
theorem dX1_addRow_57 : decode cX1_addRow 57 = .ok (.getfield 7, 3) := by decide +kernel
theorem dX1_addRow_60 : decode cX1_addRow 60 = .ok (.iconst 5, 1) := by decide +kernel
theorem dX1_addRow_61 : decode cX1_addRow 61 = .ok (.iload_n 1, 1) := by decide +kernel
theorem dX1_addRow_62 : decode cX1_addRow 62 = .ok (.imul, 1) := by decide +kernel
theorem dX1_addRow_63 : decode cX1_addRow 63 = .ok (.iload 5, 2) := by decide +kernel
theorem dX1_addRow_65 : decode cX1_addRow 65 = .ok (.iadd, 1) := by decide +kernel
theorem dX1_addRow_66 : decode cX1_addRow 66 = .ok (.iaload, 1) := by decide +kernel
theorem dX1_addRow_67 : decode cX1_addRow 67 = .ok (.iload_n 3, 1) := by decide +kernel
theorem dX1_addRow_68 : decode cX1_addRow 68 = .ok (.aload_n 0, 1) := by decide +kernel
theorem dX1_addRow_69 : decode cX1_addRow 69 = .ok (.getfield 7, 3) := by decide +kernel
theorem dX1_addRow_72 : decode cX1_addRow 72 = .ok (.iconst 5, 1) := by decide +kernel
theorem dX1_addRow_73 : decode cX1_addRow 73 = .ok (.iload_n 2, 1) := by decide +kernel
theorem dX1_addRow_74 : decode cX1_addRow 74 = .ok (.imul, 1) := by decide +kernel
theorem dX1_addRow_75 : decode cX1_addRow 75 = .ok (.iload 5, 2) := by decide +kernel
theorem dX1_addRow_77 : decode cX1_addRow 77 = .ok (.iadd, 1) := by decide +kernel
theorem dX1_addRow_78 : decode cX1_addRow 78 = .ok (.iaload, 1) := by decide +kernel
theorem dX1_addRow_79 : decode cX1_addRow 79 = .ok (.imul, 1) := by decide +kernel
theorem dX1_addRow_80 : decode cX1_addRow 80 = .ok (.iadd, 1) := by decide +kernel
theorem dX1_addRow_81 : decode cX1_addRow 81 = .ok (.invokevirtual 24, 3) := by decide +kernel
theorem dX1_addRow_84 : decode cX1_addRow 84 = .ok (.ifCond .eq 7, 3) := by decide +kernel
theorem dX1_addRow_87 : decode cX1_addRow 87 = .ok (.iconst 1, 1) := by decide +kernel
theorem dX1_addRow_88 : decode cX1_addRow 88 = .ok (.goto 4, 3) := by decide +kernel
theorem dX1_addRow_91 : decode cX1_addRow 91 = .ok (.iconst 0, 1) := by decide +kernel
theorem dX1_addRow_92 : decode cX1_addRow 92 = .ok (.istore 4, 2) := by decide +kernel
theorem dX1_addRow_94 : decode cX1_addRow 94 = .ok (.iinc 5 1, 3) := by decide +kernel
theorem dX1_addRow_97 : decode cX1_addRow 97 = .ok (.goto (-56), 3) := by decide +kernel
theorem dX1_addRow_100 : decode cX1_addRow 100 = .ok (.iconst 0, 1) := by decide +kernel
theorem dX1_addRow_101 : decode cX1_addRow 101 = .ok (.istore 5, 2) := by decide +kernel
theorem dX1_addRow_103 : decode cX1_addRow 103 = .ok (.iload 5, 2) := by decide +kernel
theorem dX1_addRow_105 : decode cX1_addRow 105 = .ok (.iconst 4, 1) := by decide +kernel
theorem dX1_addRow_106 : decode cX1_addRow 106 = .ok (.if_icmp .ge 50, 3) := by decide +kernel
theorem dX1_addRow_109 : decode cX1_addRow 109 = .ok (.iload 4, 2) := by decide +kernel
theorem dX1_addRow_111 : decode cX1_addRow 111 = .ok (.ifCond .eq 45, 3) := by decide +kernel
theorem dX1_addRow_114 : decode cX1_addRow 114 = .ok (.aload_n 0, 1) := by decide +kernel
theorem dX1_addRow_115 : decode cX1_addRow 115 = .ok (.getfield 7, 3) := by decide +kernel
theorem dX1_addRow_118 : decode cX1_addRow 118 = .ok (.iconst 5, 1) := by decide +kernel
theorem dX1_addRow_119 : decode cX1_addRow 119 = .ok (.iload_n 1, 1) := by decide +kernel
theorem dX1_addRow_120 : decode cX1_addRow 120 = .ok (.imul, 1) := by decide +kernel
theorem dX1_addRow_121 : decode cX1_addRow 121 = .ok (.iload 5, 2) := by decide +kernel
theorem dX1_addRow_123 : decode cX1_addRow 123 = .ok (.iadd, 1) := by decide +kernel
theorem dX1_addRow_124 : decode cX1_addRow 124 = .ok (.aload_n 0, 1) := by decide +kernel
theorem dX1_addRow_125 : decode cX1_addRow 125 = .ok (.getfield 7, 3) := by decide +kernel
theorem dX1_addRow_128 : decode cX1_addRow 128 = .ok (.iconst 5, 1) := by decide +kernel
theorem dX1_addRow_129 : decode cX1_addRow 129 = .ok (.iload_n 1, 1) := by decide +kernel
theorem dX1_addRow_130 : decode cX1_addRow 130 = .ok (.imul, 1) := by decide +kernel
theorem dX1_addRow_131 : decode cX1_addRow 131 = .ok (.iload 5, 2) := by decide +kernel
theorem dX1_addRow_133 : decode cX1_addRow 133 = .ok (.iadd, 1) := by decide +kernel
theorem dX1_addRow_134 : decode cX1_addRow 134 = .ok (.iaload, 1) := by decide +kernel
theorem dX1_addRow_135 : decode cX1_addRow 135 = .ok (.iload_n 3, 1) := by decide +kernel
theorem dX1_addRow_136 : decode cX1_addRow 136 = .ok (.aload_n 0, 1) := by decide +kernel
theorem dX1_addRow_137 : decode cX1_addRow 137 = .ok (.getfield 7, 3) := by decide +kernel
theorem dX1_addRow_140 : decode cX1_addRow 140 = .ok (.iconst 5, 1) := by decide +kernel
theorem dX1_addRow_141 : decode cX1_addRow 141 = .ok (.iload_n 2, 1) := by decide +kernel
theorem dX1_addRow_142 : decode cX1_addRow 142 = .ok (.imul, 1) := by decide +kernel
theorem dX1_addRow_143 : decode cX1_addRow 143 = .ok (.iload 5, 2) := by decide +kernel
theorem dX1_addRow_145 : decode cX1_addRow 145 = .ok (.iadd, 1) := by decide +kernel
theorem dX1_addRow_146 : decode cX1_addRow 146 = .ok (.iaload, 1) := by decide +kernel
theorem dX1_addRow_147 : decode cX1_addRow 147 = .ok (.imul, 1) := by decide +kernel
theorem dX1_addRow_148 : decode cX1_addRow 148 = .ok (.iadd, 1) := by decide +kernel
theorem dX1_addRow_149 : decode cX1_addRow 149 = .ok (.iastore, 1) := by decide +kernel
theorem dX1_addRow_150 : decode cX1_addRow 150 = .ok (.iinc 5 1, 3) := by decide +kernel
theorem dX1_addRow_153 : decode cX1_addRow 153 = .ok (.goto (-50), 3) := by decide +kernel
theorem dX1_addRow_156 : decode cX1_addRow 156 = .ok (.iload 4, 2) := by decide +kernel
theorem dX1_addRow_158 : decode cX1_addRow 158 = .ok (.ireturn, 1) := by decide +kernel
abbrev cX1_transpose : ByteArray := prog_3_method_10_code
def yX1_transpose : MethodName := ⟨RX1, "transpose", "()V"⟩
theorem dX1_transpose_0 : decode cX1_transpose 0 = .ok (.aload_n 0, 1) := by decide +kernel
theorem dX1_transpose_1 : decode cX1_transpose 1 = .ok (.invokevirtual 29, 3) := by decide +kernel
theorem dX1_transpose_4 : decode cX1_transpose 4 = .ok (.iconst 0, 1) := by decide +kernel
theorem dX1_transpose_5 : decode cX1_transpose 5 = .ok (.istore_n 1, 1) := by decide +kernel
theorem dX1_transpose_6 : decode cX1_transpose 6 = .ok (.iload_n 1, 1) := by decide +kernel
theorem dX1_transpose_7 : decode cX1_transpose 7 = .ok (.bipush 16, 2) := by decide +kernel
theorem dX1_transpose_9 : decode cX1_transpose 9 = .ok (.if_icmp .ge 37, 3) := by decide +kernel
theorem dX1_transpose_12 : decode cX1_transpose 12 = .ok (.aload_n 0, 1) := by decide +kernel
theorem dX1_transpose_13 : decode cX1_transpose 13 = .ok (.getfield 7, 3) := by decide +kernel
theorem dX1_transpose_16 : decode cX1_transpose 16 = .ok (.iconst 5, 1) := by decide +kernel
theorem dX1_transpose_17 : decode cX1_transpose 17 = .ok (.iload_n 1, 1) := by decide +kernel
theorem dX1_transpose_18 : decode cX1_transpose 18 = .ok (.iconst 4, 1) := by decide +kernel
theorem dX1_transpose_19 : decode cX1_transpose 19 = .ok (.idiv, 1) := by decide +kernel
theorem dX1_transpose_20 : decode cX1_transpose 20 = .ok (.imul, 1) := by decide +kernel
theorem dX1_transpose_21 : decode cX1_transpose 21 = .ok (.iload_n 1, 1) := by decide +kernel
theorem dX1_transpose_22 : decode cX1_transpose 22 = .ok (.iconst 4, 1) := by decide +kernel
theorem dX1_transpose_23 : decode cX1_transpose 23 = .ok (.irem, 1) := by decide +kernel
theorem dX1_transpose_24 : decode cX1_transpose 24 = .ok (.iadd, 1) := by decide +kernel
theorem dX1_transpose_25 : decode cX1_transpose 25 = .ok (.aload_n 0, 1) := by decide +kernel
theorem dX1_transpose_26 : decode cX1_transpose 26 = .ok (.getfield 13, 3) := by decide +kernel
theorem dX1_transpose_29 : decode cX1_transpose 29 = .ok (.iconst 5, 1) := by decide +kernel
theorem dX1_transpose_30 : decode cX1_transpose 30 = .ok (.iload_n 1, 1) := by decide +kernel
theorem dX1_transpose_31 : decode cX1_transpose 31 = .ok (.iconst 4, 1) := by decide +kernel
theorem dX1_transpose_32 : decode cX1_transpose 32 = .ok (.irem, 1) := by decide +kernel
theorem dX1_transpose_33 : decode cX1_transpose 33 = .ok (.imul, 1) := by decide +kernel
theorem dX1_transpose_34 : decode cX1_transpose 34 = .ok (.iload_n 1, 1) := by decide +kernel
theorem dX1_transpose_35 : decode cX1_transpose 35 = .ok (.iconst 4, 1) := by decide +kernel
theorem dX1_transpose_36 : decode cX1_transpose 36 = .ok (.idiv, 1) := by decide +kernel
theorem dX1_transpose_37 : decode cX1_transpose 37 = .ok (.iadd, 1) := by decide +kernel
theorem dX1_transpose_38 : decode cX1_transpose 38 = .ok (.iaload, 1) := by decide +kernel
theorem dX1_transpose_39 : decode cX1_transpose 39 = .ok (.iastore, 1) := by decide +kernel
theorem dX1_transpose_40 : decode cX1_transpose 40 = .ok (.iinc 1 1, 3) := by decide +kernel
theorem dX1_transpose_43 : decode cX1_transpose 43 = .ok (.goto (-37), 3) := by decide +kernel
theorem dX1_transpose_46 : decode cX1_transpose 46 = .ok (.return_, 1) := by decide +kernel
abbrev cX1_keep : ByteArray := prog_3_method_8_code
def yX1_keep : MethodName := ⟨RX1, "keep", "()V"⟩
theorem dX1_keep_0 : decode cX1_keep 0 = .ok (.iconst 0, 1) := by decide +kernel
theorem dX1_keep_1 : decode cX1_keep 1 = .ok (.istore_n 1, 1) := by decide +kernel
theorem dX1_keep_2 : decode cX1_keep 2 = .ok (.iload_n 1, 1) := by decide +kernel
theorem dX1_keep_3 : decode cX1_keep 3 = .ok (.bipush 20, 2) := by decide +kernel
theorem dX1_keep_5 : decode cX1_keep 5 = .ok (.if_icmp .ge 21, 3) := by decide +kernel
theorem dX1_keep_8 : decode cX1_keep 8 = .ok (.aload_n 0, 1) := by decide +kernel
theorem dX1_keep_9 : decode cX1_keep 9 = .ok (.getfield 13, 3) := by decide +kernel
theorem dX1_keep_12 : decode cX1_keep 12 = .ok (.iload_n 1, 1) := by decide +kernel
theorem dX1_keep_13 : decode cX1_keep 13 = .ok (.aload_n 0, 1) := by decide +kernel
theorem dX1_keep_14 : decode cX1_keep 14 = .ok (.getfield 7, 3) := by decide +kernel
theorem dX1_keep_17 : decode cX1_keep 17 = .ok (.iload_n 1, 1) := by decide +kernel
theorem dX1_keep_18 : decode cX1_keep 18 = .ok (.iaload, 1) := by decide +kernel
theorem dX1_keep_19 : decode cX1_keep 19 = .ok (.iastore, 1) := by decide +kernel
theorem dX1_keep_20 : decode cX1_keep 20 = .ok (.iinc 1 1, 3) := by decide +kernel
theorem dX1_keep_23 : decode cX1_keep 23 = .ok (.goto (-21), 3) := by decide +kernel
theorem dX1_keep_26 : decode cX1_keep 26 = .ok (.return_, 1) := by decide +kernel
abbrev cX1_determinant : ByteArray := prog_3_method_14_code
def yX1_determinant : MethodName := ⟨RX1, "determinant", "()I"⟩
theorem dX1_determinant_0 : decode cX1_determinant 0 = .ok (.aload_n 0, 1) := by decide +kernel
theorem dX1_determinant_1 : decode cX1_determinant 1 = .ok (.bipush 15, 2) := by decide +kernel
theorem dX1_determinant_3 : decode cX1_determinant 3 = .ok (.bipush 15, 2) := by decide +kernel
theorem dX1_determinant_5 : decode cX1_determinant 5 = .ok (.invokevirtual 40, 3) := by decide +kernel
theorem dX1_determinant_8 : decode cX1_determinant 8 = .ok (.l2i, 1) := by decide +kernel
theorem dX1_determinant_9 : decode cX1_determinant 9 = .ok (.ireturn, 1) := by decide +kernel
abbrev cX1_part : ByteArray := prog_3_method_13_code
def yX1_part : MethodName := ⟨RX1, "part", "(II)J"⟩
theorem dX1_part_0 : decode cX1_part 0 = .ok (.aload_n 0, 1) := by decide +kernel
theorem dX1_part_1 : decode cX1_part 1 = .ok (.getfield 16, 3) := by decide +kernel
theorem dX1_part_4 : decode cX1_part 4 = .ok (.iconst 0, 1) := by decide +kernel
theorem dX1_part_5 : decode cX1_part 5 = .ok (.lconst 1, 1) := by decide +kernel
theorem dX1_part_6 : decode cX1_part 6 = .ok (.lastore, 1) := by decide +kernel
theorem dX1_part_7 : decode cX1_part 7 = .ok (.iconst 0, 1) := by decide +kernel
theorem dX1_part_8 : decode cX1_part 8 = .ok (.istore_n 3, 1) := by decide +kernel
theorem dX1_part_9 : decode cX1_part 9 = .ok (.iconst 0, 1) := by decide +kernel
theorem dX1_part_10 : decode cX1_part 10 = .ok (.istore 4, 2) := by decide +kernel
theorem dX1_part_12 : decode cX1_part 12 = .ok (.iload 4, 2) := by decide +kernel
theorem dX1_part_14 : decode cX1_part 14 = .ok (.iconst 4, 1) := by decide +kernel
theorem dX1_part_15 : decode cX1_part 15 = .ok (.if_icmp .ge 73, 3) := by decide +kernel
theorem dX1_part_18 : decode cX1_part 18 = .ok (.iload_n 1, 1) := by decide +kernel
theorem dX1_part_19 : decode cX1_part 19 = .ok (.iload 4, 2) := by decide +kernel
theorem dX1_part_21 : decode cX1_part 21 = .ok (.ishr, 1) := by decide +kernel
theorem dX1_part_22 : decode cX1_part 22 = .ok (.iconst 1, 1) := by decide +kernel
theorem dX1_part_23 : decode cX1_part 23 = .ok (.iand, 1) := by decide +kernel
theorem dX1_part_24 : decode cX1_part 24 = .ok (.iconst 1, 1) := by decide +kernel
theorem dX1_part_25 : decode cX1_part 25 = .ok (.if_icmp .ne 57, 3) := by decide +kernel
theorem dX1_part_28 : decode cX1_part 28 = .ok (.iinc 3 1, 3) := by decide +kernel
theorem dX1_part_31 : decode cX1_part 31 = .ok (.iconst 1, 1) := by decide +kernel
theorem dX1_part_32 : decode cX1_part 32 = .ok (.istore 5, 2) := by decide +kernel
theorem dX1_part_34 : decode cX1_part 34 = .ok (.iload 5, 2) := by decide +kernel
theorem dX1_part_36 : decode cX1_part 36 = .ok (.bipush 32, 2) := by decide +kernel
theorem dX1_part_38 : decode cX1_part 38 = .ok (.if_icmp .ge 44, 3) := by decide +kernel
theorem dX1_part_41 : decode cX1_part 41 = .ok (.aload_n 0, 1) := by decide +kernel
theorem dX1_part_42 : decode cX1_part 42 = .ok (.getfield 16, 3) := by decide +kernel
theorem dX1_part_45 : decode cX1_part 45 = .ok (.iload 5, 2) := by decide +kernel
theorem dX1_part_47 : decode cX1_part 47 = .ok (.aload_n 0, 1) := by decide +kernel
theorem dX1_part_48 : decode cX1_part 48 = .ok (.iload 5, 2) := by decide +kernel
theorem dX1_part_50 : decode cX1_part 50 = .ok (.invokevirtual 32, 3) := by decide +kernel
theorem dX1_part_53 : decode cX1_part 53 = .ok (.iload_n 3, 1) := by decide +kernel
theorem dX1_part_54 : decode cX1_part 54 = .ok (.if_icmp .ne 14, 3) := by decide +kernel
theorem dX1_part_57 : decode cX1_part 57 = .ok (.aload_n 0, 1) := by decide +kernel
theorem dX1_part_58 : decode cX1_part 58 = .ok (.iload 4, 2) := by decide +kernel
theorem dX1_part_60 : decode cX1_part 60 = .ok (.iload 5, 2) := by decide +kernel
theorem dX1_part_62 : decode cX1_part 62 = .ok (.invokevirtual 36, 3) := by decide +kernel
theorem dX1_part_65 : decode cX1_part 65 = .ok (.goto 10, 3) := by decide +kernel
theorem dX1_part_68 : decode cX1_part 68 = .ok (.aload_n 0, 1) := by decide +kernel
theorem dX1_part_69 : decode cX1_part 69 = .ok (.getfield 16, 3) := by decide +kernel
theorem dX1_part_72 : decode cX1_part 72 = .ok (.iload 5, 2) := by decide +kernel
theorem dX1_part_74 : decode cX1_part 74 = .ok (.laload, 1) := by decide +kernel
theorem dX1_part_75 : decode cX1_part 75 = .ok (.lastore, 1) := by decide +kernel
theorem dX1_part_76 : decode cX1_part 76 = .ok (.iinc 5 1, 3) := by decide +kernel
theorem dX1_part_79 : decode cX1_part 79 = .ok (.goto (-45), 3) := by decide +kernel
theorem dX1_part_82 : decode cX1_part 82 = .ok (.iinc 4 1, 3) := by decide +kernel
theorem dX1_part_85 : decode cX1_part 85 = .ok (.goto (-73), 3) := by decide +kernel
theorem dX1_part_88 : decode cX1_part 88 = .ok (.iload_n 3, 1) := by decide +kernel
theorem dX1_part_89 : decode cX1_part 89 = .ok (.ifCond .ne 7, 3) := by decide +kernel
theorem dX1_part_92 : decode cX1_part 92 = .ok (.lconst 1, 1) := by decide +kernel
theorem dX1_part_93 : decode cX1_part 93 = .ok (.goto 9, 3) := by decide +kernel
theorem dX1_part_96 : decode cX1_part 96 = .ok (.aload_n 0, 1) := by decide +kernel
theorem dX1_part_97 : decode cX1_part 97 = .ok (.getfield 16, 3) := by decide +kernel
theorem dX1_part_100 : decode cX1_part 100 = .ok (.iload_n 2, 1) := by decide +kernel
theorem dX1_part_101 : decode cX1_part 101 = .ok (.laload, 1) := by decide +kernel
theorem dX1_part_102 : decode cX1_part 102 = .ok (.lreturn, 1) := by decide +kernel
abbrev cX1_ones : ByteArray := prog_3_method_11_code
def yX1_ones : MethodName := ⟨RX1, "ones", "(I)I"⟩
theorem dX1_ones_0 : decode cX1_ones 0 = .ok (.iconst 0, 1) := by decide +kernel
theorem dX1_ones_1 : decode cX1_ones 1 = .ok (.istore_n 2, 1) := by decide +kernel
theorem dX1_ones_2 : decode cX1_ones 2 = .ok (.iconst 0, 1) := by decide +kernel
theorem dX1_ones_3 : decode cX1_ones 3 = .ok (.istore_n 3, 1) := by decide +kernel
theorem dX1_ones_4 : decode cX1_ones 4 = .ok (.iload_n 3, 1) := by decide +kernel
theorem dX1_ones_5 : decode cX1_ones 5 = .ok (.iconst 5, 1) := by decide +kernel
theorem dX1_ones_6 : decode cX1_ones 6 = .ok (.if_icmp .ge 17, 3) := by decide +kernel
theorem dX1_ones_9 : decode cX1_ones 9 = .ok (.iload_n 2, 1) := by decide +kernel
theorem dX1_ones_10 : decode cX1_ones 10 = .ok (.iload_n 1, 1) := by decide +kernel
theorem dX1_ones_11 : decode cX1_ones 11 = .ok (.iload_n 3, 1) := by decide +kernel
theorem dX1_ones_12 : decode cX1_ones 12 = .ok (.ishr, 1) := by decide +kernel
theorem dX1_ones_13 : decode cX1_ones 13 = .ok (.iconst 1, 1) := by decide +kernel
theorem dX1_ones_14 : decode cX1_ones 14 = .ok (.iand, 1) := by decide +kernel
theorem dX1_ones_15 : decode cX1_ones 15 = .ok (.iadd, 1) := by decide +kernel
theorem dX1_ones_16 : decode cX1_ones 16 = .ok (.istore_n 2, 1) := by decide +kernel
theorem dX1_ones_17 : decode cX1_ones 17 = .ok (.iinc 3 1, 3) := by decide +kernel
theorem dX1_ones_20 : decode cX1_ones 20 = .ok (.goto (-16), 3) := by decide +kernel
theorem dX1_ones_23 : decode cX1_ones 23 = .ok (.iload_n 2, 1) := by decide +kernel
theorem dX1_ones_24 : decode cX1_ones 24 = .ok (.ireturn, 1) := by decide +kernel
abbrev cX1_expand : ByteArray := prog_3_method_12_code
def yX1_expand : MethodName := ⟨RX1, "expand", "(II)J"⟩
theorem dX1_expand_0 : decode cX1_expand 0 = .ok (.lconst 0, 1) := by decide +kernel
theorem dX1_expand_1 : decode cX1_expand 1 = .ok (.lstore_n 3, 1) := by decide +kernel
theorem dX1_expand_2 : decode cX1_expand 2 = .ok (.iconst 0, 1) := by decide +kernel
theorem dX1_expand_3 : decode cX1_expand 3 = .ok (.istore 5, 2) := by decide +kernel
theorem dX1_expand_5 : decode cX1_expand 5 = .ok (.iload 5, 2) := by decide +kernel
theorem dX1_expand_7 : decode cX1_expand 7 = .ok (.iconst 5, 1) := by decide +kernel
theorem dX1_expand_8 : decode cX1_expand 8 = .ok (.if_icmp .ge 74, 3) := by decide +kernel
theorem dX1_expand_11 : decode cX1_expand 11 = .ok (.iload_n 2, 1) := by decide +kernel
theorem dX1_expand_12 : decode cX1_expand 12 = .ok (.iload 5, 2) := by decide +kernel
theorem dX1_expand_14 : decode cX1_expand 14 = .ok (.ishr, 1) := by decide +kernel
theorem dX1_expand_15 : decode cX1_expand 15 = .ok (.iconst 1, 1) := by decide +kernel
theorem dX1_expand_16 : decode cX1_expand 16 = .ok (.iand, 1) := by decide +kernel
theorem dX1_expand_17 : decode cX1_expand 17 = .ok (.iconst 1, 1) := by decide +kernel
theorem dX1_expand_18 : decode cX1_expand 18 = .ok (.if_icmp .ne 58, 3) := by decide +kernel
theorem dX1_expand_21 : decode cX1_expand 21 = .ok (.aload_n 0, 1) := by decide +kernel
theorem dX1_expand_22 : decode cX1_expand 22 = .ok (.getfield 7, 3) := by decide +kernel
theorem dX1_expand_25 : decode cX1_expand 25 = .ok (.iconst 5, 1) := by decide +kernel
theorem dX1_expand_26 : decode cX1_expand 26 = .ok (.iload_n 1, 1) := by decide +kernel
theorem dX1_expand_27 : decode cX1_expand 27 = .ok (.imul, 1) := by decide +kernel
theorem dX1_expand_28 : decode cX1_expand 28 = .ok (.iload 5, 2) := by decide +kernel
theorem dX1_expand_30 : decode cX1_expand 30 = .ok (.iadd, 1) := by decide +kernel
theorem dX1_expand_31 : decode cX1_expand 31 = .ok (.iaload, 1) := by decide +kernel
theorem dX1_expand_32 : decode cX1_expand 32 = .ok (.i2l, 1) := by decide +kernel
theorem dX1_expand_33 : decode cX1_expand 33 = .ok (.aload_n 0, 1) := by decide +kernel
theorem dX1_expand_34 : decode cX1_expand 34 = .ok (.getfield 16, 3) := by decide +kernel
theorem dX1_expand_37 : decode cX1_expand 37 = .ok (.iload_n 2, 1) := by decide +kernel
theorem dX1_expand_38 : decode cX1_expand 38 = .ok (.iconst 1, 1) := by decide +kernel
theorem dX1_expand_39 : decode cX1_expand 39 = .ok (.iload 5, 2) := by decide +kernel
theorem dX1_expand_41 : decode cX1_expand 41 = .ok (.ishl, 1) := by decide +kernel
theorem dX1_expand_42 : decode cX1_expand 42 = .ok (.iconst (-1), 1) := by decide +kernel
theorem dX1_expand_43 : decode cX1_expand 43 = .ok (.ixor, 1) := by decide +kernel
theorem dX1_expand_44 : decode cX1_expand 44 = .ok (.iand, 1) := by decide +kernel
theorem dX1_expand_45 : decode cX1_expand 45 = .ok (.laload, 1) := by decide +kernel
theorem dX1_expand_46 : decode cX1_expand 46 = .ok (.lmul, 1) := by decide +kernel
theorem dX1_expand_47 : decode cX1_expand 47 = .ok (.lstore 6, 2) := by decide +kernel
theorem dX1_expand_49 : decode cX1_expand 49 = .ok (.aload_n 0, 1) := by decide +kernel
theorem dX1_expand_50 : decode cX1_expand 50 = .ok (.iload_n 2, 1) := by decide +kernel
theorem dX1_expand_51 : decode cX1_expand 51 = .ok (.iload 5, 2) := by decide +kernel
theorem dX1_expand_53 : decode cX1_expand 53 = .ok (.iconst 1, 1) := by decide +kernel
theorem dX1_expand_54 : decode cX1_expand 54 = .ok (.iadd, 1) := by decide +kernel
theorem dX1_expand_55 : decode cX1_expand 55 = .ok (.ishr, 1) := by decide +kernel
theorem dX1_expand_56 : decode cX1_expand 56 = .ok (.invokevirtual 32, 3) := by decide +kernel
theorem dX1_expand_59 : decode cX1_expand 59 = .ok (.iconst 2, 1) := by decide +kernel
theorem dX1_expand_60 : decode cX1_expand 60 = .ok (.irem, 1) := by decide +kernel
theorem dX1_expand_61 : decode cX1_expand 61 = .ok (.ifCond .ne 10, 3) := by decide +kernel
theorem dX1_expand_64 : decode cX1_expand 64 = .ok (.lload_n 3, 1) := by decide +kernel
theorem dX1_expand_65 : decode cX1_expand 65 = .ok (.lload 6, 2) := by decide +kernel
theorem dX1_expand_67 : decode cX1_expand 67 = .ok (.ladd, 1) := by decide +kernel
theorem dX1_expand_68 : decode cX1_expand 68 = .ok (.goto 7, 3) := by decide +kernel
theorem dX1_expand_71 : decode cX1_expand 71 = .ok (.lload_n 3, 1) := by decide +kernel
theorem dX1_expand_72 : decode cX1_expand 72 = .ok (.lload 6, 2) := by decide +kernel
theorem dX1_expand_74 : decode cX1_expand 74 = .ok (.lsub, 1) := by decide +kernel
theorem dX1_expand_75 : decode cX1_expand 75 = .ok (.lstore_n 3, 1) := by decide +kernel
theorem dX1_expand_76 : decode cX1_expand 76 = .ok (.iinc 5 1, 3) := by decide +kernel
theorem dX1_expand_79 : decode cX1_expand 79 = .ok (.goto (-74), 3) := by decide +kernel
theorem dX1_expand_82 : decode cX1_expand 82 = .ok (.lload_n 3, 1) := by decide +kernel
end
section
set_option maxRecDepth 100000
theorem dX1_expand_83 : decode cX1_expand 83 = .ok (.lreturn, 1) := by decide +kernel
abbrev cX1_minor : ByteArray := prog_3_method_15_code
def yX1_minor : MethodName := ⟨RX1, "minor", "(II)I"⟩
theorem dX1_minor_0 : decode cX1_minor 0 = .ok (.aload_n 0, 1) := by decide +kernel
theorem dX1_minor_1 : decode cX1_minor 1 = .ok (.iload_n 1, 1) := by decide +kernel
theorem dX1_minor_2 : decode cX1_minor 2 = .ok (.invokevirtual 20, 3) := by decide +kernel
theorem dX1_minor_5 : decode cX1_minor 5 = .ok (.ifCond .eq 35, 3) := by decide +kernel
theorem dX1_minor_8 : decode cX1_minor 8 = .ok (.aload_n 0, 1) := by decide +kernel
theorem dX1_minor_9 : decode cX1_minor 9 = .ok (.iload_n 2, 1) := by decide +kernel
theorem dX1_minor_10 : decode cX1_minor 10 = .ok (.invokevirtual 20, 3) := by decide +kernel
theorem dX1_minor_13 : decode cX1_minor 13 = .ok (.ifCond .eq 27, 3) := by decide +kernel
theorem dX1_minor_16 : decode cX1_minor 16 = .ok (.aload_n 0, 1) := by decide +kernel
theorem dX1_minor_17 : decode cX1_minor 17 = .ok (.bipush 15, 2) := by decide +kernel
theorem dX1_minor_19 : decode cX1_minor 19 = .ok (.iconst 1, 1) := by decide +kernel
theorem dX1_minor_20 : decode cX1_minor 20 = .ok (.iload_n 1, 1) := by decide +kernel
theorem dX1_minor_21 : decode cX1_minor 21 = .ok (.ishl, 1) := by decide +kernel
theorem dX1_minor_22 : decode cX1_minor 22 = .ok (.iconst (-1), 1) := by decide +kernel
theorem dX1_minor_23 : decode cX1_minor 23 = .ok (.ixor, 1) := by decide +kernel
theorem dX1_minor_24 : decode cX1_minor 24 = .ok (.iand, 1) := by decide +kernel
theorem dX1_minor_25 : decode cX1_minor 25 = .ok (.bipush 15, 2) := by decide +kernel
theorem dX1_minor_27 : decode cX1_minor 27 = .ok (.iconst 1, 1) := by decide +kernel
theorem dX1_minor_28 : decode cX1_minor 28 = .ok (.iload_n 2, 1) := by decide +kernel
theorem dX1_minor_29 : decode cX1_minor 29 = .ok (.ishl, 1) := by decide +kernel
theorem dX1_minor_30 : decode cX1_minor 30 = .ok (.iconst (-1), 1) := by decide +kernel
theorem dX1_minor_31 : decode cX1_minor 31 = .ok (.ixor, 1) := by decide +kernel
theorem dX1_minor_32 : decode cX1_minor 32 = .ok (.iand, 1) := by decide +kernel
theorem dX1_minor_33 : decode cX1_minor 33 = .ok (.invokevirtual 40, 3) := by decide +kernel
theorem dX1_minor_36 : decode cX1_minor 36 = .ok (.l2i, 1) := by decide +kernel
theorem dX1_minor_37 : decode cX1_minor 37 = .ok (.goto 5, 3) := by decide +kernel
theorem dX1_minor_40 : decode cX1_minor 40 = .ok (.ldc 28, 2) := by decide +kernel
theorem dX1_minor_42 : decode cX1_minor 42 = .ok (.ireturn, 1) := by decide +kernel
abbrev cX1_replaced : ByteArray := prog_3_method_16_code
def yX1_replaced : MethodName := ⟨RX1, "replaced", "(I)I"⟩
theorem dX1_replaced_0 : decode cX1_replaced 0 = .ok (.aload_n 0, 1) := by decide +kernel
theorem dX1_replaced_1 : decode cX1_replaced 1 = .ok (.iload_n 1, 1) := by decide +kernel
theorem dX1_replaced_2 : decode cX1_replaced 2 = .ok (.invokevirtual 20, 3) := by decide +kernel
theorem dX1_replaced_5 : decode cX1_replaced 5 = .ok (.ifCond .ne 6, 3) := by decide +kernel
theorem dX1_replaced_8 : decode cX1_replaced 8 = .ok (.ldc 28, 2) := by decide +kernel
theorem dX1_replaced_10 : decode cX1_replaced 10 = .ok (.ireturn, 1) := by decide +kernel
theorem dX1_replaced_11 : decode cX1_replaced 11 = .ok (.aload_n 0, 1) := by decide +kernel
theorem dX1_replaced_12 : decode cX1_replaced 12 = .ok (.invokevirtual 29, 3) := by decide +kernel
theorem dX1_replaced_15 : decode cX1_replaced 15 = .ok (.iconst 0, 1) := by decide +kernel
theorem dX1_replaced_16 : decode cX1_replaced 16 = .ok (.istore_n 2, 1) := by decide +kernel
theorem dX1_replaced_17 : decode cX1_replaced 17 = .ok (.iload_n 2, 1) := by decide +kernel
theorem dX1_replaced_18 : decode cX1_replaced 18 = .ok (.iconst 4, 1) := by decide +kernel
theorem dX1_replaced_19 : decode cX1_replaced 19 = .ok (.if_icmp .ge 29, 3) := by decide +kernel
theorem dX1_replaced_22 : decode cX1_replaced 22 = .ok (.aload_n 0, 1) := by decide +kernel
theorem dX1_replaced_23 : decode cX1_replaced 23 = .ok (.getfield 7, 3) := by decide +kernel
theorem dX1_replaced_26 : decode cX1_replaced 26 = .ok (.iconst 5, 1) := by decide +kernel
theorem dX1_replaced_27 : decode cX1_replaced 27 = .ok (.iload_n 2, 1) := by decide +kernel
theorem dX1_replaced_28 : decode cX1_replaced 28 = .ok (.imul, 1) := by decide +kernel
theorem dX1_replaced_29 : decode cX1_replaced 29 = .ok (.iload_n 1, 1) := by decide +kernel
theorem dX1_replaced_30 : decode cX1_replaced 30 = .ok (.iadd, 1) := by decide +kernel
theorem dX1_replaced_31 : decode cX1_replaced 31 = .ok (.aload_n 0, 1) := by decide +kernel
theorem dX1_replaced_32 : decode cX1_replaced 32 = .ok (.getfield 7, 3) := by decide +kernel
theorem dX1_replaced_35 : decode cX1_replaced 35 = .ok (.iconst 5, 1) := by decide +kernel
theorem dX1_replaced_36 : decode cX1_replaced 36 = .ok (.iload_n 2, 1) := by decide +kernel
theorem dX1_replaced_37 : decode cX1_replaced 37 = .ok (.imul, 1) := by decide +kernel
theorem dX1_replaced_38 : decode cX1_replaced 38 = .ok (.iconst 4, 1) := by decide +kernel
theorem dX1_replaced_39 : decode cX1_replaced 39 = .ok (.iadd, 1) := by decide +kernel
theorem dX1_replaced_40 : decode cX1_replaced 40 = .ok (.iaload, 1) := by decide +kernel
theorem dX1_replaced_41 : decode cX1_replaced 41 = .ok (.iastore, 1) := by decide +kernel
theorem dX1_replaced_42 : decode cX1_replaced 42 = .ok (.iinc 2 1, 3) := by decide +kernel
theorem dX1_replaced_45 : decode cX1_replaced 45 = .ok (.goto (-28), 3) := by decide +kernel
theorem dX1_replaced_48 : decode cX1_replaced 48 = .ok (.aload_n 0, 1) := by decide +kernel
theorem dX1_replaced_49 : decode cX1_replaced 49 = .ok (.invokevirtual 43, 3) := by decide +kernel
theorem dX1_replaced_52 : decode cX1_replaced 52 = .ok (.istore_n 2, 1) := by decide +kernel
theorem dX1_replaced_53 : decode cX1_replaced 53 = .ok (.aload_n 0, 1) := by decide +kernel
theorem dX1_replaced_54 : decode cX1_replaced 54 = .ok (.invokevirtual 47, 3) := by decide +kernel
theorem dX1_replaced_57 : decode cX1_replaced 57 = .ok (.iload_n 2, 1) := by decide +kernel
theorem dX1_replaced_58 : decode cX1_replaced 58 = .ok (.ireturn, 1) := by decide +kernel
abbrev cX1_restore : ByteArray := prog_3_method_9_code
def yX1_restore : MethodName := ⟨RX1, "restore", "()V"⟩
theorem dX1_restore_0 : decode cX1_restore 0 = .ok (.iconst 0, 1) := by decide +kernel
theorem dX1_restore_1 : decode cX1_restore 1 = .ok (.istore_n 1, 1) := by decide +kernel
theorem dX1_restore_2 : decode cX1_restore 2 = .ok (.iload_n 1, 1) := by decide +kernel
theorem dX1_restore_3 : decode cX1_restore 3 = .ok (.bipush 20, 2) := by decide +kernel
theorem dX1_restore_5 : decode cX1_restore 5 = .ok (.if_icmp .ge 21, 3) := by decide +kernel
theorem dX1_restore_8 : decode cX1_restore 8 = .ok (.aload_n 0, 1) := by decide +kernel
theorem dX1_restore_9 : decode cX1_restore 9 = .ok (.getfield 7, 3) := by decide +kernel
theorem dX1_restore_12 : decode cX1_restore 12 = .ok (.iload_n 1, 1) := by decide +kernel
theorem dX1_restore_13 : decode cX1_restore 13 = .ok (.aload_n 0, 1) := by decide +kernel
theorem dX1_restore_14 : decode cX1_restore 14 = .ok (.getfield 13, 3) := by decide +kernel
theorem dX1_restore_17 : decode cX1_restore 17 = .ok (.iload_n 1, 1) := by decide +kernel
theorem dX1_restore_18 : decode cX1_restore 18 = .ok (.iaload, 1) := by decide +kernel
theorem dX1_restore_19 : decode cX1_restore 19 = .ok (.iastore, 1) := by decide +kernel
theorem dX1_restore_20 : decode cX1_restore 20 = .ok (.iinc 1 1, 3) := by decide +kernel
theorem dX1_restore_23 : decode cX1_restore 23 = .ok (.goto (-21), 3) := by decide +kernel
theorem dX1_restore_26 : decode cX1_restore 26 = .ok (.return_, 1) := by decide +kernel
abbrev cX1_rank : ByteArray := prog_3_method_18_code
def yX1_rank : MethodName := ⟨RX1, "rank", "()I"⟩
theorem dX1_rank_0 : decode cX1_rank 0 = .ok (.aload_n 0, 1) := by decide +kernel
theorem dX1_rank_1 : decode cX1_rank 1 = .ok (.bipush 15, 2) := by decide +kernel
theorem dX1_rank_3 : decode cX1_rank 3 = .ok (.bipush 15, 2) := by decide +kernel
theorem dX1_rank_5 : decode cX1_rank 5 = .ok (.invokevirtual 50, 3) := by decide +kernel
theorem dX1_rank_8 : decode cX1_rank 8 = .ok (.ireturn, 1) := by decide +kernel
abbrev cX1_rankIn : ByteArray := prog_3_method_17_code
def yX1_rankIn : MethodName := ⟨RX1, "rankIn", "(II)I"⟩
theorem dX1_rankIn_0 : decode cX1_rankIn 0 = .ok (.iconst 0, 1) := by decide +kernel
theorem dX1_rankIn_1 : decode cX1_rankIn 1 = .ok (.istore_n 3, 1) := by decide +kernel
theorem dX1_rankIn_2 : decode cX1_rankIn 2 = .ok (.iconst 1, 1) := by decide +kernel
theorem dX1_rankIn_3 : decode cX1_rankIn 3 = .ok (.istore 4, 2) := by decide +kernel
theorem dX1_rankIn_5 : decode cX1_rankIn 5 = .ok (.iload 4, 2) := by decide +kernel
theorem dX1_rankIn_7 : decode cX1_rankIn 7 = .ok (.bipush 16, 2) := by decide +kernel
theorem dX1_rankIn_9 : decode cX1_rankIn 9 = .ok (.if_icmp .ge 104, 3) := by decide +kernel
theorem dX1_rankIn_12 : decode cX1_rankIn 12 = .ok (.iconst 1, 1) := by decide +kernel
theorem dX1_rankIn_13 : decode cX1_rankIn 13 = .ok (.istore 5, 2) := by decide +kernel
theorem dX1_rankIn_15 : decode cX1_rankIn 15 = .ok (.iload 5, 2) := by decide +kernel
theorem dX1_rankIn_17 : decode cX1_rankIn 17 = .ok (.bipush 32, 2) := by decide +kernel
theorem dX1_rankIn_19 : decode cX1_rankIn 19 = .ok (.if_icmp .ge 88, 3) := by decide +kernel
theorem dX1_rankIn_22 : decode cX1_rankIn 22 = .ok (.iload 4, 2) := by decide +kernel
theorem dX1_rankIn_24 : decode cX1_rankIn 24 = .ok (.iload_n 1, 1) := by decide +kernel
theorem dX1_rankIn_25 : decode cX1_rankIn 25 = .ok (.iconst (-1), 1) := by decide +kernel
theorem dX1_rankIn_26 : decode cX1_rankIn 26 = .ok (.ixor, 1) := by decide +kernel
theorem dX1_rankIn_27 : decode cX1_rankIn 27 = .ok (.iand, 1) := by decide +kernel
theorem dX1_rankIn_28 : decode cX1_rankIn 28 = .ok (.ifCond .ne 41, 3) := by decide +kernel
theorem dX1_rankIn_31 : decode cX1_rankIn 31 = .ok (.iload 5, 2) := by decide +kernel
theorem dX1_rankIn_33 : decode cX1_rankIn 33 = .ok (.iload_n 2, 1) := by decide +kernel
theorem dX1_rankIn_34 : decode cX1_rankIn 34 = .ok (.iconst (-1), 1) := by decide +kernel
theorem dX1_rankIn_35 : decode cX1_rankIn 35 = .ok (.ixor, 1) := by decide +kernel
theorem dX1_rankIn_36 : decode cX1_rankIn 36 = .ok (.iand, 1) := by decide +kernel
theorem dX1_rankIn_37 : decode cX1_rankIn 37 = .ok (.ifCond .ne 32, 3) := by decide +kernel
theorem dX1_rankIn_40 : decode cX1_rankIn 40 = .ok (.aload_n 0, 1) := by decide +kernel
theorem dX1_rankIn_41 : decode cX1_rankIn 41 = .ok (.iload 4, 2) := by decide +kernel
theorem dX1_rankIn_43 : decode cX1_rankIn 43 = .ok (.invokevirtual 32, 3) := by decide +kernel
theorem dX1_rankIn_46 : decode cX1_rankIn 46 = .ok (.aload_n 0, 1) := by decide +kernel
theorem dX1_rankIn_47 : decode cX1_rankIn 47 = .ok (.iload 5, 2) := by decide +kernel
theorem dX1_rankIn_49 : decode cX1_rankIn 49 = .ok (.invokevirtual 32, 3) := by decide +kernel
theorem dX1_rankIn_52 : decode cX1_rankIn 52 = .ok (.if_icmp .ne 17, 3) := by decide +kernel
theorem dX1_rankIn_55 : decode cX1_rankIn 55 = .ok (.aload_n 0, 1) := by decide +kernel
theorem dX1_rankIn_56 : decode cX1_rankIn 56 = .ok (.iload 4, 2) := by decide +kernel
theorem dX1_rankIn_58 : decode cX1_rankIn 58 = .ok (.invokevirtual 32, 3) := by decide +kernel
theorem dX1_rankIn_61 : decode cX1_rankIn 61 = .ok (.iload_n 3, 1) := by decide +kernel
theorem dX1_rankIn_62 : decode cX1_rankIn 62 = .ok (.if_icmp .le 7, 3) := by decide +kernel
theorem dX1_rankIn_65 : decode cX1_rankIn 65 = .ok (.iconst 1, 1) := by decide +kernel
theorem dX1_rankIn_66 : decode cX1_rankIn 66 = .ok (.goto 4, 3) := by decide +kernel
theorem dX1_rankIn_69 : decode cX1_rankIn 69 = .ok (.iconst 0, 1) := by decide +kernel
theorem dX1_rankIn_70 : decode cX1_rankIn 70 = .ok (.istore 6, 2) := by decide +kernel
theorem dX1_rankIn_72 : decode cX1_rankIn 72 = .ok (.iload 6, 2) := by decide +kernel
theorem dX1_rankIn_74 : decode cX1_rankIn 74 = .ok (.ifCond .eq 25, 3) := by decide +kernel
theorem dX1_rankIn_77 : decode cX1_rankIn 77 = .ok (.aload_n 0, 1) := by decide +kernel
theorem dX1_rankIn_78 : decode cX1_rankIn 78 = .ok (.iload 4, 2) := by decide +kernel
theorem dX1_rankIn_80 : decode cX1_rankIn 80 = .ok (.iload 5, 2) := by decide +kernel
theorem dX1_rankIn_82 : decode cX1_rankIn 82 = .ok (.invokevirtual 40, 3) := by decide +kernel
theorem dX1_rankIn_85 : decode cX1_rankIn 85 = .ok (.lconst 0, 1) := by decide +kernel
theorem dX1_rankIn_86 : decode cX1_rankIn 86 = .ok (.lcmp, 1) := by decide +kernel
theorem dX1_rankIn_87 : decode cX1_rankIn 87 = .ok (.ifCond .eq 12, 3) := by decide +kernel
theorem dX1_rankIn_90 : decode cX1_rankIn 90 = .ok (.aload_n 0, 1) := by decide +kernel
theorem dX1_rankIn_91 : decode cX1_rankIn 91 = .ok (.iload 4, 2) := by decide +kernel
theorem dX1_rankIn_93 : decode cX1_rankIn 93 = .ok (.invokevirtual 32, 3) := by decide +kernel
theorem dX1_rankIn_96 : decode cX1_rankIn 96 = .ok (.goto 4, 3) := by decide +kernel
theorem dX1_rankIn_99 : decode cX1_rankIn 99 = .ok (.iload_n 3, 1) := by decide +kernel
theorem dX1_rankIn_100 : decode cX1_rankIn 100 = .ok (.istore_n 3, 1) := by decide +kernel
theorem dX1_rankIn_101 : decode cX1_rankIn 101 = .ok (.iinc 5 1, 3) := by decide +kernel
theorem dX1_rankIn_104 : decode cX1_rankIn 104 = .ok (.goto (-89), 3) := by decide +kernel
theorem dX1_rankIn_107 : decode cX1_rankIn 107 = .ok (.iinc 4 1, 3) := by decide +kernel
theorem dX1_rankIn_110 : decode cX1_rankIn 110 = .ok (.goto (-105), 3) := by decide +kernel
theorem dX1_rankIn_113 : decode cX1_rankIn 113 = .ok (.iload_n 3, 1) := by decide +kernel
theorem dX1_rankIn_114 : decode cX1_rankIn 114 = .ok (.ireturn, 1) := by decide +kernel
abbrev cX1_wideRank : ByteArray := prog_3_method_19_code
def yX1_wideRank : MethodName := ⟨RX1, "wideRank", "()I"⟩
theorem dX1_wideRank_0 : decode cX1_wideRank 0 = .ok (.aload_n 0, 1) := by decide +kernel
theorem dX1_wideRank_1 : decode cX1_wideRank 1 = .ok (.bipush 15, 2) := by decide +kernel
theorem dX1_wideRank_3 : decode cX1_wideRank 3 = .ok (.bipush 31, 2) := by decide +kernel
theorem dX1_wideRank_5 : decode cX1_wideRank 5 = .ok (.invokevirtual 50, 3) := by decide +kernel
theorem dX1_wideRank_8 : decode cX1_wideRank 8 = .ok (.ireturn, 1) := by decide +kernel
abbrev cX1_coefficient : ByteArray := prog_3_method_20_code
def yX1_coefficient : MethodName := ⟨RX1, "coefficient", "(I)I"⟩
theorem dX1_coefficient_0 : decode cX1_coefficient 0 = .ok (.iload_n 1, 1) := by decide +kernel
theorem dX1_coefficient_1 : decode cX1_coefficient 1 = .ok (.ifCond .lt 8, 3) := by decide +kernel
theorem dX1_coefficient_4 : decode cX1_coefficient 4 = .ok (.iload_n 1, 1) := by decide +kernel
theorem dX1_coefficient_5 : decode cX1_coefficient 5 = .ok (.iconst 4, 1) := by decide +kernel
theorem dX1_coefficient_6 : decode cX1_coefficient 6 = .ok (.if_icmp .le 6, 3) := by decide +kernel
theorem dX1_coefficient_9 : decode cX1_coefficient 9 = .ok (.ldc 28, 2) := by decide +kernel
theorem dX1_coefficient_11 : decode cX1_coefficient 11 = .ok (.ireturn, 1) := by decide +kernel
theorem dX1_coefficient_12 : decode cX1_coefficient 12 = .ok (.iload_n 1, 1) := by decide +kernel
theorem dX1_coefficient_13 : decode cX1_coefficient 13 = .ok (.iconst 4, 1) := by decide +kernel
theorem dX1_coefficient_14 : decode cX1_coefficient 14 = .ok (.if_icmp .ne 7, 3) := by decide +kernel
theorem dX1_coefficient_17 : decode cX1_coefficient 17 = .ok (.iconst 1, 1) := by decide +kernel
theorem dX1_coefficient_18 : decode cX1_coefficient 18 = .ok (.goto 10, 3) := by decide +kernel
theorem dX1_coefficient_21 : decode cX1_coefficient 21 = .ok (.aload_n 0, 1) := by decide +kernel
theorem dX1_coefficient_22 : decode cX1_coefficient 22 = .ok (.iconst 4, 1) := by decide +kernel
theorem dX1_coefficient_23 : decode cX1_coefficient 23 = .ok (.iload_n 1, 1) := by decide +kernel
theorem dX1_coefficient_24 : decode cX1_coefficient 24 = .ok (.isub, 1) := by decide +kernel
theorem dX1_coefficient_25 : decode cX1_coefficient 25 = .ok (.invokevirtual 54, 3) := by decide +kernel
theorem dX1_coefficient_28 : decode cX1_coefficient 28 = .ok (.istore_n 2, 1) := by decide +kernel
theorem dX1_coefficient_29 : decode cX1_coefficient 29 = .ok (.iload_n 1, 1) := by decide +kernel
theorem dX1_coefficient_30 : decode cX1_coefficient 30 = .ok (.iconst 2, 1) := by decide +kernel
theorem dX1_coefficient_31 : decode cX1_coefficient 31 = .ok (.irem, 1) := by decide +kernel
theorem dX1_coefficient_32 : decode cX1_coefficient 32 = .ok (.ifCond .ne 7, 3) := by decide +kernel
theorem dX1_coefficient_35 : decode cX1_coefficient 35 = .ok (.iload_n 2, 1) := by decide +kernel
theorem dX1_coefficient_36 : decode cX1_coefficient 36 = .ok (.goto 5, 3) := by decide +kernel
theorem dX1_coefficient_39 : decode cX1_coefficient 39 = .ok (.iload_n 2, 1) := by decide +kernel
theorem dX1_coefficient_40 : decode cX1_coefficient 40 = .ok (.ineg, 1) := by decide +kernel
theorem dX1_coefficient_41 : decode cX1_coefficient 41 = .ok (.ireturn, 1) := by decide +kernel
abbrev cX1_principal : ByteArray := prog_3_method_21_code
def yX1_principal : MethodName := ⟨RX1, "principal", "(I)I"⟩
theorem dX1_principal_0 : decode cX1_principal 0 = .ok (.iload_n 1, 1) := by decide +kernel
theorem dX1_principal_1 : decode cX1_principal 1 = .ok (.iconst 1, 1) := by decide +kernel
theorem dX1_principal_2 : decode cX1_principal 2 = .ok (.if_icmp .lt 8, 3) := by decide +kernel
theorem dX1_principal_5 : decode cX1_principal 5 = .ok (.iload_n 1, 1) := by decide +kernel
theorem dX1_principal_6 : decode cX1_principal 6 = .ok (.iconst 4, 1) := by decide +kernel
theorem dX1_principal_7 : decode cX1_principal 7 = .ok (.if_icmp .le 6, 3) := by decide +kernel
theorem dX1_principal_10 : decode cX1_principal 10 = .ok (.ldc 28, 2) := by decide +kernel
theorem dX1_principal_12 : decode cX1_principal 12 = .ok (.ireturn, 1) := by decide +kernel
theorem dX1_principal_13 : decode cX1_principal 13 = .ok (.lconst 0, 1) := by decide +kernel
theorem dX1_principal_14 : decode cX1_principal 14 = .ok (.lstore_n 2, 1) := by decide +kernel
theorem dX1_principal_15 : decode cX1_principal 15 = .ok (.iconst 1, 1) := by decide +kernel
theorem dX1_principal_16 : decode cX1_principal 16 = .ok (.istore 4, 2) := by decide +kernel
theorem dX1_principal_18 : decode cX1_principal 18 = .ok (.iload 4, 2) := by decide +kernel
theorem dX1_principal_20 : decode cX1_principal 20 = .ok (.bipush 16, 2) := by decide +kernel
theorem dX1_principal_22 : decode cX1_principal 22 = .ok (.if_icmp .ge 34, 3) := by decide +kernel
theorem dX1_principal_25 : decode cX1_principal 25 = .ok (.aload_n 0, 1) := by decide +kernel
theorem dX1_principal_26 : decode cX1_principal 26 = .ok (.iload 4, 2) := by decide +kernel
theorem dX1_principal_28 : decode cX1_principal 28 = .ok (.invokevirtual 32, 3) := by decide +kernel
theorem dX1_principal_31 : decode cX1_principal 31 = .ok (.iload_n 1, 1) := by decide +kernel
theorem dX1_principal_32 : decode cX1_principal 32 = .ok (.if_icmp .ne 16, 3) := by decide +kernel
theorem dX1_principal_35 : decode cX1_principal 35 = .ok (.lload_n 2, 1) := by decide +kernel
theorem dX1_principal_36 : decode cX1_principal 36 = .ok (.aload_n 0, 1) := by decide +kernel
theorem dX1_principal_37 : decode cX1_principal 37 = .ok (.iload 4, 2) := by decide +kernel
theorem dX1_principal_39 : decode cX1_principal 39 = .ok (.iload 4, 2) := by decide +kernel
theorem dX1_principal_41 : decode cX1_principal 41 = .ok (.invokevirtual 40, 3) := by decide +kernel
theorem dX1_principal_44 : decode cX1_principal 44 = .ok (.ladd, 1) := by decide +kernel
theorem dX1_principal_45 : decode cX1_principal 45 = .ok (.goto 4, 3) := by decide +kernel
theorem dX1_principal_48 : decode cX1_principal 48 = .ok (.lload_n 2, 1) := by decide +kernel
theorem dX1_principal_49 : decode cX1_principal 49 = .ok (.lstore_n 2, 1) := by decide +kernel
theorem dX1_principal_50 : decode cX1_principal 50 = .ok (.iinc 4 1, 3) := by decide +kernel
theorem dX1_principal_53 : decode cX1_principal 53 = .ok (.goto (-35), 3) := by decide +kernel
theorem dX1_principal_56 : decode cX1_principal 56 = .ok (.lload_n 2, 1) := by decide +kernel
theorem dX1_principal_57 : decode cX1_principal 57 = .ok (.l2i, 1) := by decide +kernel
theorem dX1_principal_58 : decode cX1_principal 58 = .ok (.ireturn, 1) := by decide +kernel
abbrev cX1_rankOf : ByteArray := prog_3_method_22_code
def yX1_rankOf : MethodName := ⟨RX1, "rankOf", "(I)I"⟩
theorem dX1_rankOf_0 : decode cX1_rankOf 0 = .ok (.iload_n 1, 1) := by decide +kernel
theorem dX1_rankOf_1 : decode cX1_rankOf 1 = .ok (.ifCond .lt 9, 3) := by decide +kernel
theorem dX1_rankOf_4 : decode cX1_rankOf 4 = .ok (.iload_n 1, 1) := by decide +kernel
theorem dX1_rankOf_5 : decode cX1_rankOf 5 = .ok (.bipush 15, 2) := by decide +kernel
theorem dX1_rankOf_7 : decode cX1_rankOf 7 = .ok (.if_icmp .le 8, 3) := by decide +kernel
theorem dX1_rankOf_10 : decode cX1_rankOf 10 = .ok (.ldc 28, 2) := by decide +kernel
theorem dX1_rankOf_12 : decode cX1_rankOf 12 = .ok (.goto 10, 3) := by decide +kernel
theorem dX1_rankOf_15 : decode cX1_rankOf 15 = .ok (.aload_n 0, 1) := by decide +kernel
theorem dX1_rankOf_16 : decode cX1_rankOf 16 = .ok (.iload_n 1, 1) := by decide +kernel
theorem dX1_rankOf_17 : decode cX1_rankOf 17 = .ok (.bipush 15, 2) := by decide +kernel
theorem dX1_rankOf_19 : decode cX1_rankOf 19 = .ok (.invokevirtual 50, 3) := by decide +kernel
theorem dX1_rankOf_22 : decode cX1_rankOf 22 = .ok (.ireturn, 1) := by decide +kernel
abbrev cX1_determinantWith : ByteArray := prog_3_method_23_code
def yX1_determinantWith : MethodName := ⟨RX1, "determinantWith", "(III)I"⟩
theorem dX1_determinantWith_0 : decode cX1_determinantWith 0 = .ok (.aload_n 0, 1) := by decide +kernel
theorem dX1_determinantWith_1 : decode cX1_determinantWith 1 = .ok (.iload_n 1, 1) := by decide +kernel
theorem dX1_determinantWith_2 : decode cX1_determinantWith 2 = .ok (.iload_n 2, 1) := by decide +kernel
theorem dX1_determinantWith_3 : decode cX1_determinantWith 3 = .ok (.iload_n 3, 1) := by decide +kernel
theorem dX1_determinantWith_4 : decode cX1_determinantWith 4 = .ok (.invokevirtual 24, 3) := by decide +kernel
theorem dX1_determinantWith_7 : decode cX1_determinantWith 7 = .ok (.ifCond .eq 8, 3) := by decide +kernel
theorem dX1_determinantWith_10 : decode cX1_determinantWith 10 = .ok (.iload_n 2, 1) := by decide +kernel
theorem dX1_determinantWith_11 : decode cX1_determinantWith 11 = .ok (.iconst 4, 1) := by decide +kernel
theorem dX1_determinantWith_12 : decode cX1_determinantWith 12 = .ok (.if_icmp .ne 6, 3) := by decide +kernel
theorem dX1_determinantWith_15 : decode cX1_determinantWith 15 = .ok (.ldc 28, 2) := by decide +kernel
theorem dX1_determinantWith_17 : decode cX1_determinantWith 17 = .ok (.ireturn, 1) := by decide +kernel
theorem dX1_determinantWith_18 : decode cX1_determinantWith 18 = .ok (.aload_n 0, 1) := by decide +kernel
theorem dX1_determinantWith_19 : decode cX1_determinantWith 19 = .ok (.getfield 7, 3) := by decide +kernel
theorem dX1_determinantWith_22 : decode cX1_determinantWith 22 = .ok (.iconst 5, 1) := by decide +kernel
theorem dX1_determinantWith_23 : decode cX1_determinantWith 23 = .ok (.iload_n 1, 1) := by decide +kernel
theorem dX1_determinantWith_24 : decode cX1_determinantWith 24 = .ok (.imul, 1) := by decide +kernel
theorem dX1_determinantWith_25 : decode cX1_determinantWith 25 = .ok (.iload_n 2, 1) := by decide +kernel
theorem dX1_determinantWith_26 : decode cX1_determinantWith 26 = .ok (.iadd, 1) := by decide +kernel
theorem dX1_determinantWith_27 : decode cX1_determinantWith 27 = .ok (.iaload, 1) := by decide +kernel
theorem dX1_determinantWith_28 : decode cX1_determinantWith 28 = .ok (.istore 4, 2) := by decide +kernel
theorem dX1_determinantWith_30 : decode cX1_determinantWith 30 = .ok (.aload_n 0, 1) := by decide +kernel
theorem dX1_determinantWith_31 : decode cX1_determinantWith 31 = .ok (.getfield 7, 3) := by decide +kernel
theorem dX1_determinantWith_34 : decode cX1_determinantWith 34 = .ok (.iconst 5, 1) := by decide +kernel
theorem dX1_determinantWith_35 : decode cX1_determinantWith 35 = .ok (.iload_n 1, 1) := by decide +kernel
theorem dX1_determinantWith_36 : decode cX1_determinantWith 36 = .ok (.imul, 1) := by decide +kernel
theorem dX1_determinantWith_37 : decode cX1_determinantWith 37 = .ok (.iload_n 2, 1) := by decide +kernel
theorem dX1_determinantWith_38 : decode cX1_determinantWith 38 = .ok (.iadd, 1) := by decide +kernel
theorem dX1_determinantWith_39 : decode cX1_determinantWith 39 = .ok (.iload_n 3, 1) := by decide +kernel
theorem dX1_determinantWith_40 : decode cX1_determinantWith 40 = .ok (.iastore, 1) := by decide +kernel
theorem dX1_determinantWith_41 : decode cX1_determinantWith 41 = .ok (.aload_n 0, 1) := by decide +kernel
theorem dX1_determinantWith_42 : decode cX1_determinantWith 42 = .ok (.invokevirtual 43, 3) := by decide +kernel
theorem dX1_determinantWith_45 : decode cX1_determinantWith 45 = .ok (.istore 5, 2) := by decide +kernel
theorem dX1_determinantWith_47 : decode cX1_determinantWith 47 = .ok (.aload_n 0, 1) := by decide +kernel
theorem dX1_determinantWith_48 : decode cX1_determinantWith 48 = .ok (.getfield 7, 3) := by decide +kernel
theorem dX1_determinantWith_51 : decode cX1_determinantWith 51 = .ok (.iconst 5, 1) := by decide +kernel
theorem dX1_determinantWith_52 : decode cX1_determinantWith 52 = .ok (.iload_n 1, 1) := by decide +kernel
theorem dX1_determinantWith_53 : decode cX1_determinantWith 53 = .ok (.imul, 1) := by decide +kernel
theorem dX1_determinantWith_54 : decode cX1_determinantWith 54 = .ok (.iload_n 2, 1) := by decide +kernel
theorem dX1_determinantWith_55 : decode cX1_determinantWith 55 = .ok (.iadd, 1) := by decide +kernel
theorem dX1_determinantWith_56 : decode cX1_determinantWith 56 = .ok (.iload 4, 2) := by decide +kernel
theorem dX1_determinantWith_58 : decode cX1_determinantWith 58 = .ok (.iastore, 1) := by decide +kernel
theorem dX1_determinantWith_59 : decode cX1_determinantWith 59 = .ok (.iload 5, 2) := by decide +kernel
theorem dX1_determinantWith_61 : decode cX1_determinantWith 61 = .ok (.ireturn, 1) := by decide +kernel
abbrev cX1_shifted : ByteArray := prog_3_method_24_code
def yX1_shifted : MethodName := ⟨RX1, "shifted", "(I)I"⟩
theorem dX1_shifted_0 : decode cX1_shifted 0 = .ok (.iload_n 1, 1) := by decide +kernel
theorem dX1_shifted_1 : decode cX1_shifted 1 = .ok (.bipush (-50), 2) := by decide +kernel
theorem dX1_shifted_3 : decode cX1_shifted 3 = .ok (.if_icmp .lt 9, 3) := by decide +kernel
theorem dX1_shifted_6 : decode cX1_shifted 6 = .ok (.iload_n 1, 1) := by decide +kernel
theorem dX1_shifted_7 : decode cX1_shifted 7 = .ok (.bipush 50, 2) := by decide +kernel
theorem dX1_shifted_9 : decode cX1_shifted 9 = .ok (.if_icmp .le 6, 3) := by decide +kernel
theorem dX1_shifted_12 : decode cX1_shifted 12 = .ok (.ldc 28, 2) := by decide +kernel
theorem dX1_shifted_14 : decode cX1_shifted 14 = .ok (.ireturn, 1) := by decide +kernel
theorem dX1_shifted_15 : decode cX1_shifted 15 = .ok (.aload_n 0, 1) := by decide +kernel
theorem dX1_shifted_16 : decode cX1_shifted 16 = .ok (.invokevirtual 29, 3) := by decide +kernel
theorem dX1_shifted_19 : decode cX1_shifted 19 = .ok (.iconst 0, 1) := by decide +kernel
theorem dX1_shifted_20 : decode cX1_shifted 20 = .ok (.istore_n 2, 1) := by decide +kernel
theorem dX1_shifted_21 : decode cX1_shifted 21 = .ok (.iload_n 2, 1) := by decide +kernel
theorem dX1_shifted_22 : decode cX1_shifted 22 = .ok (.iconst 4, 1) := by decide +kernel
theorem dX1_shifted_23 : decode cX1_shifted 23 = .ok (.if_icmp .ge 29, 3) := by decide +kernel
theorem dX1_shifted_26 : decode cX1_shifted 26 = .ok (.aload_n 0, 1) := by decide +kernel
theorem dX1_shifted_27 : decode cX1_shifted 27 = .ok (.getfield 7, 3) := by decide +kernel
theorem dX1_shifted_30 : decode cX1_shifted 30 = .ok (.bipush 6, 2) := by decide +kernel
theorem dX1_shifted_32 : decode cX1_shifted 32 = .ok (.iload_n 2, 1) := by decide +kernel
theorem dX1_shifted_33 : decode cX1_shifted 33 = .ok (.imul, 1) := by decide +kernel
theorem dX1_shifted_34 : decode cX1_shifted 34 = .ok (.aload_n 0, 1) := by decide +kernel
theorem dX1_shifted_35 : decode cX1_shifted 35 = .ok (.getfield 7, 3) := by decide +kernel
theorem dX1_shifted_38 : decode cX1_shifted 38 = .ok (.bipush 6, 2) := by decide +kernel
theorem dX1_shifted_40 : decode cX1_shifted 40 = .ok (.iload_n 2, 1) := by decide +kernel
theorem dX1_shifted_41 : decode cX1_shifted 41 = .ok (.imul, 1) := by decide +kernel
theorem dX1_shifted_42 : decode cX1_shifted 42 = .ok (.iaload, 1) := by decide +kernel
theorem dX1_shifted_43 : decode cX1_shifted 43 = .ok (.iload_n 1, 1) := by decide +kernel
theorem dX1_shifted_44 : decode cX1_shifted 44 = .ok (.iadd, 1) := by decide +kernel
theorem dX1_shifted_45 : decode cX1_shifted 45 = .ok (.iastore, 1) := by decide +kernel
theorem dX1_shifted_46 : decode cX1_shifted 46 = .ok (.iinc 2 1, 3) := by decide +kernel
theorem dX1_shifted_49 : decode cX1_shifted 49 = .ok (.goto (-28), 3) := by decide +kernel
theorem dX1_shifted_52 : decode cX1_shifted 52 = .ok (.aload_n 0, 1) := by decide +kernel
theorem dX1_shifted_53 : decode cX1_shifted 53 = .ok (.invokevirtual 43, 3) := by decide +kernel
theorem dX1_shifted_56 : decode cX1_shifted 56 = .ok (.istore_n 2, 1) := by decide +kernel
theorem dX1_shifted_57 : decode cX1_shifted 57 = .ok (.aload_n 0, 1) := by decide +kernel
theorem dX1_shifted_58 : decode cX1_shifted 58 = .ok (.invokevirtual 47, 3) := by decide +kernel
theorem dX1_shifted_61 : decode cX1_shifted 61 = .ok (.iload_n 2, 1) := by decide +kernel
theorem dX1_shifted_62 : decode cX1_shifted 62 = .ok (.ireturn, 1) := by decide +kernel
theorem q28 : (Jvm.Cond.initialized "DeterminantDeskModel") ∈ lw_all := lw_g (lw_at lw_m1 2 rfl) rfl
theorem q202 : (Jvm.Cond.instantiable "DeterminantDeskModel" (3 : Nat)) ∈ lw_all := lw_g (lw_at lw_m1 176 rfl) rfl
theorem q204 : (Jvm.Cond.instanceMethod ({ cls := "DeterminantDeskModel", name := "<init>", desc := "()V" } : Jvm.MethodName)) ∈ lw_all := lw_g (lw_at lw_m1 178 rfl) rfl
theorem q205 : (Jvm.Cond.code ({ cls := "DeterminantDeskModel", name := "<init>", desc := "()V" } : Jvm.MethodName) prog_3_method_1_code (1 : Nat) (Option.none : Option Jvm.ClassFile.FieldType)) ∈ lw_all := lw_g (lw_at lw_m1 179 rfl) rfl
theorem q206 : (Jvm.Cond.methodLink "DeterminantDeskModel" (1 : Nat) ({ cls := "java/lang/Object", name := "<init>", desc := "()V" } : Jvm.MethodName)) ∈ lw_all := lw_g (lw_at lw_m1 180 rfl) rfl
theorem q207 : (Jvm.Cond.fieldLink "DeterminantDeskModel" (7 : Nat) "DeterminantDeskModel" "cells" "[I") ∈ lw_all := lw_g (lw_at lw_m1 181 rfl) rfl
theorem q208 : (Jvm.Cond.fieldLink "DeterminantDeskModel" (13 : Nat) "DeterminantDeskModel" "kept" "[I") ∈ lw_all := lw_g (lw_at lw_m1 182 rfl) rfl
theorem q209 : (Jvm.Cond.fieldLink "DeterminantDeskModel" (16 : Nat) "DeterminantDeskModel" "table" "[J") ∈ lw_all := lw_g (lw_at lw_m1 183 rfl) rfl
theorem q210 : (Jvm.Cond.lays "DeterminantDeskModel" "DeterminantDeskModel" "cells" "[I") ∈ lw_all := lw_g (lw_at lw_m1 184 rfl) rfl
theorem q211 : (Jvm.Cond.soleField "DeterminantDeskModel" "cells") ∈ lw_all := lw_g (lw_at lw_m1 185 rfl) rfl
theorem q212 : (Jvm.Cond.lays "DeterminantDeskModel" "DeterminantDeskModel" "kept" "[I") ∈ lw_all := lw_g (lw_at lw_m1 186 rfl) rfl
theorem q213 : (Jvm.Cond.soleField "DeterminantDeskModel" "kept") ∈ lw_all := lw_g (lw_at lw_m1 187 rfl) rfl
theorem q214 : (Jvm.Cond.lays "DeterminantDeskModel" "DeterminantDeskModel" "table" "[J") ∈ lw_all := lw_g (lw_at lw_m1 188 rfl) rfl
theorem q215 : (Jvm.Cond.soleField "DeterminantDeskModel" "table") ∈ lw_all := lw_g (lw_at lw_m1 189 rfl) rfl
theorem q216 : (Jvm.Cond.superclass "DeterminantDeskModel" "java/lang/Object") ∈ lw_all := lw_g (lw_at lw_m1 190 rfl) rfl
theorem q219 : (Jvm.Cond.instanceMethod ({ cls := "DeterminantDeskModel", name := "set", desc := "(III)Z" } : Jvm.MethodName)) ∈ lw_all := lw_g (lw_at lw_m1 193 rfl) rfl
theorem q220 : (Jvm.Cond.selects "DeterminantDeskModel" ({ cls := "DeterminantDeskModel", name := "set", desc := "(III)Z" } : Jvm.MethodName) ({ cls := "DeterminantDeskModel", name := "set", desc := "(III)Z" } : Jvm.MethodName)) ∈ lw_all := lw_g (lw_at lw_m1 194 rfl) rfl
theorem q221 : (Jvm.Cond.code ({ cls := "DeterminantDeskModel", name := "set", desc := "(III)Z" } : Jvm.MethodName) prog_3_method_4_code (4 : Nat) (Option.some Jvm.ClassFile.FieldType.boolean)) ∈ lw_all := lw_g (lw_at lw_m1 195 rfl) rfl
theorem q222 : (Jvm.Cond.methodLink "DeterminantDeskModel" (24 : Nat) ({ cls := "DeterminantDeskModel", name := "fits", desc := "(III)Z" } : Jvm.MethodName)) ∈ lw_all := lw_g (lw_at lw_m1 196 rfl) rfl
theorem q223 : (Jvm.Cond.privateMethod ({ cls := "DeterminantDeskModel", name := "fits", desc := "(III)Z" } : Jvm.MethodName)) ∈ lw_tbl := lw_at lw_m1 197 rfl
theorem q224 : (Jvm.Cond.instanceMethod ({ cls := "DeterminantDeskModel", name := "fits", desc := "(III)Z" } : Jvm.MethodName)) ∈ lw_all := lw_g (lw_at lw_m1 198 rfl) rfl
theorem q225 : (Jvm.Cond.code ({ cls := "DeterminantDeskModel", name := "fits", desc := "(III)Z" } : Jvm.MethodName) prog_3_method_3_code (4 : Nat) (Option.some Jvm.ClassFile.FieldType.boolean)) ∈ lw_all := lw_g (lw_at lw_m1 199 rfl) rfl
theorem q226 : (Jvm.Cond.methodLink "DeterminantDeskModel" (20 : Nat) ({ cls := "DeterminantDeskModel", name := "row", desc := "(I)Z" } : Jvm.MethodName)) ∈ lw_all := lw_g (lw_at lw_m1 200 rfl) rfl
theorem q227 : (Jvm.Cond.privateMethod ({ cls := "DeterminantDeskModel", name := "row", desc := "(I)Z" } : Jvm.MethodName)) ∈ lw_tbl := lw_at lw_m1 201 rfl
theorem q228 : (Jvm.Cond.instanceMethod ({ cls := "DeterminantDeskModel", name := "row", desc := "(I)Z" } : Jvm.MethodName)) ∈ lw_all := lw_g (lw_at lw_m1 202 rfl) rfl
theorem q229 : (Jvm.Cond.code ({ cls := "DeterminantDeskModel", name := "row", desc := "(I)Z" } : Jvm.MethodName) prog_3_method_2_code (2 : Nat) (Option.some Jvm.ClassFile.FieldType.boolean)) ∈ lw_all := lw_g (lw_at lw_m1 203 rfl) rfl
theorem q231 : (Jvm.Cond.instanceMethod ({ cls := "DeterminantDeskModel", name := "at", desc := "(II)I" } : Jvm.MethodName)) ∈ lw_all := lw_g (lw_at lw_m1 205 rfl) rfl
theorem q232 : (Jvm.Cond.selects "DeterminantDeskModel" ({ cls := "DeterminantDeskModel", name := "at", desc := "(II)I" } : Jvm.MethodName) ({ cls := "DeterminantDeskModel", name := "at", desc := "(II)I" } : Jvm.MethodName)) ∈ lw_all := lw_g (lw_at lw_m1 206 rfl) rfl
theorem q233 : (Jvm.Cond.code ({ cls := "DeterminantDeskModel", name := "at", desc := "(II)I" } : Jvm.MethodName) prog_3_method_5_code (3 : Nat) (Option.some Jvm.ClassFile.FieldType.int)) ∈ lw_all := lw_g (lw_at lw_m1 207 rfl) rfl
theorem q234 : (Jvm.Cond.constant "DeterminantDeskModel" (28 : Nat) (-1000000000 : Int32)) ∈ lw_all := lw_g (lw_at lw_m1 208 rfl) rfl
theorem q236 : (Jvm.Cond.instanceMethod ({ cls := "DeterminantDeskModel", name := "swapRows", desc := "(II)Z" } : Jvm.MethodName)) ∈ lw_all := lw_g (lw_at lw_m1 210 rfl) rfl
theorem q237 : (Jvm.Cond.selects "DeterminantDeskModel" ({ cls := "DeterminantDeskModel", name := "swapRows", desc := "(II)Z" } : Jvm.MethodName) ({ cls := "DeterminantDeskModel", name := "swapRows", desc := "(II)Z" } : Jvm.MethodName)) ∈ lw_all := lw_g (lw_at lw_m1 211 rfl) rfl
theorem q238 : (Jvm.Cond.code ({ cls := "DeterminantDeskModel", name := "swapRows", desc := "(II)Z" } : Jvm.MethodName) prog_3_method_6_code (5 : Nat) (Option.some Jvm.ClassFile.FieldType.boolean)) ∈ lw_all := lw_g (lw_at lw_m1 212 rfl) rfl
theorem q240 : (Jvm.Cond.instanceMethod ({ cls := "DeterminantDeskModel", name := "addRow", desc := "(III)Z" } : Jvm.MethodName)) ∈ lw_all := lw_g (lw_at lw_m1 214 rfl) rfl
theorem q241 : (Jvm.Cond.selects "DeterminantDeskModel" ({ cls := "DeterminantDeskModel", name := "addRow", desc := "(III)Z" } : Jvm.MethodName) ({ cls := "DeterminantDeskModel", name := "addRow", desc := "(III)Z" } : Jvm.MethodName)) ∈ lw_all := lw_g (lw_at lw_m1 215 rfl) rfl
theorem q242 : (Jvm.Cond.code ({ cls := "DeterminantDeskModel", name := "addRow", desc := "(III)Z" } : Jvm.MethodName) prog_3_method_7_code (6 : Nat) (Option.some Jvm.ClassFile.FieldType.boolean)) ∈ lw_all := lw_g (lw_at lw_m1 216 rfl) rfl
theorem q244 : (Jvm.Cond.instanceMethod ({ cls := "DeterminantDeskModel", name := "transpose", desc := "()V" } : Jvm.MethodName)) ∈ lw_all := lw_g (lw_at lw_m1 218 rfl) rfl
theorem q245 : (Jvm.Cond.selects "DeterminantDeskModel" ({ cls := "DeterminantDeskModel", name := "transpose", desc := "()V" } : Jvm.MethodName) ({ cls := "DeterminantDeskModel", name := "transpose", desc := "()V" } : Jvm.MethodName)) ∈ lw_all := lw_g (lw_at lw_m1 219 rfl) rfl
theorem q246 : (Jvm.Cond.code ({ cls := "DeterminantDeskModel", name := "transpose", desc := "()V" } : Jvm.MethodName) prog_3_method_10_code (2 : Nat) (Option.none : Option Jvm.ClassFile.FieldType)) ∈ lw_all := lw_g (lw_at lw_m1 220 rfl) rfl
theorem q247 : (Jvm.Cond.methodLink "DeterminantDeskModel" (29 : Nat) ({ cls := "DeterminantDeskModel", name := "keep", desc := "()V" } : Jvm.MethodName)) ∈ lw_all := lw_g (lw_at lw_m1 221 rfl) rfl
theorem q248 : (Jvm.Cond.privateMethod ({ cls := "DeterminantDeskModel", name := "keep", desc := "()V" } : Jvm.MethodName)) ∈ lw_tbl := lw_at lw_m1 222 rfl
theorem q249 : (Jvm.Cond.instanceMethod ({ cls := "DeterminantDeskModel", name := "keep", desc := "()V" } : Jvm.MethodName)) ∈ lw_all := lw_g (lw_at lw_m1 223 rfl) rfl
theorem q250 : (Jvm.Cond.code ({ cls := "DeterminantDeskModel", name := "keep", desc := "()V" } : Jvm.MethodName) prog_3_method_8_code (2 : Nat) (Option.none : Option Jvm.ClassFile.FieldType)) ∈ lw_all := lw_g (lw_at lw_m1 224 rfl) rfl
theorem q252 : (Jvm.Cond.instanceMethod ({ cls := "DeterminantDeskModel", name := "determinant", desc := "()I" } : Jvm.MethodName)) ∈ lw_all := lw_g (lw_at lw_m1 226 rfl) rfl
theorem q253 : (Jvm.Cond.selects "DeterminantDeskModel" ({ cls := "DeterminantDeskModel", name := "determinant", desc := "()I" } : Jvm.MethodName) ({ cls := "DeterminantDeskModel", name := "determinant", desc := "()I" } : Jvm.MethodName)) ∈ lw_all := lw_g (lw_at lw_m1 227 rfl) rfl
theorem q254 : (Jvm.Cond.code ({ cls := "DeterminantDeskModel", name := "determinant", desc := "()I" } : Jvm.MethodName) prog_3_method_14_code (1 : Nat) (Option.some Jvm.ClassFile.FieldType.int)) ∈ lw_all := lw_g (lw_at lw_m1 228 rfl) rfl
theorem q255 : (Jvm.Cond.methodLink "DeterminantDeskModel" (40 : Nat) ({ cls := "DeterminantDeskModel", name := "part", desc := "(II)J" } : Jvm.MethodName)) ∈ lw_all := lw_g (lw_at lw_m1 229 rfl) rfl
theorem q256 : (Jvm.Cond.privateMethod ({ cls := "DeterminantDeskModel", name := "part", desc := "(II)J" } : Jvm.MethodName)) ∈ lw_tbl := lw_at lw_m1 230 rfl
theorem q257 : (Jvm.Cond.instanceMethod ({ cls := "DeterminantDeskModel", name := "part", desc := "(II)J" } : Jvm.MethodName)) ∈ lw_all := lw_g (lw_at lw_m1 231 rfl) rfl
theorem q258 : (Jvm.Cond.code ({ cls := "DeterminantDeskModel", name := "part", desc := "(II)J" } : Jvm.MethodName) prog_3_method_13_code (6 : Nat) (Option.some Jvm.ClassFile.FieldType.long)) ∈ lw_all := lw_g (lw_at lw_m1 232 rfl) rfl
theorem q259 : (Jvm.Cond.methodLink "DeterminantDeskModel" (32 : Nat) ({ cls := "DeterminantDeskModel", name := "ones", desc := "(I)I" } : Jvm.MethodName)) ∈ lw_all := lw_g (lw_at lw_m1 233 rfl) rfl
theorem q260 : (Jvm.Cond.privateMethod ({ cls := "DeterminantDeskModel", name := "ones", desc := "(I)I" } : Jvm.MethodName)) ∈ lw_tbl := lw_at lw_m1 234 rfl
theorem q261 : (Jvm.Cond.instanceMethod ({ cls := "DeterminantDeskModel", name := "ones", desc := "(I)I" } : Jvm.MethodName)) ∈ lw_all := lw_g (lw_at lw_m1 235 rfl) rfl
theorem q262 : (Jvm.Cond.code ({ cls := "DeterminantDeskModel", name := "ones", desc := "(I)I" } : Jvm.MethodName) prog_3_method_11_code (4 : Nat) (Option.some Jvm.ClassFile.FieldType.int)) ∈ lw_all := lw_g (lw_at lw_m1 236 rfl) rfl
theorem q263 : (Jvm.Cond.methodLink "DeterminantDeskModel" (36 : Nat) ({ cls := "DeterminantDeskModel", name := "expand", desc := "(II)J" } : Jvm.MethodName)) ∈ lw_all := lw_g (lw_at lw_m1 237 rfl) rfl
theorem q264 : (Jvm.Cond.privateMethod ({ cls := "DeterminantDeskModel", name := "expand", desc := "(II)J" } : Jvm.MethodName)) ∈ lw_tbl := lw_at lw_m1 238 rfl
theorem q265 : (Jvm.Cond.instanceMethod ({ cls := "DeterminantDeskModel", name := "expand", desc := "(II)J" } : Jvm.MethodName)) ∈ lw_all := lw_g (lw_at lw_m1 239 rfl) rfl
theorem q266 : (Jvm.Cond.code ({ cls := "DeterminantDeskModel", name := "expand", desc := "(II)J" } : Jvm.MethodName) prog_3_method_12_code (8 : Nat) (Option.some Jvm.ClassFile.FieldType.long)) ∈ lw_all := lw_g (lw_at lw_m2 0 rfl) rfl
theorem q268 : (Jvm.Cond.instanceMethod ({ cls := "DeterminantDeskModel", name := "minor", desc := "(II)I" } : Jvm.MethodName)) ∈ lw_all := lw_g (lw_at lw_m2 2 rfl) rfl
theorem q269 : (Jvm.Cond.selects "DeterminantDeskModel" ({ cls := "DeterminantDeskModel", name := "minor", desc := "(II)I" } : Jvm.MethodName) ({ cls := "DeterminantDeskModel", name := "minor", desc := "(II)I" } : Jvm.MethodName)) ∈ lw_all := lw_g (lw_at lw_m2 3 rfl) rfl
theorem q270 : (Jvm.Cond.code ({ cls := "DeterminantDeskModel", name := "minor", desc := "(II)I" } : Jvm.MethodName) prog_3_method_15_code (3 : Nat) (Option.some Jvm.ClassFile.FieldType.int)) ∈ lw_all := lw_g (lw_at lw_m2 4 rfl) rfl
theorem q272 : (Jvm.Cond.instanceMethod ({ cls := "DeterminantDeskModel", name := "replaced", desc := "(I)I" } : Jvm.MethodName)) ∈ lw_all := lw_g (lw_at lw_m2 6 rfl) rfl
theorem q273 : (Jvm.Cond.selects "DeterminantDeskModel" ({ cls := "DeterminantDeskModel", name := "replaced", desc := "(I)I" } : Jvm.MethodName) ({ cls := "DeterminantDeskModel", name := "replaced", desc := "(I)I" } : Jvm.MethodName)) ∈ lw_all := lw_g (lw_at lw_m2 7 rfl) rfl
theorem q274 : (Jvm.Cond.code ({ cls := "DeterminantDeskModel", name := "replaced", desc := "(I)I" } : Jvm.MethodName) prog_3_method_16_code (3 : Nat) (Option.some Jvm.ClassFile.FieldType.int)) ∈ lw_all := lw_g (lw_at lw_m2 8 rfl) rfl
theorem q275 : (Jvm.Cond.methodLink "DeterminantDeskModel" (43 : Nat) ({ cls := "DeterminantDeskModel", name := "determinant", desc := "()I" } : Jvm.MethodName)) ∈ lw_all := lw_g (lw_at lw_m2 9 rfl) rfl
theorem q276 : (Jvm.Cond.methodLink "DeterminantDeskModel" (47 : Nat) ({ cls := "DeterminantDeskModel", name := "restore", desc := "()V" } : Jvm.MethodName)) ∈ lw_all := lw_g (lw_at lw_m2 10 rfl) rfl
theorem q277 : (Jvm.Cond.privateMethod ({ cls := "DeterminantDeskModel", name := "restore", desc := "()V" } : Jvm.MethodName)) ∈ lw_tbl := lw_at lw_m2 11 rfl
theorem q278 : (Jvm.Cond.instanceMethod ({ cls := "DeterminantDeskModel", name := "restore", desc := "()V" } : Jvm.MethodName)) ∈ lw_all := lw_g (lw_at lw_m2 12 rfl) rfl
theorem q279 : (Jvm.Cond.code ({ cls := "DeterminantDeskModel", name := "restore", desc := "()V" } : Jvm.MethodName) prog_3_method_9_code (2 : Nat) (Option.none : Option Jvm.ClassFile.FieldType)) ∈ lw_all := lw_g (lw_at lw_m2 13 rfl) rfl
theorem q281 : (Jvm.Cond.instanceMethod ({ cls := "DeterminantDeskModel", name := "rank", desc := "()I" } : Jvm.MethodName)) ∈ lw_all := lw_g (lw_at lw_m2 15 rfl) rfl
theorem q282 : (Jvm.Cond.selects "DeterminantDeskModel" ({ cls := "DeterminantDeskModel", name := "rank", desc := "()I" } : Jvm.MethodName) ({ cls := "DeterminantDeskModel", name := "rank", desc := "()I" } : Jvm.MethodName)) ∈ lw_all := lw_g (lw_at lw_m2 16 rfl) rfl
theorem q283 : (Jvm.Cond.code ({ cls := "DeterminantDeskModel", name := "rank", desc := "()I" } : Jvm.MethodName) prog_3_method_18_code (1 : Nat) (Option.some Jvm.ClassFile.FieldType.int)) ∈ lw_all := lw_g (lw_at lw_m2 17 rfl) rfl
theorem q284 : (Jvm.Cond.methodLink "DeterminantDeskModel" (50 : Nat) ({ cls := "DeterminantDeskModel", name := "rankIn", desc := "(II)I" } : Jvm.MethodName)) ∈ lw_all := lw_g (lw_at lw_m2 18 rfl) rfl
theorem q285 : (Jvm.Cond.privateMethod ({ cls := "DeterminantDeskModel", name := "rankIn", desc := "(II)I" } : Jvm.MethodName)) ∈ lw_tbl := lw_at lw_m2 19 rfl
theorem q286 : (Jvm.Cond.instanceMethod ({ cls := "DeterminantDeskModel", name := "rankIn", desc := "(II)I" } : Jvm.MethodName)) ∈ lw_all := lw_g (lw_at lw_m2 20 rfl) rfl
theorem q287 : (Jvm.Cond.code ({ cls := "DeterminantDeskModel", name := "rankIn", desc := "(II)I" } : Jvm.MethodName) prog_3_method_17_code (7 : Nat) (Option.some Jvm.ClassFile.FieldType.int)) ∈ lw_all := lw_g (lw_at lw_m2 21 rfl) rfl
theorem q289 : (Jvm.Cond.instanceMethod ({ cls := "DeterminantDeskModel", name := "wideRank", desc := "()I" } : Jvm.MethodName)) ∈ lw_all := lw_g (lw_at lw_m2 23 rfl) rfl
theorem q290 : (Jvm.Cond.selects "DeterminantDeskModel" ({ cls := "DeterminantDeskModel", name := "wideRank", desc := "()I" } : Jvm.MethodName) ({ cls := "DeterminantDeskModel", name := "wideRank", desc := "()I" } : Jvm.MethodName)) ∈ lw_all := lw_g (lw_at lw_m2 24 rfl) rfl
theorem q291 : (Jvm.Cond.code ({ cls := "DeterminantDeskModel", name := "wideRank", desc := "()I" } : Jvm.MethodName) prog_3_method_19_code (1 : Nat) (Option.some Jvm.ClassFile.FieldType.int)) ∈ lw_all := lw_g (lw_at lw_m2 25 rfl) rfl
theorem q293 : (Jvm.Cond.instanceMethod ({ cls := "DeterminantDeskModel", name := "coefficient", desc := "(I)I" } : Jvm.MethodName)) ∈ lw_all := lw_g (lw_at lw_m2 27 rfl) rfl
theorem q294 : (Jvm.Cond.selects "DeterminantDeskModel" ({ cls := "DeterminantDeskModel", name := "coefficient", desc := "(I)I" } : Jvm.MethodName) ({ cls := "DeterminantDeskModel", name := "coefficient", desc := "(I)I" } : Jvm.MethodName)) ∈ lw_all := lw_g (lw_at lw_m2 28 rfl) rfl
theorem q295 : (Jvm.Cond.code ({ cls := "DeterminantDeskModel", name := "coefficient", desc := "(I)I" } : Jvm.MethodName) prog_3_method_20_code (3 : Nat) (Option.some Jvm.ClassFile.FieldType.int)) ∈ lw_all := lw_g (lw_at lw_m2 29 rfl) rfl
theorem q296 : (Jvm.Cond.methodLink "DeterminantDeskModel" (54 : Nat) ({ cls := "DeterminantDeskModel", name := "principal", desc := "(I)I" } : Jvm.MethodName)) ∈ lw_all := lw_g (lw_at lw_m2 30 rfl) rfl
theorem q297 : (Jvm.Cond.instanceMethod ({ cls := "DeterminantDeskModel", name := "principal", desc := "(I)I" } : Jvm.MethodName)) ∈ lw_all := lw_g (lw_at lw_m2 31 rfl) rfl
theorem q298 : (Jvm.Cond.selects "DeterminantDeskModel" ({ cls := "DeterminantDeskModel", name := "principal", desc := "(I)I" } : Jvm.MethodName) ({ cls := "DeterminantDeskModel", name := "principal", desc := "(I)I" } : Jvm.MethodName)) ∈ lw_all := lw_g (lw_at lw_m2 32 rfl) rfl
theorem q299 : (Jvm.Cond.code ({ cls := "DeterminantDeskModel", name := "principal", desc := "(I)I" } : Jvm.MethodName) prog_3_method_21_code (5 : Nat) (Option.some Jvm.ClassFile.FieldType.int)) ∈ lw_all := lw_g (lw_at lw_m2 33 rfl) rfl
theorem q302 : (Jvm.Cond.instanceMethod ({ cls := "DeterminantDeskModel", name := "rankOf", desc := "(I)I" } : Jvm.MethodName)) ∈ lw_all := lw_g (lw_at lw_m2 36 rfl) rfl
theorem q303 : (Jvm.Cond.selects "DeterminantDeskModel" ({ cls := "DeterminantDeskModel", name := "rankOf", desc := "(I)I" } : Jvm.MethodName) ({ cls := "DeterminantDeskModel", name := "rankOf", desc := "(I)I" } : Jvm.MethodName)) ∈ lw_all := lw_g (lw_at lw_m2 37 rfl) rfl
theorem q304 : (Jvm.Cond.code ({ cls := "DeterminantDeskModel", name := "rankOf", desc := "(I)I" } : Jvm.MethodName) prog_3_method_22_code (2 : Nat) (Option.some Jvm.ClassFile.FieldType.int)) ∈ lw_all := lw_g (lw_at lw_m2 38 rfl) rfl
theorem q306 : (Jvm.Cond.instanceMethod ({ cls := "DeterminantDeskModel", name := "determinantWith", desc := "(III)I" } : Jvm.MethodName)) ∈ lw_all := lw_g (lw_at lw_m2 40 rfl) rfl
theorem q307 : (Jvm.Cond.selects "DeterminantDeskModel" ({ cls := "DeterminantDeskModel", name := "determinantWith", desc := "(III)I" } : Jvm.MethodName) ({ cls := "DeterminantDeskModel", name := "determinantWith", desc := "(III)I" } : Jvm.MethodName)) ∈ lw_all := lw_g (lw_at lw_m2 41 rfl) rfl
theorem q308 : (Jvm.Cond.code ({ cls := "DeterminantDeskModel", name := "determinantWith", desc := "(III)I" } : Jvm.MethodName) prog_3_method_23_code (6 : Nat) (Option.some Jvm.ClassFile.FieldType.int)) ∈ lw_all := lw_g (lw_at lw_m2 42 rfl) rfl
theorem q310 : (Jvm.Cond.instanceMethod ({ cls := "DeterminantDeskModel", name := "shifted", desc := "(I)I" } : Jvm.MethodName)) ∈ lw_all := lw_g (lw_at lw_m2 44 rfl) rfl
theorem q311 : (Jvm.Cond.selects "DeterminantDeskModel" ({ cls := "DeterminantDeskModel", name := "shifted", desc := "(I)I" } : Jvm.MethodName) ({ cls := "DeterminantDeskModel", name := "shifted", desc := "(I)I" } : Jvm.MethodName)) ∈ lw_all := lw_g (lw_at lw_m2 45 rfl) rfl
theorem q312 : (Jvm.Cond.code ({ cls := "DeterminantDeskModel", name := "shifted", desc := "(I)I" } : Jvm.MethodName) prog_3_method_24_code (3 : Nat) (Option.some Jvm.ClassFile.FieldType.int)) ∈ lw_all := lw_g (lw_at lw_m2 46 rfl) rfl
theorem in_X1 : ∀ w ∈ wsX10, w ∈ lw_all := lw_in wsX10 [210, 212, 214] (by decide +kernel) (by decide +kernel)
end
section
set_option maxRecDepth 100000
/-! the law's own entry -/
abbrev cL_law : ByteArray := code
theorem dL_law_0 : decode cL_law 0 = .ok (.new 7, 3) := by decide +kernel
theorem dL_law_3 : decode cL_law 3 = .ok (.dup, 1) := by decide +kernel
theorem dL_law_4 : decode cL_law 4 = .ok (.invokespecial 9, 3) := by decide +kernel
theorem dL_law_7 : decode cL_law 7 = .ok (.astore_n 1, 1) := by decide +kernel
theorem dL_law_8 : decode cL_law 8 = .ok (.new 10, 3) := by decide +kernel
theorem dL_law_11 : decode cL_law 11 = .ok (.dup, 1) := by decide +kernel
theorem dL_law_12 : decode cL_law 12 = .ok (.invokespecial 12, 3) := by decide +kernel
theorem dL_law_15 : decode cL_law 15 = .ok (.astore_n 2, 1) := by decide +kernel
theorem dL_law_16 : decode cL_law 16 = .ok (.iconst 0, 1) := by decide +kernel
theorem dL_law_17 : decode cL_law 17 = .ok (.istore_n 3, 1) := by decide +kernel
theorem dL_law_18 : decode cL_law 18 = .ok (.iload_n 3, 1) := by decide +kernel
theorem dL_law_19 : decode cL_law 19 = .ok (.aload_n 0, 1) := by decide +kernel
theorem dL_law_20 : decode cL_law 20 = .ok (.arraylength, 1) := by decide +kernel
theorem dL_law_21 : decode cL_law 21 = .ok (.iconst 4, 1) := by decide +kernel
theorem dL_law_22 : decode cL_law 22 = .ok (.isub, 1) := by decide +kernel
theorem dL_law_23 : decode cL_law 23 = .ok (.if_icmp .gt 484, 3) := by decide +kernel
theorem dL_law_26 : decode cL_law 26 = .ok (.aload_n 0, 1) := by decide +kernel
theorem dL_law_27 : decode cL_law 27 = .ok (.iload_n 3, 1) := by decide +kernel
theorem dL_law_28 : decode cL_law 28 = .ok (.iaload, 1) := by decide +kernel
theorem dL_law_29 : decode cL_law 29 = .ok (.bipush 15, 2) := by decide +kernel
theorem dL_law_31 : decode cL_law 31 = .ok (.iand, 1) := by decide +kernel
theorem dL_law_32 : decode cL_law 32 = .ok (.tableswitch 469 0 14 #[76, 119, 152, 185, 228, 239, 252, 285, 308, 321, 334, 357, 380, 403, 446], 76) := by decide +kernel
theorem dL_law_108 : decode cL_law 108 = .ok (.aload_n 1, 1) := by decide +kernel
theorem dL_law_109 : decode cL_law 109 = .ok (.aload_n 0, 1) := by decide +kernel
theorem dL_law_110 : decode cL_law 110 = .ok (.iload_n 3, 1) := by decide +kernel
theorem dL_law_111 : decode cL_law 111 = .ok (.iconst 1, 1) := by decide +kernel
theorem dL_law_112 : decode cL_law 112 = .ok (.iadd, 1) := by decide +kernel
theorem dL_law_113 : decode cL_law 113 = .ok (.iaload, 1) := by decide +kernel
theorem dL_law_114 : decode cL_law 114 = .ok (.aload_n 0, 1) := by decide +kernel
theorem dL_law_115 : decode cL_law 115 = .ok (.iload_n 3, 1) := by decide +kernel
theorem dL_law_116 : decode cL_law 116 = .ok (.iconst 2, 1) := by decide +kernel
theorem dL_law_117 : decode cL_law 117 = .ok (.iadd, 1) := by decide +kernel
theorem dL_law_118 : decode cL_law 118 = .ok (.iaload, 1) := by decide +kernel
theorem dL_law_119 : decode cL_law 119 = .ok (.aload_n 0, 1) := by decide +kernel
theorem dL_law_120 : decode cL_law 120 = .ok (.iload_n 3, 1) := by decide +kernel
theorem dL_law_121 : decode cL_law 121 = .ok (.iconst 3, 1) := by decide +kernel
theorem dL_law_122 : decode cL_law 122 = .ok (.iadd, 1) := by decide +kernel
theorem dL_law_123 : decode cL_law 123 = .ok (.iaload, 1) := by decide +kernel
theorem dL_law_124 : decode cL_law 124 = .ok (.invokevirtual 13, 3) := by decide +kernel
theorem dL_law_127 : decode cL_law 127 = .ok (.aload_n 2, 1) := by decide +kernel
theorem dL_law_128 : decode cL_law 128 = .ok (.aload_n 0, 1) := by decide +kernel
theorem dL_law_129 : decode cL_law 129 = .ok (.iload_n 3, 1) := by decide +kernel
theorem dL_law_130 : decode cL_law 130 = .ok (.iconst 1, 1) := by decide +kernel
theorem dL_law_131 : decode cL_law 131 = .ok (.iadd, 1) := by decide +kernel
theorem dL_law_132 : decode cL_law 132 = .ok (.iaload, 1) := by decide +kernel
theorem dL_law_133 : decode cL_law 133 = .ok (.aload_n 0, 1) := by decide +kernel
theorem dL_law_134 : decode cL_law 134 = .ok (.iload_n 3, 1) := by decide +kernel
theorem dL_law_135 : decode cL_law 135 = .ok (.iconst 2, 1) := by decide +kernel
theorem dL_law_136 : decode cL_law 136 = .ok (.iadd, 1) := by decide +kernel
theorem dL_law_137 : decode cL_law 137 = .ok (.iaload, 1) := by decide +kernel
theorem dL_law_138 : decode cL_law 138 = .ok (.aload_n 0, 1) := by decide +kernel
theorem dL_law_139 : decode cL_law 139 = .ok (.iload_n 3, 1) := by decide +kernel
theorem dL_law_140 : decode cL_law 140 = .ok (.iconst 3, 1) := by decide +kernel
theorem dL_law_141 : decode cL_law 141 = .ok (.iadd, 1) := by decide +kernel
theorem dL_law_142 : decode cL_law 142 = .ok (.iaload, 1) := by decide +kernel
theorem dL_law_143 : decode cL_law 143 = .ok (.invokevirtual 17, 3) := by decide +kernel
theorem dL_law_146 : decode cL_law 146 = .ok (.if_icmp .eq 355, 3) := by decide +kernel
theorem dL_law_149 : decode cL_law 149 = .ok (.iconst 0, 1) := by decide +kernel
theorem dL_law_150 : decode cL_law 150 = .ok (.ireturn, 1) := by decide +kernel
theorem dL_law_151 : decode cL_law 151 = .ok (.aload_n 1, 1) := by decide +kernel
theorem dL_law_152 : decode cL_law 152 = .ok (.aload_n 0, 1) := by decide +kernel
theorem dL_law_153 : decode cL_law 153 = .ok (.iload_n 3, 1) := by decide +kernel
theorem dL_law_154 : decode cL_law 154 = .ok (.iconst 1, 1) := by decide +kernel
theorem dL_law_155 : decode cL_law 155 = .ok (.iadd, 1) := by decide +kernel
theorem dL_law_156 : decode cL_law 156 = .ok (.iaload, 1) := by decide +kernel
theorem dL_law_157 : decode cL_law 157 = .ok (.aload_n 0, 1) := by decide +kernel
theorem dL_law_158 : decode cL_law 158 = .ok (.iload_n 3, 1) := by decide +kernel
theorem dL_law_159 : decode cL_law 159 = .ok (.iconst 2, 1) := by decide +kernel
theorem dL_law_160 : decode cL_law 160 = .ok (.iadd, 1) := by decide +kernel
theorem dL_law_161 : decode cL_law 161 = .ok (.iaload, 1) := by decide +kernel
theorem dL_law_162 : decode cL_law 162 = .ok (.invokevirtual 18, 3) := by decide +kernel
theorem dL_law_165 : decode cL_law 165 = .ok (.aload_n 2, 1) := by decide +kernel
theorem dL_law_166 : decode cL_law 166 = .ok (.aload_n 0, 1) := by decide +kernel
theorem dL_law_167 : decode cL_law 167 = .ok (.iload_n 3, 1) := by decide +kernel
theorem dL_law_168 : decode cL_law 168 = .ok (.iconst 1, 1) := by decide +kernel
theorem dL_law_169 : decode cL_law 169 = .ok (.iadd, 1) := by decide +kernel
theorem dL_law_170 : decode cL_law 170 = .ok (.iaload, 1) := by decide +kernel
theorem dL_law_171 : decode cL_law 171 = .ok (.aload_n 0, 1) := by decide +kernel
theorem dL_law_172 : decode cL_law 172 = .ok (.iload_n 3, 1) := by decide +kernel
theorem dL_law_173 : decode cL_law 173 = .ok (.iconst 2, 1) := by decide +kernel
theorem dL_law_174 : decode cL_law 174 = .ok (.iadd, 1) := by decide +kernel
theorem dL_law_175 : decode cL_law 175 = .ok (.iaload, 1) := by decide +kernel
theorem dL_law_176 : decode cL_law 176 = .ok (.invokevirtual 22, 3) := by decide +kernel
theorem dL_law_179 : decode cL_law 179 = .ok (.if_icmp .eq 322, 3) := by decide +kernel
theorem dL_law_182 : decode cL_law 182 = .ok (.iconst 0, 1) := by decide +kernel
theorem dL_law_183 : decode cL_law 183 = .ok (.ireturn, 1) := by decide +kernel
theorem dL_law_184 : decode cL_law 184 = .ok (.aload_n 1, 1) := by decide +kernel
theorem dL_law_185 : decode cL_law 185 = .ok (.aload_n 0, 1) := by decide +kernel
theorem dL_law_186 : decode cL_law 186 = .ok (.iload_n 3, 1) := by decide +kernel
theorem dL_law_187 : decode cL_law 187 = .ok (.iconst 1, 1) := by decide +kernel
theorem dL_law_188 : decode cL_law 188 = .ok (.iadd, 1) := by decide +kernel
theorem dL_law_189 : decode cL_law 189 = .ok (.iaload, 1) := by decide +kernel
theorem dL_law_190 : decode cL_law 190 = .ok (.aload_n 0, 1) := by decide +kernel
theorem dL_law_191 : decode cL_law 191 = .ok (.iload_n 3, 1) := by decide +kernel
theorem dL_law_192 : decode cL_law 192 = .ok (.iconst 2, 1) := by decide +kernel
theorem dL_law_193 : decode cL_law 193 = .ok (.iadd, 1) := by decide +kernel
theorem dL_law_194 : decode cL_law 194 = .ok (.iaload, 1) := by decide +kernel
theorem dL_law_195 : decode cL_law 195 = .ok (.invokevirtual 23, 3) := by decide +kernel
theorem dL_law_198 : decode cL_law 198 = .ok (.aload_n 2, 1) := by decide +kernel
theorem dL_law_199 : decode cL_law 199 = .ok (.aload_n 0, 1) := by decide +kernel
theorem dL_law_200 : decode cL_law 200 = .ok (.iload_n 3, 1) := by decide +kernel
theorem dL_law_201 : decode cL_law 201 = .ok (.iconst 1, 1) := by decide +kernel
theorem dL_law_202 : decode cL_law 202 = .ok (.iadd, 1) := by decide +kernel
theorem dL_law_203 : decode cL_law 203 = .ok (.iaload, 1) := by decide +kernel
theorem dL_law_204 : decode cL_law 204 = .ok (.aload_n 0, 1) := by decide +kernel
theorem dL_law_205 : decode cL_law 205 = .ok (.iload_n 3, 1) := by decide +kernel
theorem dL_law_206 : decode cL_law 206 = .ok (.iconst 2, 1) := by decide +kernel
theorem dL_law_207 : decode cL_law 207 = .ok (.iadd, 1) := by decide +kernel
theorem dL_law_208 : decode cL_law 208 = .ok (.iaload, 1) := by decide +kernel
theorem dL_law_209 : decode cL_law 209 = .ok (.invokevirtual 27, 3) := by decide +kernel
theorem dL_law_212 : decode cL_law 212 = .ok (.if_icmp .eq 289, 3) := by decide +kernel
theorem dL_law_215 : decode cL_law 215 = .ok (.iconst 0, 1) := by decide +kernel
theorem dL_law_216 : decode cL_law 216 = .ok (.ireturn, 1) := by decide +kernel
theorem dL_law_217 : decode cL_law 217 = .ok (.aload_n 1, 1) := by decide +kernel
theorem dL_law_218 : decode cL_law 218 = .ok (.aload_n 0, 1) := by decide +kernel
theorem dL_law_219 : decode cL_law 219 = .ok (.iload_n 3, 1) := by decide +kernel
theorem dL_law_220 : decode cL_law 220 = .ok (.iconst 1, 1) := by decide +kernel
theorem dL_law_221 : decode cL_law 221 = .ok (.iadd, 1) := by decide +kernel
theorem dL_law_222 : decode cL_law 222 = .ok (.iaload, 1) := by decide +kernel
theorem dL_law_223 : decode cL_law 223 = .ok (.aload_n 0, 1) := by decide +kernel
theorem dL_law_224 : decode cL_law 224 = .ok (.iload_n 3, 1) := by decide +kernel
theorem dL_law_225 : decode cL_law 225 = .ok (.iconst 2, 1) := by decide +kernel
theorem dL_law_226 : decode cL_law 226 = .ok (.iadd, 1) := by decide +kernel
theorem dL_law_227 : decode cL_law 227 = .ok (.iaload, 1) := by decide +kernel
theorem dL_law_228 : decode cL_law 228 = .ok (.aload_n 0, 1) := by decide +kernel
theorem dL_law_229 : decode cL_law 229 = .ok (.iload_n 3, 1) := by decide +kernel
theorem dL_law_230 : decode cL_law 230 = .ok (.iconst 3, 1) := by decide +kernel
theorem dL_law_231 : decode cL_law 231 = .ok (.iadd, 1) := by decide +kernel
theorem dL_law_232 : decode cL_law 232 = .ok (.iaload, 1) := by decide +kernel
theorem dL_law_233 : decode cL_law 233 = .ok (.invokevirtual 28, 3) := by decide +kernel
end
section
set_option maxRecDepth 100000
theorem dL_law_236 : decode cL_law 236 = .ok (.aload_n 2, 1) := by decide +kernel
theorem dL_law_237 : decode cL_law 237 = .ok (.aload_n 0, 1) := by decide +kernel
theorem dL_law_238 : decode cL_law 238 = .ok (.iload_n 3, 1) := by decide +kernel
theorem dL_law_239 : decode cL_law 239 = .ok (.iconst 1, 1) := by decide +kernel
theorem dL_law_240 : decode cL_law 240 = .ok (.iadd, 1) := by decide +kernel
theorem dL_law_241 : decode cL_law 241 = .ok (.iaload, 1) := by decide +kernel
theorem dL_law_242 : decode cL_law 242 = .ok (.aload_n 0, 1) := by decide +kernel
theorem dL_law_243 : decode cL_law 243 = .ok (.iload_n 3, 1) := by decide +kernel
theorem dL_law_244 : decode cL_law 244 = .ok (.iconst 2, 1) := by decide +kernel
theorem dL_law_245 : decode cL_law 245 = .ok (.iadd, 1) := by decide +kernel
theorem dL_law_246 : decode cL_law 246 = .ok (.iaload, 1) := by decide +kernel
theorem dL_law_247 : decode cL_law 247 = .ok (.aload_n 0, 1) := by decide +kernel
theorem dL_law_248 : decode cL_law 248 = .ok (.iload_n 3, 1) := by decide +kernel
theorem dL_law_249 : decode cL_law 249 = .ok (.iconst 3, 1) := by decide +kernel
theorem dL_law_250 : decode cL_law 250 = .ok (.iadd, 1) := by decide +kernel
theorem dL_law_251 : decode cL_law 251 = .ok (.iaload, 1) := by decide +kernel
theorem dL_law_252 : decode cL_law 252 = .ok (.invokevirtual 31, 3) := by decide +kernel
theorem dL_law_255 : decode cL_law 255 = .ok (.if_icmp .eq 246, 3) := by decide +kernel
theorem dL_law_258 : decode cL_law 258 = .ok (.iconst 0, 1) := by decide +kernel
theorem dL_law_259 : decode cL_law 259 = .ok (.ireturn, 1) := by decide +kernel
theorem dL_law_260 : decode cL_law 260 = .ok (.aload_n 1, 1) := by decide +kernel
theorem dL_law_261 : decode cL_law 261 = .ok (.invokevirtual 32, 3) := by decide +kernel
theorem dL_law_264 : decode cL_law 264 = .ok (.aload_n 2, 1) := by decide +kernel
theorem dL_law_265 : decode cL_law 265 = .ok (.invokevirtual 35, 3) := by decide +kernel
theorem dL_law_268 : decode cL_law 268 = .ok (.goto 233, 3) := by decide +kernel
theorem dL_law_271 : decode cL_law 271 = .ok (.aload_n 1, 1) := by decide +kernel
theorem dL_law_272 : decode cL_law 272 = .ok (.invokevirtual 36, 3) := by decide +kernel
theorem dL_law_275 : decode cL_law 275 = .ok (.aload_n 2, 1) := by decide +kernel
theorem dL_law_276 : decode cL_law 276 = .ok (.invokevirtual 40, 3) := by decide +kernel
theorem dL_law_279 : decode cL_law 279 = .ok (.if_icmp .eq 222, 3) := by decide +kernel
theorem dL_law_282 : decode cL_law 282 = .ok (.iconst 0, 1) := by decide +kernel
theorem dL_law_283 : decode cL_law 283 = .ok (.ireturn, 1) := by decide +kernel
theorem dL_law_284 : decode cL_law 284 = .ok (.aload_n 1, 1) := by decide +kernel
theorem dL_law_285 : decode cL_law 285 = .ok (.aload_n 0, 1) := by decide +kernel
theorem dL_law_286 : decode cL_law 286 = .ok (.iload_n 3, 1) := by decide +kernel
theorem dL_law_287 : decode cL_law 287 = .ok (.iconst 1, 1) := by decide +kernel
theorem dL_law_288 : decode cL_law 288 = .ok (.iadd, 1) := by decide +kernel
theorem dL_law_289 : decode cL_law 289 = .ok (.iaload, 1) := by decide +kernel
theorem dL_law_290 : decode cL_law 290 = .ok (.aload_n 0, 1) := by decide +kernel
theorem dL_law_291 : decode cL_law 291 = .ok (.iload_n 3, 1) := by decide +kernel
theorem dL_law_292 : decode cL_law 292 = .ok (.iconst 2, 1) := by decide +kernel
theorem dL_law_293 : decode cL_law 293 = .ok (.iadd, 1) := by decide +kernel
theorem dL_law_294 : decode cL_law 294 = .ok (.iaload, 1) := by decide +kernel
theorem dL_law_295 : decode cL_law 295 = .ok (.invokevirtual 41, 3) := by decide +kernel
theorem dL_law_298 : decode cL_law 298 = .ok (.aload_n 2, 1) := by decide +kernel
theorem dL_law_299 : decode cL_law 299 = .ok (.aload_n 0, 1) := by decide +kernel
theorem dL_law_300 : decode cL_law 300 = .ok (.iload_n 3, 1) := by decide +kernel
theorem dL_law_301 : decode cL_law 301 = .ok (.iconst 1, 1) := by decide +kernel
theorem dL_law_302 : decode cL_law 302 = .ok (.iadd, 1) := by decide +kernel
theorem dL_law_303 : decode cL_law 303 = .ok (.iaload, 1) := by decide +kernel
theorem dL_law_304 : decode cL_law 304 = .ok (.aload_n 0, 1) := by decide +kernel
theorem dL_law_305 : decode cL_law 305 = .ok (.iload_n 3, 1) := by decide +kernel
theorem dL_law_306 : decode cL_law 306 = .ok (.iconst 2, 1) := by decide +kernel
theorem dL_law_307 : decode cL_law 307 = .ok (.iadd, 1) := by decide +kernel
theorem dL_law_308 : decode cL_law 308 = .ok (.iaload, 1) := by decide +kernel
theorem dL_law_309 : decode cL_law 309 = .ok (.invokevirtual 44, 3) := by decide +kernel
theorem dL_law_312 : decode cL_law 312 = .ok (.if_icmp .eq 189, 3) := by decide +kernel
theorem dL_law_315 : decode cL_law 315 = .ok (.iconst 0, 1) := by decide +kernel
theorem dL_law_316 : decode cL_law 316 = .ok (.ireturn, 1) := by decide +kernel
theorem dL_law_317 : decode cL_law 317 = .ok (.aload_n 1, 1) := by decide +kernel
theorem dL_law_318 : decode cL_law 318 = .ok (.aload_n 0, 1) := by decide +kernel
theorem dL_law_319 : decode cL_law 319 = .ok (.iload_n 3, 1) := by decide +kernel
theorem dL_law_320 : decode cL_law 320 = .ok (.iconst 1, 1) := by decide +kernel
theorem dL_law_321 : decode cL_law 321 = .ok (.iadd, 1) := by decide +kernel
theorem dL_law_322 : decode cL_law 322 = .ok (.iaload, 1) := by decide +kernel
theorem dL_law_323 : decode cL_law 323 = .ok (.invokevirtual 45, 3) := by decide +kernel
theorem dL_law_326 : decode cL_law 326 = .ok (.aload_n 2, 1) := by decide +kernel
theorem dL_law_327 : decode cL_law 327 = .ok (.aload_n 0, 1) := by decide +kernel
theorem dL_law_328 : decode cL_law 328 = .ok (.iload_n 3, 1) := by decide +kernel
theorem dL_law_329 : decode cL_law 329 = .ok (.iconst 1, 1) := by decide +kernel
theorem dL_law_330 : decode cL_law 330 = .ok (.iadd, 1) := by decide +kernel
theorem dL_law_331 : decode cL_law 331 = .ok (.iaload, 1) := by decide +kernel
theorem dL_law_332 : decode cL_law 332 = .ok (.invokevirtual 49, 3) := by decide +kernel
theorem dL_law_335 : decode cL_law 335 = .ok (.if_icmp .eq 166, 3) := by decide +kernel
theorem dL_law_338 : decode cL_law 338 = .ok (.iconst 0, 1) := by decide +kernel
theorem dL_law_339 : decode cL_law 339 = .ok (.ireturn, 1) := by decide +kernel
theorem dL_law_340 : decode cL_law 340 = .ok (.aload_n 1, 1) := by decide +kernel
theorem dL_law_341 : decode cL_law 341 = .ok (.invokevirtual 50, 3) := by decide +kernel
theorem dL_law_344 : decode cL_law 344 = .ok (.aload_n 2, 1) := by decide +kernel
theorem dL_law_345 : decode cL_law 345 = .ok (.invokevirtual 53, 3) := by decide +kernel
theorem dL_law_348 : decode cL_law 348 = .ok (.if_icmp .eq 153, 3) := by decide +kernel
theorem dL_law_351 : decode cL_law 351 = .ok (.iconst 0, 1) := by decide +kernel
theorem dL_law_352 : decode cL_law 352 = .ok (.ireturn, 1) := by decide +kernel
theorem dL_law_353 : decode cL_law 353 = .ok (.aload_n 1, 1) := by decide +kernel
theorem dL_law_354 : decode cL_law 354 = .ok (.invokevirtual 54, 3) := by decide +kernel
theorem dL_law_357 : decode cL_law 357 = .ok (.aload_n 2, 1) := by decide +kernel
theorem dL_law_358 : decode cL_law 358 = .ok (.invokevirtual 57, 3) := by decide +kernel
theorem dL_law_361 : decode cL_law 361 = .ok (.if_icmp .eq 140, 3) := by decide +kernel
theorem dL_law_364 : decode cL_law 364 = .ok (.iconst 0, 1) := by decide +kernel
theorem dL_law_365 : decode cL_law 365 = .ok (.ireturn, 1) := by decide +kernel
theorem dL_law_366 : decode cL_law 366 = .ok (.aload_n 1, 1) := by decide +kernel
theorem dL_law_367 : decode cL_law 367 = .ok (.aload_n 0, 1) := by decide +kernel
theorem dL_law_368 : decode cL_law 368 = .ok (.iload_n 3, 1) := by decide +kernel
theorem dL_law_369 : decode cL_law 369 = .ok (.iconst 1, 1) := by decide +kernel
theorem dL_law_370 : decode cL_law 370 = .ok (.iadd, 1) := by decide +kernel
theorem dL_law_371 : decode cL_law 371 = .ok (.iaload, 1) := by decide +kernel
theorem dL_law_372 : decode cL_law 372 = .ok (.invokevirtual 58, 3) := by decide +kernel
theorem dL_law_375 : decode cL_law 375 = .ok (.aload_n 2, 1) := by decide +kernel
theorem dL_law_376 : decode cL_law 376 = .ok (.aload_n 0, 1) := by decide +kernel
theorem dL_law_377 : decode cL_law 377 = .ok (.iload_n 3, 1) := by decide +kernel
theorem dL_law_378 : decode cL_law 378 = .ok (.iconst 1, 1) := by decide +kernel
theorem dL_law_379 : decode cL_law 379 = .ok (.iadd, 1) := by decide +kernel
theorem dL_law_380 : decode cL_law 380 = .ok (.iaload, 1) := by decide +kernel
theorem dL_law_381 : decode cL_law 381 = .ok (.invokevirtual 61, 3) := by decide +kernel
theorem dL_law_384 : decode cL_law 384 = .ok (.if_icmp .eq 117, 3) := by decide +kernel
theorem dL_law_387 : decode cL_law 387 = .ok (.iconst 0, 1) := by decide +kernel
theorem dL_law_388 : decode cL_law 388 = .ok (.ireturn, 1) := by decide +kernel
theorem dL_law_389 : decode cL_law 389 = .ok (.aload_n 1, 1) := by decide +kernel
theorem dL_law_390 : decode cL_law 390 = .ok (.aload_n 0, 1) := by decide +kernel
theorem dL_law_391 : decode cL_law 391 = .ok (.iload_n 3, 1) := by decide +kernel
theorem dL_law_392 : decode cL_law 392 = .ok (.iconst 1, 1) := by decide +kernel
theorem dL_law_393 : decode cL_law 393 = .ok (.iadd, 1) := by decide +kernel
theorem dL_law_394 : decode cL_law 394 = .ok (.iaload, 1) := by decide +kernel
theorem dL_law_395 : decode cL_law 395 = .ok (.invokevirtual 62, 3) := by decide +kernel
theorem dL_law_398 : decode cL_law 398 = .ok (.aload_n 2, 1) := by decide +kernel
theorem dL_law_399 : decode cL_law 399 = .ok (.aload_n 0, 1) := by decide +kernel
theorem dL_law_400 : decode cL_law 400 = .ok (.iload_n 3, 1) := by decide +kernel
theorem dL_law_401 : decode cL_law 401 = .ok (.iconst 1, 1) := by decide +kernel
theorem dL_law_402 : decode cL_law 402 = .ok (.iadd, 1) := by decide +kernel
theorem dL_law_403 : decode cL_law 403 = .ok (.iaload, 1) := by decide +kernel
theorem dL_law_404 : decode cL_law 404 = .ok (.invokevirtual 65, 3) := by decide +kernel
theorem dL_law_407 : decode cL_law 407 = .ok (.if_icmp .eq 94, 3) := by decide +kernel
theorem dL_law_410 : decode cL_law 410 = .ok (.iconst 0, 1) := by decide +kernel
theorem dL_law_411 : decode cL_law 411 = .ok (.ireturn, 1) := by decide +kernel
theorem dL_law_412 : decode cL_law 412 = .ok (.aload_n 1, 1) := by decide +kernel
theorem dL_law_413 : decode cL_law 413 = .ok (.aload_n 0, 1) := by decide +kernel
theorem dL_law_414 : decode cL_law 414 = .ok (.iload_n 3, 1) := by decide +kernel
theorem dL_law_415 : decode cL_law 415 = .ok (.iconst 1, 1) := by decide +kernel
theorem dL_law_416 : decode cL_law 416 = .ok (.iadd, 1) := by decide +kernel
theorem dL_law_417 : decode cL_law 417 = .ok (.iaload, 1) := by decide +kernel
end
section
set_option maxRecDepth 100000
theorem dL_law_418 : decode cL_law 418 = .ok (.invokevirtual 66, 3) := by decide +kernel
theorem dL_law_421 : decode cL_law 421 = .ok (.aload_n 2, 1) := by decide +kernel
theorem dL_law_422 : decode cL_law 422 = .ok (.aload_n 0, 1) := by decide +kernel
theorem dL_law_423 : decode cL_law 423 = .ok (.iload_n 3, 1) := by decide +kernel
theorem dL_law_424 : decode cL_law 424 = .ok (.iconst 1, 1) := by decide +kernel
theorem dL_law_425 : decode cL_law 425 = .ok (.iadd, 1) := by decide +kernel
theorem dL_law_426 : decode cL_law 426 = .ok (.iaload, 1) := by decide +kernel
theorem dL_law_427 : decode cL_law 427 = .ok (.invokevirtual 69, 3) := by decide +kernel
theorem dL_law_430 : decode cL_law 430 = .ok (.if_icmp .eq 71, 3) := by decide +kernel
theorem dL_law_433 : decode cL_law 433 = .ok (.iconst 0, 1) := by decide +kernel
theorem dL_law_434 : decode cL_law 434 = .ok (.ireturn, 1) := by decide +kernel
theorem dL_law_435 : decode cL_law 435 = .ok (.aload_n 1, 1) := by decide +kernel
theorem dL_law_436 : decode cL_law 436 = .ok (.aload_n 0, 1) := by decide +kernel
theorem dL_law_437 : decode cL_law 437 = .ok (.iload_n 3, 1) := by decide +kernel
theorem dL_law_438 : decode cL_law 438 = .ok (.iconst 1, 1) := by decide +kernel
theorem dL_law_439 : decode cL_law 439 = .ok (.iadd, 1) := by decide +kernel
theorem dL_law_440 : decode cL_law 440 = .ok (.iaload, 1) := by decide +kernel
theorem dL_law_441 : decode cL_law 441 = .ok (.aload_n 0, 1) := by decide +kernel
theorem dL_law_442 : decode cL_law 442 = .ok (.iload_n 3, 1) := by decide +kernel
theorem dL_law_443 : decode cL_law 443 = .ok (.iconst 2, 1) := by decide +kernel
theorem dL_law_444 : decode cL_law 444 = .ok (.iadd, 1) := by decide +kernel
theorem dL_law_445 : decode cL_law 445 = .ok (.iaload, 1) := by decide +kernel
theorem dL_law_446 : decode cL_law 446 = .ok (.aload_n 0, 1) := by decide +kernel
theorem dL_law_447 : decode cL_law 447 = .ok (.iload_n 3, 1) := by decide +kernel
theorem dL_law_448 : decode cL_law 448 = .ok (.iconst 3, 1) := by decide +kernel
theorem dL_law_449 : decode cL_law 449 = .ok (.iadd, 1) := by decide +kernel
theorem dL_law_450 : decode cL_law 450 = .ok (.iaload, 1) := by decide +kernel
theorem dL_law_451 : decode cL_law 451 = .ok (.invokevirtual 70, 3) := by decide +kernel
theorem dL_law_454 : decode cL_law 454 = .ok (.aload_n 2, 1) := by decide +kernel
theorem dL_law_455 : decode cL_law 455 = .ok (.aload_n 0, 1) := by decide +kernel
theorem dL_law_456 : decode cL_law 456 = .ok (.iload_n 3, 1) := by decide +kernel
theorem dL_law_457 : decode cL_law 457 = .ok (.iconst 1, 1) := by decide +kernel
theorem dL_law_458 : decode cL_law 458 = .ok (.iadd, 1) := by decide +kernel
theorem dL_law_459 : decode cL_law 459 = .ok (.iaload, 1) := by decide +kernel
theorem dL_law_460 : decode cL_law 460 = .ok (.aload_n 0, 1) := by decide +kernel
theorem dL_law_461 : decode cL_law 461 = .ok (.iload_n 3, 1) := by decide +kernel
theorem dL_law_462 : decode cL_law 462 = .ok (.iconst 2, 1) := by decide +kernel
theorem dL_law_463 : decode cL_law 463 = .ok (.iadd, 1) := by decide +kernel
theorem dL_law_464 : decode cL_law 464 = .ok (.iaload, 1) := by decide +kernel
theorem dL_law_465 : decode cL_law 465 = .ok (.aload_n 0, 1) := by decide +kernel
theorem dL_law_466 : decode cL_law 466 = .ok (.iload_n 3, 1) := by decide +kernel
theorem dL_law_467 : decode cL_law 467 = .ok (.iconst 3, 1) := by decide +kernel
theorem dL_law_468 : decode cL_law 468 = .ok (.iadd, 1) := by decide +kernel
theorem dL_law_469 : decode cL_law 469 = .ok (.iaload, 1) := by decide +kernel
theorem dL_law_470 : decode cL_law 470 = .ok (.invokevirtual 74, 3) := by decide +kernel
theorem dL_law_473 : decode cL_law 473 = .ok (.if_icmp .eq 28, 3) := by decide +kernel
theorem dL_law_476 : decode cL_law 476 = .ok (.iconst 0, 1) := by decide +kernel
theorem dL_law_477 : decode cL_law 477 = .ok (.ireturn, 1) := by decide +kernel
theorem dL_law_478 : decode cL_law 478 = .ok (.aload_n 1, 1) := by decide +kernel
theorem dL_law_479 : decode cL_law 479 = .ok (.aload_n 0, 1) := by decide +kernel
theorem dL_law_480 : decode cL_law 480 = .ok (.iload_n 3, 1) := by decide +kernel
theorem dL_law_481 : decode cL_law 481 = .ok (.iconst 1, 1) := by decide +kernel
theorem dL_law_482 : decode cL_law 482 = .ok (.iadd, 1) := by decide +kernel
theorem dL_law_483 : decode cL_law 483 = .ok (.iaload, 1) := by decide +kernel
theorem dL_law_484 : decode cL_law 484 = .ok (.invokevirtual 75, 3) := by decide +kernel
theorem dL_law_487 : decode cL_law 487 = .ok (.aload_n 2, 1) := by decide +kernel
theorem dL_law_488 : decode cL_law 488 = .ok (.aload_n 0, 1) := by decide +kernel
theorem dL_law_489 : decode cL_law 489 = .ok (.iload_n 3, 1) := by decide +kernel
theorem dL_law_490 : decode cL_law 490 = .ok (.iconst 1, 1) := by decide +kernel
theorem dL_law_491 : decode cL_law 491 = .ok (.iadd, 1) := by decide +kernel
theorem dL_law_492 : decode cL_law 492 = .ok (.iaload, 1) := by decide +kernel
theorem dL_law_493 : decode cL_law 493 = .ok (.invokevirtual 78, 3) := by decide +kernel
theorem dL_law_496 : decode cL_law 496 = .ok (.if_icmp .eq 5, 3) := by decide +kernel
theorem dL_law_499 : decode cL_law 499 = .ok (.iconst 0, 1) := by decide +kernel
theorem dL_law_500 : decode cL_law 500 = .ok (.ireturn, 1) := by decide +kernel
theorem dL_law_501 : decode cL_law 501 = .ok (.iinc 3 4, 3) := by decide +kernel
theorem dL_law_504 : decode cL_law 504 = .ok (.goto (-486), 3) := by decide +kernel
theorem dL_law_507 : decode cL_law 507 = .ok (.iconst 1, 1) := by decide +kernel
theorem dL_law_508 : decode cL_law 508 = .ok (.ireturn, 1) := by decide +kernel
theorem q26 : (Jvm.Cond.initialized "DeterminantDeskLaw") ∈ lw_all := lw_g (lw_at lw_m1 0 rfl) rfl
theorem q29 : (Jvm.Cond.classLink "DeterminantDeskLaw" (7 : Nat) "DeterminantDesk") ∈ lw_all := lw_g (lw_at lw_m1 3 rfl) rfl
theorem q31 : (Jvm.Cond.methodLink "DeterminantDeskLaw" (9 : Nat) ({ cls := "DeterminantDesk", name := "<init>", desc := "()V" } : Jvm.MethodName)) ∈ lw_all := lw_g (lw_at lw_m1 5 rfl) rfl
theorem q58 : (Jvm.Cond.methodLink "DeterminantDeskLaw" (13 : Nat) ({ cls := "DeterminantDesk", name := "set", desc := "(III)Z" } : Jvm.MethodName)) ∈ lw_all := lw_g (lw_at lw_m1 32 rfl) rfl
theorem q68 : (Jvm.Cond.methodLink "DeterminantDeskLaw" (18 : Nat) ({ cls := "DeterminantDesk", name := "at", desc := "(II)I" } : Jvm.MethodName)) ∈ lw_all := lw_g (lw_at lw_m1 42 rfl) rfl
theorem q73 : (Jvm.Cond.methodLink "DeterminantDeskLaw" (23 : Nat) ({ cls := "DeterminantDesk", name := "swapRows", desc := "(II)Z" } : Jvm.MethodName)) ∈ lw_all := lw_g (lw_at lw_m1 47 rfl) rfl
theorem q77 : (Jvm.Cond.methodLink "DeterminantDeskLaw" (28 : Nat) ({ cls := "DeterminantDesk", name := "addRow", desc := "(III)Z" } : Jvm.MethodName)) ∈ lw_all := lw_g (lw_at lw_m1 51 rfl) rfl
theorem q81 : (Jvm.Cond.methodLink "DeterminantDeskLaw" (32 : Nat) ({ cls := "DeterminantDesk", name := "transpose", desc := "()V" } : Jvm.MethodName)) ∈ lw_all := lw_g (lw_at lw_m1 55 rfl) rfl
theorem q85 : (Jvm.Cond.methodLink "DeterminantDeskLaw" (36 : Nat) ({ cls := "DeterminantDesk", name := "determinant", desc := "()I" } : Jvm.MethodName)) ∈ lw_all := lw_g (lw_at lw_m1 59 rfl) rfl
theorem q127 : (Jvm.Cond.methodLink "DeterminantDeskLaw" (41 : Nat) ({ cls := "DeterminantDesk", name := "minor", desc := "(II)I" } : Jvm.MethodName)) ∈ lw_all := lw_g (lw_at lw_m1 101 rfl) rfl
theorem q135 : (Jvm.Cond.methodLink "DeterminantDeskLaw" (45 : Nat) ({ cls := "DeterminantDesk", name := "replaced", desc := "(I)I" } : Jvm.MethodName)) ∈ lw_all := lw_g (lw_at lw_m1 109 rfl) rfl
theorem q143 : (Jvm.Cond.methodLink "DeterminantDeskLaw" (50 : Nat) ({ cls := "DeterminantDesk", name := "rank", desc := "()I" } : Jvm.MethodName)) ∈ lw_all := lw_g (lw_at lw_m1 117 rfl) rfl
theorem q159 : (Jvm.Cond.methodLink "DeterminantDeskLaw" (54 : Nat) ({ cls := "DeterminantDesk", name := "wideRank", desc := "()I" } : Jvm.MethodName)) ∈ lw_all := lw_g (lw_at lw_m1 133 rfl) rfl
theorem q163 : (Jvm.Cond.methodLink "DeterminantDeskLaw" (58 : Nat) ({ cls := "DeterminantDesk", name := "coefficient", desc := "(I)I" } : Jvm.MethodName)) ∈ lw_all := lw_g (lw_at lw_m1 137 rfl) rfl
theorem q183 : (Jvm.Cond.methodLink "DeterminantDeskLaw" (62 : Nat) ({ cls := "DeterminantDesk", name := "principal", desc := "(I)I" } : Jvm.MethodName)) ∈ lw_all := lw_g (lw_at lw_m1 157 rfl) rfl
theorem q188 : (Jvm.Cond.methodLink "DeterminantDeskLaw" (66 : Nat) ({ cls := "DeterminantDesk", name := "rankOf", desc := "(I)I" } : Jvm.MethodName)) ∈ lw_all := lw_g (lw_at lw_m1 162 rfl) rfl
theorem q192 : (Jvm.Cond.methodLink "DeterminantDeskLaw" (70 : Nat) ({ cls := "DeterminantDesk", name := "determinantWith", desc := "(III)I" } : Jvm.MethodName)) ∈ lw_all := lw_g (lw_at lw_m1 166 rfl) rfl
theorem q197 : (Jvm.Cond.methodLink "DeterminantDeskLaw" (75 : Nat) ({ cls := "DeterminantDesk", name := "shifted", desc := "(I)I" } : Jvm.MethodName)) ∈ lw_all := lw_g (lw_at lw_m1 171 rfl) rfl
theorem q201 : (Jvm.Cond.classLink "DeterminantDeskLaw" (10 : Nat) "DeterminantDeskModel") ∈ lw_all := lw_g (lw_at lw_m1 175 rfl) rfl
theorem q203 : (Jvm.Cond.methodLink "DeterminantDeskLaw" (12 : Nat) ({ cls := "DeterminantDeskModel", name := "<init>", desc := "()V" } : Jvm.MethodName)) ∈ lw_all := lw_g (lw_at lw_m1 177 rfl) rfl
theorem q218 : (Jvm.Cond.methodLink "DeterminantDeskLaw" (17 : Nat) ({ cls := "DeterminantDeskModel", name := "set", desc := "(III)Z" } : Jvm.MethodName)) ∈ lw_all := lw_g (lw_at lw_m1 192 rfl) rfl
theorem q230 : (Jvm.Cond.methodLink "DeterminantDeskLaw" (22 : Nat) ({ cls := "DeterminantDeskModel", name := "at", desc := "(II)I" } : Jvm.MethodName)) ∈ lw_all := lw_g (lw_at lw_m1 204 rfl) rfl
theorem q235 : (Jvm.Cond.methodLink "DeterminantDeskLaw" (27 : Nat) ({ cls := "DeterminantDeskModel", name := "swapRows", desc := "(II)Z" } : Jvm.MethodName)) ∈ lw_all := lw_g (lw_at lw_m1 209 rfl) rfl
theorem q239 : (Jvm.Cond.methodLink "DeterminantDeskLaw" (31 : Nat) ({ cls := "DeterminantDeskModel", name := "addRow", desc := "(III)Z" } : Jvm.MethodName)) ∈ lw_all := lw_g (lw_at lw_m1 213 rfl) rfl
theorem q243 : (Jvm.Cond.methodLink "DeterminantDeskLaw" (35 : Nat) ({ cls := "DeterminantDeskModel", name := "transpose", desc := "()V" } : Jvm.MethodName)) ∈ lw_all := lw_g (lw_at lw_m1 217 rfl) rfl
theorem q251 : (Jvm.Cond.methodLink "DeterminantDeskLaw" (40 : Nat) ({ cls := "DeterminantDeskModel", name := "determinant", desc := "()I" } : Jvm.MethodName)) ∈ lw_all := lw_g (lw_at lw_m1 225 rfl) rfl
theorem q267 : (Jvm.Cond.methodLink "DeterminantDeskLaw" (44 : Nat) ({ cls := "DeterminantDeskModel", name := "minor", desc := "(II)I" } : Jvm.MethodName)) ∈ lw_all := lw_g (lw_at lw_m2 1 rfl) rfl
theorem q271 : (Jvm.Cond.methodLink "DeterminantDeskLaw" (49 : Nat) ({ cls := "DeterminantDeskModel", name := "replaced", desc := "(I)I" } : Jvm.MethodName)) ∈ lw_all := lw_g (lw_at lw_m2 5 rfl) rfl
theorem q280 : (Jvm.Cond.methodLink "DeterminantDeskLaw" (53 : Nat) ({ cls := "DeterminantDeskModel", name := "rank", desc := "()I" } : Jvm.MethodName)) ∈ lw_all := lw_g (lw_at lw_m2 14 rfl) rfl
theorem q288 : (Jvm.Cond.methodLink "DeterminantDeskLaw" (57 : Nat) ({ cls := "DeterminantDeskModel", name := "wideRank", desc := "()I" } : Jvm.MethodName)) ∈ lw_all := lw_g (lw_at lw_m2 22 rfl) rfl
theorem q292 : (Jvm.Cond.methodLink "DeterminantDeskLaw" (61 : Nat) ({ cls := "DeterminantDeskModel", name := "coefficient", desc := "(I)I" } : Jvm.MethodName)) ∈ lw_all := lw_g (lw_at lw_m2 26 rfl) rfl
theorem q300 : (Jvm.Cond.methodLink "DeterminantDeskLaw" (65 : Nat) ({ cls := "DeterminantDeskModel", name := "principal", desc := "(I)I" } : Jvm.MethodName)) ∈ lw_all := lw_g (lw_at lw_m2 34 rfl) rfl
theorem q301 : (Jvm.Cond.methodLink "DeterminantDeskLaw" (69 : Nat) ({ cls := "DeterminantDeskModel", name := "rankOf", desc := "(I)I" } : Jvm.MethodName)) ∈ lw_all := lw_g (lw_at lw_m2 35 rfl) rfl
theorem q305 : (Jvm.Cond.methodLink "DeterminantDeskLaw" (74 : Nat) ({ cls := "DeterminantDeskModel", name := "determinantWith", desc := "(III)I" } : Jvm.MethodName)) ∈ lw_all := lw_g (lw_at lw_m2 39 rfl) rfl
theorem q309 : (Jvm.Cond.methodLink "DeterminantDeskLaw" (78 : Nat) ({ cls := "DeterminantDeskModel", name := "shifted", desc := "(I)I" } : Jvm.MethodName)) ∈ lw_all := lw_g (lw_at lw_m2 43 rfl) rfl
end
section
set_option maxRecDepth 100000
/-! numbers: Int32 and Int64 as images of Int -/
def iI (z : Int) : Int32 := Int32.ofInt z
def iL (z : Int) : Int64 := Int64.ofInt z
theorem iI_add (a b : Int) : iI a + iI b = iI (a + b) := (Int32.ofInt_add a b).symm
theorem iI_sub (a b : Int) : iI a - iI b = iI (a - b) := (Int32.ofInt_sub a b).symm
theorem iI_mul (a b : Int) : iI a * iI b = iI (a * b) := (Int32.ofInt_mul a b).symm
theorem iI_neg (a : Int) : -iI a = iI (-a) := (Int32.ofInt_neg a).symm
theorem iL_add (a b : Int) : iL a + iL b = iL (a + b) := (Int64.ofInt_add a b).symm
theorem iL_sub (a b : Int) : iL a - iL b = iL (a - b) := (Int64.ofInt_sub a b).symm
theorem iL_mul (a b : Int) : iL a * iL b = iL (a * b) := (Int64.ofInt_mul a b).symm
theorem iI_toInt {z : Int} (h : -2147483648 ≤ z ∧ z < 2147483648) : (iI z).toInt = z := Int32.toInt_ofInt_of_le (by omega) (by omega)
theorem iL_toInt {z : Int} (h : -9223372036854775808 ≤ z ∧ z < 9223372036854775808) : (iL z).toInt = z := Int64.toInt_ofInt_of_le (by omega) (by omega)
theorem iI_of (y : Int32) : iI y.toInt = y := Int32.ofInt_toInt y
theorem iI_bd (y : Int32) : -2147483648 ≤ y.toInt ∧ y.toInt < 2147483648 := ⟨Int32.le_toInt y, Int32.toInt_lt y⟩
theorem iI_lt {a b : Int} (ha : -2147483648 ≤ a ∧ a < 2147483648) (hb : -2147483648 ≤ b ∧ b < 2147483648) : iI a < iI b ↔ a < b := by
  rw [Int32.lt_iff_toInt_lt, iI_toInt ha, iI_toInt hb]
theorem iI_le {a b : Int} (ha : -2147483648 ≤ a ∧ a < 2147483648) (hb : -2147483648 ≤ b ∧ b < 2147483648) : iI a ≤ iI b ↔ a ≤ b := by
  rw [Int32.le_iff_toInt_le, iI_toInt ha, iI_toInt hb]
theorem iI_eq {a b : Int} (ha : -2147483648 ≤ a ∧ a < 2147483648) (hb : -2147483648 ≤ b ∧ b < 2147483648) : iI a = iI b ↔ a = b := by
  rw [← Int32.toInt_inj, iI_toInt ha, iI_toInt hb]
theorem iL_eq {a b : Int} (ha : -9223372036854775808 ≤ a ∧ a < 9223372036854775808) (hb : -9223372036854775808 ≤ b ∧ b < 9223372036854775808) : iL a = iL b ↔ a = b := by
  rw [← Int64.toInt_inj, iL_toInt ha, iL_toInt hb]
theorem iI_0 : iI 0 = 0 := rfl
theorem iI_1 : iI 1 = 1 := rfl
theorem iL_0 : iL 0 = 0 := rfl
theorem iI_nI (n : Nat) : nI n = iI (n : Int) := (Int32.ofInt_eq_ofNat).symm
theorem iI_cl {n : Nat} (h : n < 2 ^ 31) : (iI (n : Int)).toNatClampNeg = n := by rw [← iI_nI]; exact nI_clamp h
theorem iI_in {n N : Nat} (h : n < N) (hN : N < 2 ^ 31) : vp_in (iI (n : Int)) N := by rw [← iI_nI]; exact vp_in_nI h hN
theorem iI_tdiv {a b : Int} (ha : -2147483648 ≤ a ∧ a < 2147483648) (hb : 0 < b ∧ b < 2147483648) : iI a / iI b = iI (a.tdiv b) :=
  (Int32.ofInt_tdiv (show (-2147483648 : Int) ≤ a from ha.1) (show a ≤ (2147483647 : Int) by omega) (show (-2147483648 : Int) ≤ b by omega) (show b ≤ (2147483647 : Int) by omega)).symm
theorem iI_tmod {a b : Int} (ha : -2147483648 ≤ a ∧ a < 2147483648) (hb : 0 < b ∧ b < 2147483648) : iI a - iI a / iI b * iI b = iI (a.tmod b) := by
  rw [iI_tdiv ha hb, iI_mul, iI_sub]
  congr 1
  rw [Int.tmod_def, Int.mul_comm]
theorem iI_l {a : Int} (ha : -2147483648 ≤ a ∧ a < 2147483648) : (iI a).toInt64 = iL a := by
  show Int64.ofInt (iI a).toInt = Int64.ofInt a
  rw [iI_toInt ha]
theorem iL_i (a : Int) : (iL a).toInt32 = iI a := Int64.toInt32_ofInt
theorem iI_b8 {a : Int} (ha : -128 ≤ a ∧ a < 128) : (iI a).toInt8.toInt32 = iI a := by
  have h1 : (iI a).toInt8 = Int8.ofInt a := Int32.toInt8_ofInt
  rw [h1]
  show Int32.ofInt (Int8.ofInt a).toInt = Int32.ofInt a
  rw [Int8.toInt_ofInt_of_le (by omega) (by omega)]
theorem iI_nar {a : Int} (ha : -128 ≤ a ∧ a < 128) : vp_nar .byte (iI a) = iI a := by rw [vp_nar_byte, iI_b8 ha]
/-! an array of ints with one place written -/
def up (f : Nat → Int) (k : Nat) (y : Int) : Nat → Int := fun j => if j = k then y else f j
theorem up_s (f : Nat → Int) (k : Nat) (y : Int) : up f k y k = y := by simp [up]
theorem up_n {f : Nat → Int} {k j : Nat} {y : Int} (h : j ≠ k) : up f k y j = f j := by simp [up, h]
theorem up_upd (f : Nat → Int) (k : Nat) (y : Int) : upd (fun j => iI (f j)) k (iI y) = fun j => iI (up f k y j) := by
  funext j
  by_cases h : j = k <;> simp [upd, up, h]
theorem up_updL (f : Nat → Int) (k : Nat) (y : Int) : vp_updL (fun j => iL (f j)) k (iL y) = fun j => iL (up f k y j) := by
  funext j
  by_cases h : j = k <;> simp [vp_updL, up, h]
theorem arr_cg (cA : ClassId) {n : Nat} {f g : Nat → Int} (h : ∀ j, j < n → f j = g j) : vp_cell cA (n, .inl fun j => iI (f j)) = vp_cell cA (n, .inl fun j => iI (g j)) := by
  show arrV cA n (fun j => .int (iI (f j))) = arrV cA n (fun j => .int (iI (g j)))
  unfold arrV
  congr 1
  congr 1
  funext j
  dsimp only
  rw [h j.val j.isLt]
theorem arr_cgL (cA : ClassId) {n : Nat} {f g : Nat → Int} (h : ∀ j, j < n → f j = g j) : vp_cell cA (n, .inr (.inl fun j => iL (f j))) = vp_cell cA (n, .inr (.inl fun j => iL (g j))) := by
  show arrV cA n (fun j => .long (iL (f j))) = arrV cA n (fun j => .long (iL (g j)))
  unfold arrV
  congr 1
  congr 1
  funext j
  dsimp only
  rw [h j.val j.isLt]
section ZR
variable {p : Program} {l : Launch} {e : Env} {R : Room} {s : State} {m : MethodId} {args : Array Value} {below : List Frame} {meth : Method} {c : Code} {H : Heap} {locs : List Loc} {cells slots : Nat} {Q : State → Prop}
variable {cc : ByteArray} {pc : Nat} {ls : Array Slot} {rest : List Value}
theorem z_re {y z : Int32} (h : y = z) (k : W p l e R s m args below meth c H locs cells slots Q (F0 m pc ls (.int z :: rest))) : W p l e R s m args below meth c H locs cells slots Q (F0 m pc ls (.int y :: rest)) := h ▸ k
theorem z_rei {y z : Int} (h : y = z) (k : W p l e R s m args below meth c H locs cells slots Q (F0 m pc ls (.int (iI z) :: rest))) : W p l e R s m args below meth c H locs cells slots Q (F0 m pc ls (.int (iI y) :: rest)) := h ▸ k
theorem z_iconst (hx : p.tables.exec = Jvm.exec) (hb : c.code = cc) {n : Int} (hdg : decode cc pc = .ok (.iconst n, 1)) (k : W p l e R s m args below meth c H locs cells slots Q (F0 m (pc + 1) ls (.int (iI n) :: rest))) : W p l e R s m args below meth c H locs cells slots Q (F0 m pc ls rest) := lv_iconst hx hb hdg rfl k
theorem z_bipush (hx : p.tables.exec = Jvm.exec) (hb : c.code = cc) {n : Int} (hdg : decode cc pc = .ok (.bipush n, 2)) (hv : (Int8.ofInt n).toInt32 = iI n) (k : W p l e R s m args below meth c H locs cells slots Q (F0 m (pc + 2) ls (.int (iI n) :: rest))) : W p l e R s m args below meth c H locs cells slots Q (F0 m pc ls rest) := lv_bipush hx hb hdg hv k
theorem z_sipush (hx : p.tables.exec = Jvm.exec) (hb : c.code = cc) {n : Int} (hdg : decode cc pc = .ok (.sipush n, 3)) (hv : (Int16.ofInt n).toInt32 = iI n) (k : W p l e R s m args below meth c H locs cells slots Q (F0 m (pc + 3) ls (.int (iI n) :: rest))) : W p l e R s m args below meth c H locs cells slots Q (F0 m pc ls rest) := lv_sipush hx hb hdg hv k
theorem z_ldc (hx : p.tables.exec = Jvm.exec) (hb : c.code = cc) {own : String} {index : Nat} {v : Int32} (z : Int) (hown : s.vm.findClass own = some m.cls) (hc : (Jvm.Cond.constant own index v).before args s = true) (hv : v = iI z) (hdg : decode cc pc = .ok (.ldc index, 2)) (k : W p l e R s m args below meth c H locs cells slots Q (F0 m (pc + 2) ls (.int (iI z) :: rest))) : W p l e R s m args below meth c H locs cells slots Q (F0 m pc ls rest) := lv_ldc hx hb hown hc hdg (by rw [hv]; exact k)
theorem z_lconst0 (hx : p.tables.exec = Jvm.exec) (hb : c.code = cc) (hdg : decode cc pc = .ok (.lconst 0, 1)) (k : W p l e R s m args below meth c H locs cells slots Q (F0 m (pc + 1) ls (.long (iL 0) :: rest))) : W p l e R s m args below meth c H locs cells slots Q (F0 m pc ls rest) := lv_lconst hx hb hdg rfl k
theorem z_lconst1 (hx : p.tables.exec = Jvm.exec) (hb : c.code = cc) (hdg : decode cc pc = .ok (.lconst 1, 1)) (k : W p l e R s m args below meth c H locs cells slots Q (F0 m (pc + 1) ls (.long (iL 1) :: rest))) : W p l e R s m args below meth c H locs cells slots Q (F0 m pc ls rest) := lv_lconst hx hb hdg rfl k
theorem z_iadd (hx : p.tables.exec = Jvm.exec) (hb : c.code = cc) {a b : Int} (hdg : decode cc pc = .ok (.iadd, 1)) (k : W p l e R s m args below meth c H locs cells slots Q (F0 m (pc + 1) ls (.int (iI (a + b)) :: rest))) : W p l e R s m args below meth c H locs cells slots Q (F0 m pc ls (.int (iI b) :: .int (iI a) :: rest)) := lv_iadd hx hb hdg (by rw [iI_add]; exact k)
theorem z_isub (hx : p.tables.exec = Jvm.exec) (hb : c.code = cc) {a b : Int} (hdg : decode cc pc = .ok (.isub, 1)) (k : W p l e R s m args below meth c H locs cells slots Q (F0 m (pc + 1) ls (.int (iI (a - b)) :: rest))) : W p l e R s m args below meth c H locs cells slots Q (F0 m pc ls (.int (iI b) :: .int (iI a) :: rest)) := lv_isub hx hb hdg (by rw [iI_sub]; exact k)
theorem z_imul (hx : p.tables.exec = Jvm.exec) (hb : c.code = cc) {a b : Int} (hdg : decode cc pc = .ok (.imul, 1)) (k : W p l e R s m args below meth c H locs cells slots Q (F0 m (pc + 1) ls (.int (iI (a * b)) :: rest))) : W p l e R s m args below meth c H locs cells slots Q (F0 m pc ls (.int (iI b) :: .int (iI a) :: rest)) := lv_imul hx hb hdg (by rw [iI_mul]; exact k)
theorem z_ladd (hx : p.tables.exec = Jvm.exec) (hb : c.code = cc) {a b : Int} (hdg : decode cc pc = .ok (.ladd, 1)) (k : W p l e R s m args below meth c H locs cells slots Q (F0 m (pc + 1) ls (.long (iL (a + b)) :: rest))) : W p l e R s m args below meth c H locs cells slots Q (F0 m pc ls (.long (iL b) :: .long (iL a) :: rest)) := lv_ladd hx hb hdg (by rw [iL_add]; exact k)
theorem z_lsub (hx : p.tables.exec = Jvm.exec) (hb : c.code = cc) {a b : Int} (hdg : decode cc pc = .ok (.lsub, 1)) (k : W p l e R s m args below meth c H locs cells slots Q (F0 m (pc + 1) ls (.long (iL (a - b)) :: rest))) : W p l e R s m args below meth c H locs cells slots Q (F0 m pc ls (.long (iL b) :: .long (iL a) :: rest)) := lv_lsub hx hb hdg (by rw [iL_sub]; exact k)
theorem z_lmul (hx : p.tables.exec = Jvm.exec) (hb : c.code = cc) {a b : Int} (hdg : decode cc pc = .ok (.lmul, 1)) (k : W p l e R s m args below meth c H locs cells slots Q (F0 m (pc + 1) ls (.long (iL (a * b)) :: rest))) : W p l e R s m args below meth c H locs cells slots Q (F0 m pc ls (.long (iL b) :: .long (iL a) :: rest)) := lv_lmul hx hb hdg (by rw [iL_mul]; exact k)
theorem z_ineg (hx : p.tables.exec = Jvm.exec) (hb : c.code = cc) {a : Int} (hdg : decode cc pc = .ok (.ineg, 1)) (k : W p l e R s m args below meth c H locs cells slots Q (F0 m (pc + 1) ls (.int (iI (-a)) :: rest))) : W p l e R s m args below meth c H locs cells slots Q (F0 m pc ls (.int (iI a) :: rest)) := lv_ineg hx hb hdg (by rw [iI_neg]; exact k)
theorem z_irem (hx : p.tables.exec = Jvm.exec) (hb : c.code = cc) {a b : Int} (hdg : decode cc pc = .ok (.irem, 1)) (ha : -2147483648 ≤ a ∧ a < 2147483648) (hb2 : 0 < b ∧ b < 2147483648) (k : W p l e R s m args below meth c H locs cells slots Q (F0 m (pc + 1) ls (.int (iI (a.tmod b)) :: rest))) : W p l e R s m args below meth c H locs cells slots Q (F0 m pc ls (.int (iI b) :: .int (iI a) :: rest)) := lv_irem hx hb hdg (by rw [← iI_0, iI_eq (by omega) (by omega)]; omega) (by rw [iI_tmod ha hb2]; exact k)
theorem z_idiv (hx : p.tables.exec = Jvm.exec) (hb : c.code = cc) {a b : Int} (hdg : decode cc pc = .ok (.idiv, 1)) (ha : -2147483648 ≤ a ∧ a < 2147483648) (hb2 : 0 < b ∧ b < 2147483648) (k : W p l e R s m args below meth c H locs cells slots Q (F0 m (pc + 1) ls (.int (iI (a.tdiv b)) :: rest))) : W p l e R s m args below meth c H locs cells slots Q (F0 m pc ls (.int (iI b) :: .int (iI a) :: rest)) := lv_idiv hx hb hdg (by rw [← iI_0, iI_eq (by omega) (by omega)]; omega) (by rw [iI_tdiv ha hb2]; exact k)
theorem z_i2b (hx : p.tables.exec = Jvm.exec) (hb : c.code = cc) {a : Int} (hdg : decode cc pc = .ok (.i2b, 1)) (ha : -128 ≤ a ∧ a < 128) (k : W p l e R s m args below meth c H locs cells slots Q (F0 m (pc + 1) ls (.int (iI a) :: rest))) : W p l e R s m args below meth c H locs cells slots Q (F0 m pc ls (.int (iI a) :: rest)) := lv_i2b hx hb hdg (iI_b8 ha) k
theorem z_i2l (hx : p.tables.exec = Jvm.exec) (hb : c.code = cc) {a : Int} (hdg : decode cc pc = .ok (.i2l, 1)) (ha : -2147483648 ≤ a ∧ a < 2147483648) (k : W p l e R s m args below meth c H locs cells slots Q (F0 m (pc + 1) ls (.long (iL a) :: rest))) : W p l e R s m args below meth c H locs cells slots Q (F0 m pc ls (.int (iI a) :: rest)) := lv_i2l hx hb hdg (iI_l ha) k
theorem z_l2i (hx : p.tables.exec = Jvm.exec) (hb : c.code = cc) {a : Int} (hdg : decode cc pc = .ok (.l2i, 1)) (k : W p l e R s m args below meth c H locs cells slots Q (F0 m (pc + 1) ls (.int (iI a) :: rest))) : W p l e R s m args below meth c H locs cells slots Q (F0 m pc ls (.long (iL a) :: rest)) := lv_l2i hx hb hdg (iL_i a) k
theorem z_iand (hx : p.tables.exec = Jvm.exec) (hb : c.code = cc) {a b : Int} (z : Int) (hdg : decode cc pc = .ok (.iand, 1)) (hv : iI a &&& iI b = iI z) (k : W p l e R s m args below meth c H locs cells slots Q (F0 m (pc + 1) ls (.int (iI z) :: rest))) : W p l e R s m args below meth c H locs cells slots Q (F0 m pc ls (.int (iI b) :: .int (iI a) :: rest)) := lv_iand hx hb hdg (by rw [hv]; exact k)
theorem z_ixor (hx : p.tables.exec = Jvm.exec) (hb : c.code = cc) {a b : Int} (z : Int) (hdg : decode cc pc = .ok (.ixor, 1)) (hv : iI a ^^^ iI b = iI z) (k : W p l e R s m args below meth c H locs cells slots Q (F0 m (pc + 1) ls (.int (iI z) :: rest))) : W p l e R s m args below meth c H locs cells slots Q (F0 m pc ls (.int (iI b) :: .int (iI a) :: rest)) := lv_ixor hx hb hdg (by rw [hv]; exact k)
theorem z_ishl (hx : p.tables.exec = Jvm.exec) (hb : c.code = cc) {a b : Int} (z : Int) (hdg : decode cc pc = .ok (.ishl, 1)) (hv : iI a <<< (iI b &&& 31) = iI z) (k : W p l e R s m args below meth c H locs cells slots Q (F0 m (pc + 1) ls (.int (iI z) :: rest))) : W p l e R s m args below meth c H locs cells slots Q (F0 m pc ls (.int (iI b) :: .int (iI a) :: rest)) := lv_ishl hx hb hdg (by rw [hv]; exact k)
theorem z_ishr (hx : p.tables.exec = Jvm.exec) (hb : c.code = cc) {a b : Int} (z : Int) (hdg : decode cc pc = .ok (.ishr, 1)) (hv : iI a >>> (iI b &&& 31) = iI z) (k : W p l e R s m args below meth c H locs cells slots Q (F0 m (pc + 1) ls (.int (iI z) :: rest))) : W p l e R s m args below meth c H locs cells slots Q (F0 m pc ls (.int (iI b) :: .int (iI a) :: rest)) := lv_ishr hx hb hdg (by rw [hv]; exact k)
theorem z_icmp_eq (hx : p.tables.exec = Jvm.exec) (hb : c.code = cc) {a b : Int} {off : Int} (tgt : Nat) (hdg : decode cc pc = .ok (.if_icmp .eq off, 3)) (ht : (pc : Int) + off = (tgt : Int)) (ha : -2147483648 ≤ a ∧ a < 2147483648) (hb2 : -2147483648 ≤ b ∧ b < 2147483648) (kt : a = b → W p l e R s m args below meth c H locs cells slots Q (F0 m tgt ls rest)) (kf : a ≠ b → W p l e R s m args below meth c H locs cells slots Q (F0 m (pc + 3) ls rest)) : W p l e R s m args below meth c H locs cells slots Q (F0 m pc ls (.int (iI b) :: .int (iI a) :: rest)) := lv_icmp_eq hx hb hdg ht (fun h => kt ((iI_eq ha hb2).mp h)) (fun h => kf (fun q => h ((iI_eq ha hb2).mpr q)))
theorem z_if_eq (hx : p.tables.exec = Jvm.exec) (hb : c.code = cc) {a : Int} {off : Int} (tgt : Nat) (hdg : decode cc pc = .ok (.ifCond .eq off, 3)) (ht : (pc : Int) + off = (tgt : Int)) (ha : -2147483648 ≤ a ∧ a < 2147483648) (kt : a = 0 → W p l e R s m args below meth c H locs cells slots Q (F0 m tgt ls rest)) (kf : a ≠ 0 → W p l e R s m args below meth c H locs cells slots Q (F0 m (pc + 3) ls rest)) : W p l e R s m args below meth c H locs cells slots Q (F0 m pc ls (.int (iI a) :: rest)) := by
  have hb2 : (-2147483648 : Int) ≤ 0 ∧ (0 : Int) < 2147483648 := by omega
  exact lv_if_eq hx hb hdg ht (by rw [← iI_0]; exact (fun h => kt ((iI_eq ha hb2).mp h))) (by rw [← iI_0]; exact (fun h => kf (fun q => h ((iI_eq ha hb2).mpr q))))
theorem z_icmp_ne (hx : p.tables.exec = Jvm.exec) (hb : c.code = cc) {a b : Int} {off : Int} (tgt : Nat) (hdg : decode cc pc = .ok (.if_icmp .ne off, 3)) (ht : (pc : Int) + off = (tgt : Int)) (ha : -2147483648 ≤ a ∧ a < 2147483648) (hb2 : -2147483648 ≤ b ∧ b < 2147483648) (kt : a ≠ b → W p l e R s m args below meth c H locs cells slots Q (F0 m tgt ls rest)) (kf : a = b → W p l e R s m args below meth c H locs cells slots Q (F0 m (pc + 3) ls rest)) : W p l e R s m args below meth c H locs cells slots Q (F0 m pc ls (.int (iI b) :: .int (iI a) :: rest)) := lv_icmp_ne hx hb hdg ht (fun h => kt (fun q => h ((iI_eq ha hb2).mpr q))) (fun h => kf ((iI_eq ha hb2).mp h))
theorem z_if_ne (hx : p.tables.exec = Jvm.exec) (hb : c.code = cc) {a : Int} {off : Int} (tgt : Nat) (hdg : decode cc pc = .ok (.ifCond .ne off, 3)) (ht : (pc : Int) + off = (tgt : Int)) (ha : -2147483648 ≤ a ∧ a < 2147483648) (kt : a ≠ 0 → W p l e R s m args below meth c H locs cells slots Q (F0 m tgt ls rest)) (kf : a = 0 → W p l e R s m args below meth c H locs cells slots Q (F0 m (pc + 3) ls rest)) : W p l e R s m args below meth c H locs cells slots Q (F0 m pc ls (.int (iI a) :: rest)) := by
  have hb2 : (-2147483648 : Int) ≤ 0 ∧ (0 : Int) < 2147483648 := by omega
  exact lv_if_ne hx hb hdg ht (by rw [← iI_0]; exact (fun h => kt (fun q => h ((iI_eq ha hb2).mpr q)))) (by rw [← iI_0]; exact (fun h => kf ((iI_eq ha hb2).mp h)))
theorem z_icmp_lt (hx : p.tables.exec = Jvm.exec) (hb : c.code = cc) {a b : Int} {off : Int} (tgt : Nat) (hdg : decode cc pc = .ok (.if_icmp .lt off, 3)) (ht : (pc : Int) + off = (tgt : Int)) (ha : -2147483648 ≤ a ∧ a < 2147483648) (hb2 : -2147483648 ≤ b ∧ b < 2147483648) (kt : a < b → W p l e R s m args below meth c H locs cells slots Q (F0 m tgt ls rest)) (kf : b ≤ a → W p l e R s m args below meth c H locs cells slots Q (F0 m (pc + 3) ls rest)) : W p l e R s m args below meth c H locs cells slots Q (F0 m pc ls (.int (iI b) :: .int (iI a) :: rest)) := lv_icmp_lt hx hb hdg ht (fun h => kt ((iI_lt ha hb2).mp h)) (fun h => kf (by rw [iI_lt ha hb2] at h; omega))
theorem z_if_lt (hx : p.tables.exec = Jvm.exec) (hb : c.code = cc) {a : Int} {off : Int} (tgt : Nat) (hdg : decode cc pc = .ok (.ifCond .lt off, 3)) (ht : (pc : Int) + off = (tgt : Int)) (ha : -2147483648 ≤ a ∧ a < 2147483648) (kt : a < 0 → W p l e R s m args below meth c H locs cells slots Q (F0 m tgt ls rest)) (kf : 0 ≤ a → W p l e R s m args below meth c H locs cells slots Q (F0 m (pc + 3) ls rest)) : W p l e R s m args below meth c H locs cells slots Q (F0 m pc ls (.int (iI a) :: rest)) := by
  have hb2 : (-2147483648 : Int) ≤ 0 ∧ (0 : Int) < 2147483648 := by omega
  exact lv_if_lt hx hb hdg ht (by rw [← iI_0]; exact (fun h => kt ((iI_lt ha hb2).mp h))) (by rw [← iI_0]; exact (fun h => kf (by rw [iI_lt ha hb2] at h; omega)))
theorem z_icmp_ge (hx : p.tables.exec = Jvm.exec) (hb : c.code = cc) {a b : Int} {off : Int} (tgt : Nat) (hdg : decode cc pc = .ok (.if_icmp .ge off, 3)) (ht : (pc : Int) + off = (tgt : Int)) (ha : -2147483648 ≤ a ∧ a < 2147483648) (hb2 : -2147483648 ≤ b ∧ b < 2147483648) (kt : b ≤ a → W p l e R s m args below meth c H locs cells slots Q (F0 m tgt ls rest)) (kf : a < b → W p l e R s m args below meth c H locs cells slots Q (F0 m (pc + 3) ls rest)) : W p l e R s m args below meth c H locs cells slots Q (F0 m pc ls (.int (iI b) :: .int (iI a) :: rest)) := lv_icmp_ge hx hb hdg ht (fun h => kt ((iI_le hb2 ha).mp h)) (fun h => kf (by rw [iI_le hb2 ha] at h; omega))
theorem z_if_ge (hx : p.tables.exec = Jvm.exec) (hb : c.code = cc) {a : Int} {off : Int} (tgt : Nat) (hdg : decode cc pc = .ok (.ifCond .ge off, 3)) (ht : (pc : Int) + off = (tgt : Int)) (ha : -2147483648 ≤ a ∧ a < 2147483648) (kt : 0 ≤ a → W p l e R s m args below meth c H locs cells slots Q (F0 m tgt ls rest)) (kf : a < 0 → W p l e R s m args below meth c H locs cells slots Q (F0 m (pc + 3) ls rest)) : W p l e R s m args below meth c H locs cells slots Q (F0 m pc ls (.int (iI a) :: rest)) := by
  have hb2 : (-2147483648 : Int) ≤ 0 ∧ (0 : Int) < 2147483648 := by omega
  exact lv_if_ge hx hb hdg ht (by rw [← iI_0]; exact (fun h => kt ((iI_le hb2 ha).mp h))) (by rw [← iI_0]; exact (fun h => kf (by rw [iI_le hb2 ha] at h; omega)))
theorem z_icmp_gt (hx : p.tables.exec = Jvm.exec) (hb : c.code = cc) {a b : Int} {off : Int} (tgt : Nat) (hdg : decode cc pc = .ok (.if_icmp .gt off, 3)) (ht : (pc : Int) + off = (tgt : Int)) (ha : -2147483648 ≤ a ∧ a < 2147483648) (hb2 : -2147483648 ≤ b ∧ b < 2147483648) (kt : b < a → W p l e R s m args below meth c H locs cells slots Q (F0 m tgt ls rest)) (kf : a ≤ b → W p l e R s m args below meth c H locs cells slots Q (F0 m (pc + 3) ls rest)) : W p l e R s m args below meth c H locs cells slots Q (F0 m pc ls (.int (iI b) :: .int (iI a) :: rest)) := lv_icmp_gt hx hb hdg ht (fun h => kt ((iI_lt hb2 ha).mp h)) (fun h => kf (by rw [iI_lt hb2 ha] at h; omega))
theorem z_if_gt (hx : p.tables.exec = Jvm.exec) (hb : c.code = cc) {a : Int} {off : Int} (tgt : Nat) (hdg : decode cc pc = .ok (.ifCond .gt off, 3)) (ht : (pc : Int) + off = (tgt : Int)) (ha : -2147483648 ≤ a ∧ a < 2147483648) (kt : 0 < a → W p l e R s m args below meth c H locs cells slots Q (F0 m tgt ls rest)) (kf : a ≤ 0 → W p l e R s m args below meth c H locs cells slots Q (F0 m (pc + 3) ls rest)) : W p l e R s m args below meth c H locs cells slots Q (F0 m pc ls (.int (iI a) :: rest)) := by
  have hb2 : (-2147483648 : Int) ≤ 0 ∧ (0 : Int) < 2147483648 := by omega
  exact lv_if_gt hx hb hdg ht (by rw [← iI_0]; exact (fun h => kt ((iI_lt hb2 ha).mp h))) (by rw [← iI_0]; exact (fun h => kf (by rw [iI_lt hb2 ha] at h; omega)))
theorem z_icmp_le (hx : p.tables.exec = Jvm.exec) (hb : c.code = cc) {a b : Int} {off : Int} (tgt : Nat) (hdg : decode cc pc = .ok (.if_icmp .le off, 3)) (ht : (pc : Int) + off = (tgt : Int)) (ha : -2147483648 ≤ a ∧ a < 2147483648) (hb2 : -2147483648 ≤ b ∧ b < 2147483648) (kt : a ≤ b → W p l e R s m args below meth c H locs cells slots Q (F0 m tgt ls rest)) (kf : b < a → W p l e R s m args below meth c H locs cells slots Q (F0 m (pc + 3) ls rest)) : W p l e R s m args below meth c H locs cells slots Q (F0 m pc ls (.int (iI b) :: .int (iI a) :: rest)) := lv_icmp_le hx hb hdg ht (fun h => kt ((iI_le ha hb2).mp h)) (fun h => kf (by rw [iI_le ha hb2] at h; omega))
theorem z_if_le (hx : p.tables.exec = Jvm.exec) (hb : c.code = cc) {a : Int} {off : Int} (tgt : Nat) (hdg : decode cc pc = .ok (.ifCond .le off, 3)) (ht : (pc : Int) + off = (tgt : Int)) (ha : -2147483648 ≤ a ∧ a < 2147483648) (kt : a ≤ 0 → W p l e R s m args below meth c H locs cells slots Q (F0 m tgt ls rest)) (kf : 0 < a → W p l e R s m args below meth c H locs cells slots Q (F0 m (pc + 3) ls rest)) : W p l e R s m args below meth c H locs cells slots Q (F0 m pc ls (.int (iI a) :: rest)) := by
  have hb2 : (-2147483648 : Int) ≤ 0 ∧ (0 : Int) < 2147483648 := by omega
  exact lv_if_le hx hb hdg ht (by rw [← iI_0]; exact (fun h => kt ((iI_le ha hb2).mp h))) (by rw [← iI_0]; exact (fun h => kf (by rw [iI_le ha hb2] at h; omega)))
theorem z_lcmp (hx : p.tables.exec = Jvm.exec) (hb : c.code = cc) {a b : Int} (hdg : decode cc pc = .ok (.lcmp, 1)) (ha : -9223372036854775808 ≤ a ∧ a < 9223372036854775808) (hb2 : -9223372036854775808 ≤ b ∧ b < 9223372036854775808) (k : W p l e R s m args below meth c H locs cells slots Q (F0 m (pc + 1) ls (.int (iI (if b < a then 1 else if a = b then 0 else -1)) :: rest))) : W p l e R s m args below meth c H locs cells slots Q (F0 m pc ls (.long (iL b) :: .long (iL a) :: rest)) := by
  refine W.lcmp hx hb hdg ?_
  have h : lg_cmp (iL a) (iL b) = iI (if b < a then 1 else if a = b then 0 else -1) := by
    unfold lg_cmp
    have h1 : (iL a > iL b) ↔ b < a := by rw [gt_iff_lt, Int64.lt_iff_toInt_lt, iL_toInt ha, iL_toInt hb2]
    have h2 := iL_eq ha hb2
    by_cases q1 : b < a
    · rw [if_pos (h1.mpr q1), if_pos q1]; rfl
    · rw [if_neg (fun z => q1 (h1.mp z)), if_neg q1]
      by_cases q2 : a = b
      · rw [if_pos (h2.mpr q2), if_pos q2]; rfl
      · rw [if_neg (fun z => q2 (h2.mp z)), if_neg q2]; rfl
  rw [h]
  exact k
end ZR
end
section
set_option maxRecDepth 100000
/-! Fermat's little theorem for the two primes, and bits of small numbers -/
theorem fm_sq {p r s n : Nat} (h : s + r = p) (he : n % 2 = 0) : s ^ n % p = r ^ n % p := by
  have h2 : s * s + p * r = r * r + p * s := by
    subst h
    grind
  have h3 : s * s % p = r * r % p := by
    have h4 : (s * s + p * r) % p = (r * r + p * s) % p := by rw [h2]
    rw [Nat.add_mul_mod_self_left, Nat.add_mul_mod_self_left] at h4
    exact h4
  obtain ⟨k, rfl⟩ : ∃ k, n = 2 * k := ⟨n / 2, by omega⟩
  rw [Nat.pow_mul, Nat.pow_mul, Nat.pow_mod, Nat.pow_mod (r ^ 2), Nat.pow_two, Nat.pow_two, h3]
theorem fm_all {p : Nat} (hp : 1 < p) (hq : p < 182 * 182) (he : (p - 1) % 2 = 0) (hd : ∀ d, d < 182 → 1 < d → p % d ≠ 0) (hb : ∀ a, a < 182 → 0 < a → a ^ (p - 1) % p = 1) : ∀ n a : Nat, a ≤ n → 0 < a → a < p → a ^ (p - 1) % p = 1 := by
  have hprime : ∀ d, 1 < d → d < p → p % d ≠ 0 := by
    intro d h1 h2 h3
    by_cases q : d < 182
    · exact hd d q h1 h3
    · have e := Nat.div_add_mod p d
      rw [h3] at e
      have g1 : p / d < 182 := by
        apply Nat.div_lt_of_lt_mul
        have := Nat.mul_le_mul_right 182 (Nat.not_lt.mp q)
        omega
      have g2 : 1 < p / d := by
        rcases Nat.lt_or_ge 1 (p / d) with g | g
        · exact g
        · exfalso
          have := Nat.mul_le_mul_left d g
          omega
      refine hd (p / d) g1 g2 ?_
      have e2 : p = p / d * d := by rw [Nat.mul_comm]; omega
      rw [e2, Nat.mul_div_cancel _ (by omega)]
      exact Nat.mul_mod_right _ _
  intro n
  induction n with
  | zero => intro a h1 h2; omega
  | succ n ih =>
    intro a h1 h2 h3
    by_cases q : a < 182
    · exact hb a q h2
    · have e := Nat.div_add_mod p a
      have r1 : p % a < a := Nat.mod_lt _ h2
      have r0 : p % a ≠ 0 := hprime a (by omega) h3
      have g1 : p / a < 182 := by
        apply Nat.div_lt_of_lt_mul
        have := Nat.mul_le_mul_right 182 (Nat.not_lt.mp q)
        omega
      have g2 : 0 < p / a := Nat.div_pos (by omega) h2
      have k1 := ih (p % a) (by omega) (by omega) (by omega)
      have k2 := hb (p / a) g1 g2
      have k3 := fm_sq (p := p) (r := p % a) (s := a * (p / a)) (n := p - 1) e he
      rw [k1, Nat.mul_pow, Nat.mul_mod, k2, Nat.mul_one, Nat.mod_mod] at k3
      exact k3
theorem fm_b1 : ∀ a, a < 182 → 0 < a → a ^ (32749 - 1) % 32749 = 1 := by decide +kernel
theorem fm_b2 : ∀ a, a < 182 → 0 < a → a ^ (32719 - 1) % 32719 = 1 := by decide +kernel
theorem fm_d1 : ∀ d, d < 182 → 1 < d → 32749 % d ≠ 0 := by decide +kernel
theorem fm_d2 : ∀ d, d < 182 → 1 < d → 32719 % d ≠ 0 := by decide +kernel
theorem fm_inv {p : Nat} (hp : p = 32749 ∨ p = 32719) {a : Nat} (h0 : 0 < a) (ha : a < p) : a * (a ^ (p - 2) % p) % p = 1 := by
  have h : a ^ (p - 1) % p = 1 := by
    rcases hp with rfl | rfl
    · exact fm_all (by decide) (by decide) (by decide) fm_d1 fm_b1 a a (Nat.le_refl _) h0 ha
    · exact fm_all (by decide) (by decide) (by decide) fm_d2 fm_b2 a a (Nat.le_refl _) h0 ha
  rw [Nat.mul_mod, Nat.mod_mod, ← Nat.mul_mod, Nat.mul_comm, ← Nat.pow_succ]
  have e : p - 2 + 1 = p - 1 := by omega
  rw [Nat.succ_eq_add_one, e]
  exact h
theorem fm_invZ {p a : Int} (hp : p = 32749 ∨ p = 32719) (h : 0 ≤ a ∧ a < p) (h0 : a ≠ 0) : a * (a ^ (p.toNat - 2) % p) % p = 1 := by
  obtain ⟨n, rfl⟩ := Int.eq_ofNat_of_zero_le h.1
  obtain ⟨k, rfl⟩ := Int.eq_ofNat_of_zero_le (show 0 ≤ p by omega)
  have g := fm_inv (p := k) (by omega) (a := n) (by omega) (by omega)
  rw [Int.toNat_natCast]
  exact_mod_cast g
theorem sh_k : ∀ k, k < 32 → ((iI ((k : Nat) : Int) &&& 31).toBitVec.smod 32).toNat = k := by decide +kernel
theorem iI_shr {n k : Nat} (h : n < 2 ^ 31) (hk : k < 32) : iI (n : Int) >>> (iI (k : Int) &&& 31) = iI ((n / 2 ^ k : Nat) : Int) := by
  rw [← iI_nI n, ← iI_nI (n / 2 ^ k)]
  exact pk_shrN h _ k (sh_k k hk)
theorem iI_and1 {n : Nat} (h : n < 2 ^ 31) : iI (n : Int) &&& iI 1 = iI ((n % 2 : Nat) : Int) := by
  rw [← iI_nI n, ← iI_nI (n % 2)]
  exact pk_andN (by omega) 1 rfl
theorem mod2_step (n k : Nat) : n % 2 ^ (k + 1) = n % 2 ^ k + n / 2 ^ k % 2 * 2 ^ k := by
  rw [Nat.pow_succ, Nat.mod_mul, Nat.mul_comm (n / 2 ^ k % 2)]
/-- a step of the power: the exponent's next bit set, or not; the square -/
theorem pw_set {a p : Int} {n k : Nat} (hb : n / 2 ^ k % 2 ≠ 0) : a ^ (n % 2 ^ k) % p * (a ^ (2 ^ k) % p) % p = a ^ (n % 2 ^ (k + 1)) % p := by
  have h : n / 2 ^ k % 2 = 1 := by omega
  rw [mod2_step, h, Nat.one_mul, Int.pow_add, Int.mul_emod, Int.emod_emod, Int.emod_emod, ← Int.mul_emod]
theorem pw_not {a p : Int} {n k : Nat} (hb : n / 2 ^ k % 2 = 0) : a ^ (n % 2 ^ k) % p = a ^ (n % 2 ^ (k + 1)) % p := by
  rw [mod2_step, hb, Nat.zero_mul, Nat.add_zero]
theorem pw_sq {a p : Int} {k : Nat} : a ^ (2 ^ k) % p * (a ^ (2 ^ k) % p) % p = a ^ (2 ^ (k + 1)) % p := by
  rw [Nat.pow_succ, Nat.mul_two, Int.pow_add, Int.mul_emod, Int.emod_emod, ← Int.mul_emod]
end
section
set_option maxRecDepth 100000
/-! congruence, determinants of rows at columns -/
def cg (p a b : Int) : Prop := ∃ t, a = b + p * t
theorem cg.rf (p a : Int) : cg p a a := ⟨0, by simp⟩
theorem cg.of {p a b : Int} (h : a = b) : cg p a b := h ▸ cg.rf p a
theorem cg.sy {p a b : Int} (h : cg p a b) : cg p b a := by
  obtain ⟨t, e⟩ := h
  exact ⟨-t, by grind⟩
theorem cg.tr {p a b c : Int} (h : cg p a b) (g : cg p b c) : cg p a c := by
  obtain ⟨t, e⟩ := h
  obtain ⟨r, f⟩ := g
  exact ⟨t + r, by grind⟩
theorem cg.ad {p a b c d : Int} (h : cg p a b) (g : cg p c d) : cg p (a + c) (b + d) := by
  obtain ⟨t, e⟩ := h
  obtain ⟨r, f⟩ := g
  exact ⟨t + r, by grind⟩
theorem cg.sb {p a b c d : Int} (h : cg p a b) (g : cg p c d) : cg p (a - c) (b - d) := by
  obtain ⟨t, e⟩ := h
  obtain ⟨r, f⟩ := g
  exact ⟨t - r, by grind⟩
theorem cg.ml {p a b c d : Int} (h : cg p a b) (g : cg p c d) : cg p (a * c) (b * d) := by
  obtain ⟨t, e⟩ := h
  obtain ⟨r, f⟩ := g
  exact ⟨t * d + b * r + p * t * r, by grind⟩
theorem cg.ng {p a b : Int} (h : cg p a b) : cg p (-a) (-b) := by
  obtain ⟨t, e⟩ := h
  exact ⟨-t, by grind⟩
theorem cg.em (p a : Int) : cg p (a % p) a := ⟨-(a / p), by have := Int.mul_ediv_add_emod a p; grind⟩
theorem cg.eq {p a b : Int} (h : cg p a b) : a % p = b % p := by
  obtain ⟨t, e⟩ := h
  rw [e, Int.add_mul_emod_self_left]
theorem cg.fr {p a b : Int} (h : a % p = b % p) : cg p a b := ((cg.em p a).sy.tr (cg.of h)).tr (cg.em p b)
theorem cg.z {p a : Int} (h : a % p = 0) : cg p a 0 := cg.fr (by rw [h, Int.zero_emod])
def row (w : Nat → Int) (i : Nat) : Nat → Int := fun j => w (i * 5 + j)
def d2 (a b : Nat → Int) (x y : Nat) : Int := b y * a x - b x * a y
def d3 (a b c : Nat → Int) (x y z : Nat) : Int := c z * d2 a b x y - c y * d2 a b x z + c x * d2 a b y z
def d4 (a b c d : Nat → Int) (x y z t : Nat) : Int := d t * d3 a b c x y z - d z * d3 a b c x y t + d y * d3 a b c x z t - d x * d3 a b c y z t
section DETS
variable {p : Int} {a b c d a' b' c' d' : Nat → Int} {x y z t : Nat}
theorem d2_cg (hx : x < 5) (hy : y < 5) (ha : ∀ j, j < 5 → cg p (a j) (a' j)) (hb : ∀ j, j < 5 → cg p (b j) (b' j)) : cg p (d2 a b x y) (d2 a' b' x y) :=
  ((hb y hy).ml (ha x hx)).sb ((hb x hx).ml (ha y hy))
theorem d3_cg (hx : x < 5) (hy : y < 5) (hz : z < 5) (ha : ∀ j, j < 5 → cg p (a j) (a' j)) (hb : ∀ j, j < 5 → cg p (b j) (b' j)) (hc : ∀ j, j < 5 → cg p (c j) (c' j)) : cg p (d3 a b c x y z) (d3 a' b' c' x y z) :=
  (((hc z hz).ml (d2_cg hx hy ha hb)).sb ((hc y hy).ml (d2_cg hx hz ha hb))).ad ((hc x hx).ml (d2_cg hy hz ha hb))
theorem d4_cg (hx : x < 5) (hy : y < 5) (hz : z < 5) (ht : t < 5) (ha : ∀ j, j < 5 → cg p (a j) (a' j)) (hb : ∀ j, j < 5 → cg p (b j) (b' j)) (hc : ∀ j, j < 5 → cg p (c j) (c' j)) (hd : ∀ j, j < 5 → cg p (d j) (d' j)) : cg p (d4 a b c d x y z t) (d4 a' b' c' d' x y z t) :=
  ((((hd t ht).ml (d3_cg hx hy hz ha hb hc)).sb ((hd z hz).ml (d3_cg hx hy ht ha hb hc))).ad ((hd y hy).ml (d3_cg hx hz ht ha hb hc))).sb ((hd x hx).ml (d3_cg hy hz ht ha hb hc))
theorem el2 (h1 : b x = 0) : d2 a b x y = a x * b y := by unfold d2; rw [h1]; grind
theorem el3 (h1 : b x = 0) (h2 : c x = 0) : d3 a b c x y z = a x * d2 b c y z := by unfold d3 d2; rw [h1, h2]; grind
theorem el4 (h1 : b x = 0) (h2 : c x = 0) (h3 : d x = 0) : d4 a b c d x y z t = a x * d3 b c d y z t := by unfold d4 d3 d2; rw [h1, h2, h3]; grind
theorem ad2 (f : Int) : d2 a (fun j => b j + f * a j) x y = d2 a b x y := by unfold d2; grind
theorem ad3 (f g : Int) : d3 a (fun j => b j + f * a j) (fun j => c j + g * a j) x y z = d3 a b c x y z := by unfold d3 d2; grind
theorem ad4 (f g h : Int) : d4 a (fun j => b j + f * a j) (fun j => c j + g * a j) (fun j => d j + h * a j) x y z t = d4 a b c d x y z t := by unfold d4 d3 d2; grind
theorem sw2 : d2 b a x y = -d2 a b x y := by unfold d2; grind
theorem sw3a : d3 b a c x y z = -d3 a b c x y z := by unfold d3 d2; grind
theorem sw3b : d3 c b a x y z = -d3 a b c x y z := by unfold d3 d2; grind
theorem sw4a : d4 b a c d x y z t = -d4 a b c d x y z t := by unfold d4 d3 d2; grind
theorem sw4b : d4 c b a d x y z t = -d4 a b c d x y z t := by unfold d4 d3 d2; grind
theorem sw4c : d4 d b c a x y z t = -d4 a b c d x y z t := by unfold d4 d3 d2; grind
theorem ze2 (h0 : a x = 0) (h1 : b x = 0) : d2 a b x y = 0 := by rw [el2 h1, h0, Int.zero_mul]
theorem ze3 (h0 : a x = 0) (h1 : b x = 0) (h2 : c x = 0) : d3 a b c x y z = 0 := by rw [el3 h1 h2, h0, Int.zero_mul]
theorem ze4 (h0 : a x = 0) (h1 : b x = 0) (h2 : c x = 0) (h3 : d x = 0) : d4 a b c d x y z t = 0 := by rw [el4 h1 h2 h3, h0, Int.zero_mul]
end DETS
/-- the determinant of the k rows and columns from c on -/
def td (w : Nat → Int) (c : Nat) : Nat → Int
  | 0 => 1
  | 1 => row w c c
  | 2 => d2 (row w c) (row w (c + 1)) c (c + 1)
  | 3 => d3 (row w c) (row w (c + 1)) (row w (c + 2)) c (c + 1) (c + 2)
  | _ => d4 (row w c) (row w (c + 1)) (row w (c + 2)) (row w (c + 3)) c (c + 1) (c + 2) (c + 3)
end
section
set_option maxRecDepth 100000
abbrev vwCl : List vw_C := [(RX0, TX0, 6), (RX1, TX1, 3)]
theorem va_D_cg {A : Nat → Prop} {ws ws' : va_W} (h : ws.map Prod.fst = ws'.map Prod.fst) (hD : va_D A ws) : va_D A ws' := by
  have key : ∀ (k : Nat) (q : Nat × va_E), ws'[k]? = some q → ∃ q0 : Nat × va_E, ws[k]? = some q0 ∧ q0.1 = q.1 := by
    intro k q hk
    have h1 : (ws'.map Prod.fst)[k]? = some q.1 := by rw [List.getElem?_map, hk]; rfl
    rw [← h, List.getElem?_map] at h1
    cases hq : ws[k]? with
    | none => rw [hq] at h1; cases h1
    | some q0 => rw [hq] at h1; exact ⟨q0, rfl, Option.some.inj h1⟩
  refine ⟨fun i j p q hp hq e => ?_, fun k q hk => ?_⟩
  · obtain ⟨p0, g1, g2⟩ := key i p hp
    obtain ⟨q0, g3, g4⟩ := key j q hq
    exact hD.1 i j p0 q0 g1 g3 (by rw [g2, g4, e])
  · obtain ⟨q0, g1, g2⟩ := key k q hk
    rw [← g2]
    exact hD.2 k q0 g1
abbrev w0 (a : Nat → Nat) (ca : Nat → ClassId) (z : Nat → Int) (pr : Int) (w : Nat → Int) (v : Nat → Int) (q : Nat → Int) (u : Nat → Int) : va_W := [(a 0, .inr (0, [.ref (a 1), .int (iI pr), .ref (a 2), .ref (a 3), .ref (a 4), .ref (a 5)])), (a 1, .inl (ca 1, 20, .inl fun j => iI (z j))), (a 2, .inl (ca 2, 20, .inl fun j => iI (w j))), (a 3, .inl (ca 3, 5, .inl fun j => iI (v j))), (a 4, .inl (ca 4, 5, .inl fun j => iI (q j))), (a 5, .inl (ca 5, 5, .inl fun j => iI (u j)))]
abbrev ty0 (ca : Nat → ClassId) : List (ClassId × FieldType) := [(ca 1, .byte), (ca 2, .int), (ca 3, .int), (ca 4, .int), (ca 5, .int)]
def I0 (D : va_G) (A : Nat → Prop) (s : State) (a : Nat → Nat) (ca : Nat → ClassId) (z : Nat → Int) (pr : Int) (w : Nat → Int) (v : Nat → Int) (q : Nat → Int) (u : Nat → Int) (H : Heap) (locs : List Loc) : Prop := va_P D vwCl (w0 a ca z pr w v q u) H ∧ va_D A (w0 a ca z pr w v q u) ∧ va_S A s.heap H locs ∧ va_K D vwCl (ty0 ca) s
theorem I0.cg {D : va_G} {A : Nat → Prop} {s : State} {a : Nat → Nat} {ca : Nat → ClassId} {z : Nat → Int} {pr : Int} {w : Nat → Int} {v : Nat → Int} {q : Nat → Int} {u : Nat → Int} {z' : Nat → Int} {w' : Nat → Int} {v' : Nat → Int} {q' : Nat → Int} {u' : Nat → Int} {H : Heap} {locs : List Loc} (hI : I0 D A s a ca z pr w v q u H locs) (hz : ∀ j, j < 20 → z j = z' j) (hw : ∀ j, j < 20 → w j = w' j) (hv : ∀ j, j < 5 → v j = v' j) (hq : ∀ j, j < 5 → q j = q' j) (hu : ∀ j, j < 5 → u j = u' j) : I0 D A s a ca z' pr w' v' q' u' H locs := by
  obtain ⟨hP, hD, hS, hK⟩ := hI
  refine ⟨fun k x hk => ?_, va_D_cg (ws := w0 a ca z pr w v q u) rfl hD, hS, hK⟩
  match k, hk with
  | 0, hk => cases hk; exact hP 0 _ rfl
  | 1, hk =>
    cases hk
    have h := hP 1 _ rfl
    show H[a 1]? = some (vp_cell (ca 1) (20, .inl fun j => iI (z' j)))
    rw [← arr_cg (ca 1) hz]
    exact h
  | 2, hk =>
    cases hk
    have h := hP 2 _ rfl
    show H[a 2]? = some (vp_cell (ca 2) (20, .inl fun j => iI (w' j)))
    rw [← arr_cg (ca 2) hw]
    exact h
  | 3, hk =>
    cases hk
    have h := hP 3 _ rfl
    show H[a 3]? = some (vp_cell (ca 3) (5, .inl fun j => iI (v' j)))
    rw [← arr_cg (ca 3) hv]
    exact h
  | 4, hk =>
    cases hk
    have h := hP 4 _ rfl
    show H[a 4]? = some (vp_cell (ca 4) (5, .inl fun j => iI (q' j)))
    rw [← arr_cg (ca 4) hq]
    exact h
  | 5, hk =>
    cases hk
    have h := hP 5 _ rfl
    show H[a 5]? = some (vp_cell (ca 5) (5, .inl fun j => iI (u' j)))
    rw [← arr_cg (ca 5) hu]
    exact h
  | k + 6, hk => cases hk
theorem I0.cz {D : va_G} {A : Nat → Prop} {s : State} {a : Nat → Nat} {ca : Nat → ClassId} {z : Nat → Int} {pr : Int} {w : Nat → Int} {v : Nat → Int} {q : Nat → Int} {u : Nat → Int} {H : Heap} {locs : List Loc} (hI : I0 D A s a ca z pr w v q u H locs) (z' : Nat → Int) (h : ∀ j, j < 20 → z j = z' j) : I0 D A s a ca z' pr w v q u H locs := hI.cg h (fun _ _ => rfl) (fun _ _ => rfl) (fun _ _ => rfl) (fun _ _ => rfl)
theorem I0.cw {D : va_G} {A : Nat → Prop} {s : State} {a : Nat → Nat} {ca : Nat → ClassId} {z : Nat → Int} {pr : Int} {w : Nat → Int} {v : Nat → Int} {q : Nat → Int} {u : Nat → Int} {H : Heap} {locs : List Loc} (hI : I0 D A s a ca z pr w v q u H locs) (w' : Nat → Int) (h : ∀ j, j < 20 → w j = w' j) : I0 D A s a ca z pr w' v q u H locs := hI.cg (fun _ _ => rfl) h (fun _ _ => rfl) (fun _ _ => rfl) (fun _ _ => rfl)
theorem I0.cv {D : va_G} {A : Nat → Prop} {s : State} {a : Nat → Nat} {ca : Nat → ClassId} {z : Nat → Int} {pr : Int} {w : Nat → Int} {v : Nat → Int} {q : Nat → Int} {u : Nat → Int} {H : Heap} {locs : List Loc} (hI : I0 D A s a ca z pr w v q u H locs) (v' : Nat → Int) (h : ∀ j, j < 5 → v j = v' j) : I0 D A s a ca z pr w v' q u H locs := hI.cg (fun _ _ => rfl) (fun _ _ => rfl) h (fun _ _ => rfl) (fun _ _ => rfl)
theorem I0.cq {D : va_G} {A : Nat → Prop} {s : State} {a : Nat → Nat} {ca : Nat → ClassId} {z : Nat → Int} {pr : Int} {w : Nat → Int} {v : Nat → Int} {q : Nat → Int} {u : Nat → Int} {H : Heap} {locs : List Loc} (hI : I0 D A s a ca z pr w v q u H locs) (q' : Nat → Int) (h : ∀ j, j < 5 → q j = q' j) : I0 D A s a ca z pr w v q' u H locs := hI.cg (fun _ _ => rfl) (fun _ _ => rfl) (fun _ _ => rfl) h (fun _ _ => rfl)
theorem I0.cu {D : va_G} {A : Nat → Prop} {s : State} {a : Nat → Nat} {ca : Nat → ClassId} {z : Nat → Int} {pr : Int} {w : Nat → Int} {v : Nat → Int} {q : Nat → Int} {u : Nat → Int} {H : Heap} {locs : List Loc} (hI : I0 D A s a ca z pr w v q u H locs) (u' : Nat → Int) (h : ∀ j, j < 5 → u j = u' j) : I0 D A s a ca z pr w v q u' H locs := hI.cg (fun _ _ => rfl) (fun _ _ => rfl) (fun _ _ => rfl) (fun _ _ => rfl) h
section WX0
variable {p : Program} {l : Launch} {e : Env} {R : Room} {s : State} {m : MethodId} {args : Array Value} {below : List Frame} {meth : Method} {c : Code} {H : Heap} {locs : List Loc} {cells slots : Nat} {Q : State → Prop}
variable {cc : ByteArray} {pc nL : Nat} {ls : Array Slot} {rest : List Value} {D : va_G} {A : Nat → Prop} {a : Nat → Nat} {ca : Nat → ClassId} {z : Nat → Int} {pr : Int} {w : Nat → Int} {v : Nat → Int} {q : Nat → Int} {u : Nat → Int}
theorem g0_num (C : CallFix p m c cc nL s args lw_all RX0) (hI : I0 D A s a ca z pr w v q u H locs) (hdg : decode cc pc = .ok (.getfield 7, 3)) (k9 : W p l e R s m args below meth c H locs cells slots Q (F0 m (pc + 3) ls (.ref (a 1) :: rest))) : W p l e R s m args below meth c H locs cells slots Q (F0 m pc ls (.ref (a 0) :: rest)) :=
  va_get (D := D) (ci := 0) (v := .ref (a 1)) (C := RX0) (T := TX0) (N := 6) C.1 C.2.1 C.2.2.2.2 in_X0 C.2.2.2.1 hI.2.2.2 hI.1 0 rfl rfl 0 (by decide) (C.2.2.2.2 _ q37) (fun _ h9 => h9) rfl hdg k9
theorem g0_prime (C : CallFix p m c cc nL s args lw_all RX0) (hI : I0 D A s a ca z pr w v q u H locs) (hdg : decode cc pc = .ok (.getfield 34, 3)) (k9 : W p l e R s m args below meth c H locs cells slots Q (F0 m (pc + 3) ls (.int (iI pr) :: rest))) : W p l e R s m args below meth c H locs cells slots Q (F0 m pc ls (.ref (a 0) :: rest)) :=
  va_get (D := D) (ci := 0) (v := .int (iI pr)) (C := RX0) (T := TX0) (N := 6) C.1 C.2.1 C.2.2.2.2 in_X0 C.2.2.2.1 hI.2.2.2 hI.1 0 rfl rfl 1 (by decide) (C.2.2.2.2 _ q38) (fun _ h9 => h9) rfl hdg k9
theorem p0_prime (C : CallFix p m c cc nL s args lw_all RX0) (hI : I0 D A s a ca z pr w v q u H locs) {b : Int} (hdg : decode cc pc = .ok (.putfield 34, 3)) (k9 : ∀ (H1 : Heap) (locs1 : List Loc), I0 D A s a ca z b w v q u H1 locs1 → W p l e R s m args below meth c H1 locs1 cells slots Q (F0 m (pc + 3) ls rest)) : W p l e R s m args below meth c H locs cells slots Q (F0 m pc ls (.int (iI b) :: .ref (a 0) :: rest)) :=
  va_put (D := D) (ci := 0) (v := .int (iI b)) (ty := .int) (C := RX0) (T := TX0) (N := 6) C.1 C.2.1 C.2.2.2.2 in_X0 tyX0 tyX0_ok nmX0 C.2.2.2.1 hI.2.2.2 hI.1 hI.2.1 hI.2.2.1 0 rfl rfl 1 (by decide) (C.2.2.2.2 _ q38) (fun _ h9 => h9) rfl (by decide +kernel) rfl rfl (Nat.le_of_ble_eq_true rfl) hdg (fun H1 locs1 hP hD hS => k9 H1 locs1 ⟨hP, hD, hS, hI.2.2.2⟩)
theorem g0_work (C : CallFix p m c cc nL s args lw_all RX0) (hI : I0 D A s a ca z pr w v q u H locs) (hdg : decode cc pc = .ok (.getfield 13, 3)) (k9 : W p l e R s m args below meth c H locs cells slots Q (F0 m (pc + 3) ls (.ref (a 2) :: rest))) : W p l e R s m args below meth c H locs cells slots Q (F0 m pc ls (.ref (a 0) :: rest)) :=
  va_get (D := D) (ci := 0) (v := .ref (a 2)) (C := RX0) (T := TX0) (N := 6) C.1 C.2.1 C.2.2.2.2 in_X0 C.2.2.2.1 hI.2.2.2 hI.1 0 rfl rfl 2 (by decide) (C.2.2.2.2 _ q39) (fun _ h9 => h9) rfl hdg k9
theorem g0_vals (C : CallFix p m c cc nL s args lw_all RX0) (hI : I0 D A s a ca z pr w v q u H locs) (hdg : decode cc pc = .ok (.getfield 17, 3)) (k9 : W p l e R s m args below meth c H locs cells slots Q (F0 m (pc + 3) ls (.ref (a 3) :: rest))) : W p l e R s m args below meth c H locs cells slots Q (F0 m pc ls (.ref (a 0) :: rest)) :=
  va_get (D := D) (ci := 0) (v := .ref (a 3)) (C := RX0) (T := TX0) (N := 6) C.1 C.2.1 C.2.2.2.2 in_X0 C.2.2.2.1 hI.2.2.2 hI.1 0 rfl rfl 3 (by decide) (C.2.2.2.2 _ q40) (fun _ h9 => h9) rfl hdg k9
theorem g0_prod (C : CallFix p m c cc nL s args lw_all RX0) (hI : I0 D A s a ca z pr w v q u H locs) (hdg : decode cc pc = .ok (.getfield 20, 3)) (k9 : W p l e R s m args below meth c H locs cells slots Q (F0 m (pc + 3) ls (.ref (a 4) :: rest))) : W p l e R s m args below meth c H locs cells slots Q (F0 m pc ls (.ref (a 0) :: rest)) :=
  va_get (D := D) (ci := 0) (v := .ref (a 4)) (C := RX0) (T := TX0) (N := 6) C.1 C.2.1 C.2.2.2.2 in_X0 C.2.2.2.1 hI.2.2.2 hI.1 0 rfl rfl 4 (by decide) (C.2.2.2.2 _ q41) (fun _ h9 => h9) rfl hdg k9
theorem g0_sum (C : CallFix p m c cc nL s args lw_all RX0) (hI : I0 D A s a ca z pr w v q u H locs) (hdg : decode cc pc = .ok (.getfield 23, 3)) (k9 : W p l e R s m args below meth c H locs cells slots Q (F0 m (pc + 3) ls (.ref (a 5) :: rest))) : W p l e R s m args below meth c H locs cells slots Q (F0 m pc ls (.ref (a 0) :: rest)) :=
  va_get (D := D) (ci := 0) (v := .ref (a 5)) (C := RX0) (T := TX0) (N := 6) C.1 C.2.1 C.2.2.2.2 in_X0 C.2.2.2.1 hI.2.2.2 hI.1 0 rfl rfl 5 (by decide) (C.2.2.2.2 _ q42) (fun _ h9 => h9) rfl hdg k9
theorem l0_z (C : CallFix p m c cc nL s args lw_all RX0) (hI : I0 D A s a ca z pr w v q u H locs) {t0 : Int} (n : Nat) (hn : t0 = (n : Int)) (hlt : n < 20) (hdg : decode cc pc = .ok (.baload, 1)) (k9 : W p l e R s m args below meth c H locs cells slots Q (F0 m (pc + 1) ls (.int (iI (z n)) :: rest))) : W p l e R s m args below meth c H locs cells slots Q (F0 m pc ls (.int (iI t0) :: .ref (a 1) :: rest)) := by
  subst hn
  refine va_bald C.1 C.2.1 hI.2.2.2 hI.1 1 0 rfl rfl (iI_in hlt (by decide)) hdg ?_
  rw [iI_cl (by omega)]
  exact k9
theorem s0_z (C : CallFix p m c cc nL s args lw_all RX0) (hI : I0 D A s a ca z pr w v q u H locs) {t0 b : Int} (n : Nat) (hn : t0 = (n : Int)) (hlt : n < 20) (hbb : -128 ≤ b ∧ b < 128) (hdg : decode cc pc = .ok (.bastore, 1)) (k9 : ∀ (H1 : Heap) (locs1 : List Loc), I0 D A s a ca (up z n b) pr w v q u H1 locs1 → W p l e R s m args below meth c H1 locs1 cells slots Q (F0 m (pc + 1) ls rest)) : W p l e R s m args below meth c H locs cells slots Q (F0 m pc ls (.int (iI b) :: .int (iI t0) :: .ref (a 1) :: rest)) := by
  subst hn
  refine va_bast C.1 C.2.1 hI.2.2.2 hI.1 hI.2.1 hI.2.2.1 1 0 rfl rfl (iI_in hlt (by decide)) hdg (fun H1 locs1 hP hD hS => ?_)
  rw [iI_nar hbb, iI_cl (by omega), up_upd] at hP hD
  exact k9 H1 locs1 ⟨hP, hD, hS, hI.2.2.2⟩
theorem l0_w (C : CallFix p m c cc nL s args lw_all RX0) (hI : I0 D A s a ca z pr w v q u H locs) {t0 : Int} (n : Nat) (hn : t0 = (n : Int)) (hlt : n < 20) (hdg : decode cc pc = .ok (.iaload, 1)) (k9 : W p l e R s m args below meth c H locs cells slots Q (F0 m (pc + 1) ls (.int (iI (w n)) :: rest))) : W p l e R s m args below meth c H locs cells slots Q (F0 m pc ls (.int (iI t0) :: .ref (a 2) :: rest)) := by
  subst hn
  refine va_iald C.1 C.2.1 hI.2.2.2 hI.1 2 1 rfl rfl (iI_in hlt (by decide)) hdg ?_
  rw [iI_cl (by omega)]
  exact k9
theorem s0_w (C : CallFix p m c cc nL s args lw_all RX0) (hI : I0 D A s a ca z pr w v q u H locs) {t0 b : Int} (n : Nat) (hn : t0 = (n : Int)) (hlt : n < 20) (hdg : decode cc pc = .ok (.iastore, 1)) (k9 : ∀ (H1 : Heap) (locs1 : List Loc), I0 D A s a ca z pr (up w n b) v q u H1 locs1 → W p l e R s m args below meth c H1 locs1 cells slots Q (F0 m (pc + 1) ls rest)) : W p l e R s m args below meth c H locs cells slots Q (F0 m pc ls (.int (iI b) :: .int (iI t0) :: .ref (a 2) :: rest)) := by
  subst hn
  refine va_iast C.1 C.2.1 hI.2.2.2 hI.1 hI.2.1 hI.2.2.1 2 1 rfl rfl (iI_in hlt (by decide)) hdg (fun H1 locs1 hP hD hS => ?_)
  rw [iI_cl (by omega), up_upd] at hP hD
  exact k9 H1 locs1 ⟨hP, hD, hS, hI.2.2.2⟩
theorem l0_v (C : CallFix p m c cc nL s args lw_all RX0) (hI : I0 D A s a ca z pr w v q u H locs) {t0 : Int} (n : Nat) (hn : t0 = (n : Int)) (hlt : n < 5) (hdg : decode cc pc = .ok (.iaload, 1)) (k9 : W p l e R s m args below meth c H locs cells slots Q (F0 m (pc + 1) ls (.int (iI (v n)) :: rest))) : W p l e R s m args below meth c H locs cells slots Q (F0 m pc ls (.int (iI t0) :: .ref (a 3) :: rest)) := by
  subst hn
  refine va_iald C.1 C.2.1 hI.2.2.2 hI.1 3 2 rfl rfl (iI_in hlt (by decide)) hdg ?_
  rw [iI_cl (by omega)]
  exact k9
theorem s0_v (C : CallFix p m c cc nL s args lw_all RX0) (hI : I0 D A s a ca z pr w v q u H locs) {t0 b : Int} (n : Nat) (hn : t0 = (n : Int)) (hlt : n < 5) (hdg : decode cc pc = .ok (.iastore, 1)) (k9 : ∀ (H1 : Heap) (locs1 : List Loc), I0 D A s a ca z pr w (up v n b) q u H1 locs1 → W p l e R s m args below meth c H1 locs1 cells slots Q (F0 m (pc + 1) ls rest)) : W p l e R s m args below meth c H locs cells slots Q (F0 m pc ls (.int (iI b) :: .int (iI t0) :: .ref (a 3) :: rest)) := by
  subst hn
  refine va_iast C.1 C.2.1 hI.2.2.2 hI.1 hI.2.1 hI.2.2.1 3 2 rfl rfl (iI_in hlt (by decide)) hdg (fun H1 locs1 hP hD hS => ?_)
  rw [iI_cl (by omega), up_upd] at hP hD
  exact k9 H1 locs1 ⟨hP, hD, hS, hI.2.2.2⟩
theorem l0_q (C : CallFix p m c cc nL s args lw_all RX0) (hI : I0 D A s a ca z pr w v q u H locs) {t0 : Int} (n : Nat) (hn : t0 = (n : Int)) (hlt : n < 5) (hdg : decode cc pc = .ok (.iaload, 1)) (k9 : W p l e R s m args below meth c H locs cells slots Q (F0 m (pc + 1) ls (.int (iI (q n)) :: rest))) : W p l e R s m args below meth c H locs cells slots Q (F0 m pc ls (.int (iI t0) :: .ref (a 4) :: rest)) := by
  subst hn
  refine va_iald C.1 C.2.1 hI.2.2.2 hI.1 4 3 rfl rfl (iI_in hlt (by decide)) hdg ?_
  rw [iI_cl (by omega)]
  exact k9
theorem s0_q (C : CallFix p m c cc nL s args lw_all RX0) (hI : I0 D A s a ca z pr w v q u H locs) {t0 b : Int} (n : Nat) (hn : t0 = (n : Int)) (hlt : n < 5) (hdg : decode cc pc = .ok (.iastore, 1)) (k9 : ∀ (H1 : Heap) (locs1 : List Loc), I0 D A s a ca z pr w v (up q n b) u H1 locs1 → W p l e R s m args below meth c H1 locs1 cells slots Q (F0 m (pc + 1) ls rest)) : W p l e R s m args below meth c H locs cells slots Q (F0 m pc ls (.int (iI b) :: .int (iI t0) :: .ref (a 4) :: rest)) := by
  subst hn
  refine va_iast C.1 C.2.1 hI.2.2.2 hI.1 hI.2.1 hI.2.2.1 4 3 rfl rfl (iI_in hlt (by decide)) hdg (fun H1 locs1 hP hD hS => ?_)
  rw [iI_cl (by omega), up_upd] at hP hD
  exact k9 H1 locs1 ⟨hP, hD, hS, hI.2.2.2⟩
theorem l0_u (C : CallFix p m c cc nL s args lw_all RX0) (hI : I0 D A s a ca z pr w v q u H locs) {t0 : Int} (n : Nat) (hn : t0 = (n : Int)) (hlt : n < 5) (hdg : decode cc pc = .ok (.iaload, 1)) (k9 : W p l e R s m args below meth c H locs cells slots Q (F0 m (pc + 1) ls (.int (iI (u n)) :: rest))) : W p l e R s m args below meth c H locs cells slots Q (F0 m pc ls (.int (iI t0) :: .ref (a 5) :: rest)) := by
  subst hn
  refine va_iald C.1 C.2.1 hI.2.2.2 hI.1 5 4 rfl rfl (iI_in hlt (by decide)) hdg ?_
  rw [iI_cl (by omega)]
  exact k9
theorem s0_u (C : CallFix p m c cc nL s args lw_all RX0) (hI : I0 D A s a ca z pr w v q u H locs) {t0 b : Int} (n : Nat) (hn : t0 = (n : Int)) (hlt : n < 5) (hdg : decode cc pc = .ok (.iastore, 1)) (k9 : ∀ (H1 : Heap) (locs1 : List Loc), I0 D A s a ca z pr w v q (up u n b) H1 locs1 → W p l e R s m args below meth c H1 locs1 cells slots Q (F0 m (pc + 1) ls rest)) : W p l e R s m args below meth c H locs cells slots Q (F0 m pc ls (.int (iI b) :: .int (iI t0) :: .ref (a 5) :: rest)) := by
  subst hn
  refine va_iast C.1 C.2.1 hI.2.2.2 hI.1 hI.2.1 hI.2.2.1 5 4 rfl rfl (iI_in hlt (by decide)) hdg (fun H1 locs1 hP hD hS => ?_)
  rw [iI_cl (by omega), up_upd] at hP hD
  exact k9 H1 locs1 ⟨hP, hD, hS, hI.2.2.2⟩
end WX0
abbrev DS0 : Type := (Nat → Int) × Int × (Nat → Int) × (Nat → Int) × (Nat → Int) × (Nat → Int)
abbrev P0 (D : va_G) (a : Nat → Nat) (ca : Nat → ClassId) (sz : Nat) (As : List Value) (z : Nat → Int) (pr : Int) (w : Nat → Int) (v : Nat → Int) (q : Nat → Int) (u : Nat → Int) : Array Value → State → Prop := va_Pc (.ref (a 0) :: As) (fun U => U.heap.size = sz ∧ va_P D vwCl (w0 a ca z pr w v q u) U.heap ∧ va_K D vwCl (ty0 ca) U ∧ va_D (fun _ => True) (w0 a ca z pr w v q u))
abbrev B0 (D : va_G) (a : Nat → Nat) (ca : Nat → ClassId) (A : Nat → Prop) (S : DS0) (t9 : State) : Prop := va_P D vwCl (w0 a ca S.1 S.2.1 S.2.2.1 S.2.2.2.1 S.2.2.2.2.1 S.2.2.2.2.2) t9.heap ∧ va_K D vwCl (ty0 ca) t9 ∧ va_D A (w0 a ca S.1 S.2.1 S.2.2.1 S.2.2.2.1 S.2.2.2.2.1 S.2.2.2.2.2)
def M0i (l : Launch) (y : MethodName) (bytes : ByteArray) (maxL : Nat) (ret : Option FieldType) (rm : Room) (As : List Value) (z : Nat → Int) (pr : Int) (w : Nat → Int) (v : Nat → Int) (q : Nat → Int) (u : Nat → Int) (post : Int → (Nat → Int) → Int → (Nat → Int) → (Nat → Int) → (Nat → Int) → (Nat → Int) → Prop) : Prop := ∀ (D : va_G) (a : Nat → Nat) (ca : Nat → ClassId) (sz : Nat), Met l y (ws_ y bytes maxL ret) rm (P0 D a ca sz As z pr w v q u) (va_Qi (fun (r9 : Int32) (S : Int × DS0) => r9 = iI S.1 ∧ post S.1 S.2.1 S.2.2.1 S.2.2.2.1 S.2.2.2.2.1 S.2.2.2.2.2.1 S.2.2.2.2.2.2) (fun S t9 => B0 D a ca (va_A (w0 a ca z pr w v q u) sz) S.2 t9) (va_A (w0 a ca z pr w v q u) sz)) 0 0 (va_A (w0 a ca z pr w v q u) sz)
def E0i (D : va_G) (a : Nat → Nat) (ca : Nat → ClassId) (A : Nat → Prop) (post : Int → (Nat → Int) → Int → (Nat → Int) → (Nat → Int) → (Nat → Int) → (Nat → Int) → Prop) (below : List Frame) (args : Array Value) (s : State) : State → Prop := MQ below (va_Qi (fun (r9 : Int32) (S : Int × DS0) => r9 = iI S.1 ∧ post S.1 S.2.1 S.2.2.1 S.2.2.2.1 S.2.2.2.2.1 S.2.2.2.2.2.1 S.2.2.2.2.2.2) (fun S t9 => B0 D a ca A S.2 t9) A) args s 0 0 A
theorem M0i.of {l : Launch} {y : MethodName} {bytes : ByteArray} {maxL : Nat} {ret : Option FieldType} {rm : Room} {As : List Value} {z : Nat → Int} {pr : Int} {w : Nat → Int} {v : Nat → Int} {q : Nat → Int} {u : Nat → Int} {post : Int → (Nat → Int) → Int → (Nat → Int) → (Nat → Int) → (Nat → Int) → (Nat → Int) → Prop} (hy : plainName y.cls = true) (hcl : y.cls = RX0) (hlen : ∀ k9 : Nat, (lg_sl (.ref k9 :: As)).length ≤ maxL)
    (body : ∀ (p : Program) (e : Env) (s : State) (m : MethodId) (args : Array Value) (below : List Frame) (meth : Method) (c : Code) (D : va_G) (a : Nat → Nat) (ca : Nat → ClassId) (A : Nat → Prop) (ls : Array Slot), CallFix p m c bytes maxL s args lw_all RX0 → meth.sig.returnType = ret → meth.locks = false → (∀ q9 : Nat, s.heap.size ≤ q9 → A q9) → lv_has ls maxL (lv_args 0 (.ref (a 0) :: As)) → I0 D A s a ca z pr w v q u s.heap [] →
      W p l e rm s m args below meth c s.heap [] 0 0 (E0i D a ca A post below args s) (F0 m 0 ls [])) : M0i l y bytes maxL ret rm As z pr w v q u post := by
  intro D a ca sz
  refine Met.ofW (cc := bytes) (maxL := maxL) (ret := ret) hy rfl ?_
  intro p e s m args below meth c s₁ B hml hv
  obtain ⟨rfl, hsz, hP, hK, hD0⟩ := hv
  have hts := atoms_spec (ws := ws_ y bytes maxL ret) B.pre
  have hts : ∀ w ∈ lw_all, w.before _ s = true := fun w h => hts w (List.mem_cons_of_mem _ h)
  have hown : s.vm.findClass RX0 = some m.cls := hcl ▸ findClass_of_methodNamed B.named
  subst hsz
  have hD := hD0.self (sz := s.heap.size)
  generalize hAe : va_A (w0 a ca z pr w v q u) s.heap.size = A at hD ⊢
  have hA : ∀ q9 : Nat, s.heap.size ≤ q9 → A q9 := fun q9 h => by rw [← hAe]; exact Or.inr h
  have hl := lv_entry (.ref (a 0) :: As) (n := maxL) (hlen (a 0))
  rw [lg_entry_eq]
  generalize (lg_sl (.ref (a 0) :: As) ++ List.replicate (maxL - (lg_sl (.ref (a 0) :: As)).length) Slot.unset).toArray = ls at hl ⊢
  exact body p e s m _ below meth c D a ca A ls ⟨B.exec, B.bytes, hml, hown, hts⟩ B.returns B.notSynchronized hA hl ⟨hP, hD, va_S.rf, hK⟩
section EX0i
variable {p : Program} {l : Launch} {e : Env} {R : Room} {s : State} {m : MethodId} {args : Array Value} {below : List Frame} {meth : Method} {c : Code} {H : Heap} {locs : List Loc} {cells slots : Nat} {Q : State → Prop}
variable {cc : ByteArray} {pc nL : Nat} {ls : Array Slot} {rest st0 : List Value} {D : va_G} {A : Nat → Prop} {a : Nat → Nat} {ca : Nat → ClassId} {z : Nat → Int} {pr : Int} {w : Nat → Int} {v : Nat → Int} {q : Nat → Int} {u : Nat → Int} {post : Int → (Nat → Int) → Int → (Nat → Int) → (Nat → Int) → (Nat → Int) → (Nat → Int) → Prop}
theorem r0_i (C : CallFix p m c cc nL s args lw_all RX0) (hr : meth.sig.returnType = some .int) (hlocks : meth.locks = false) (hI : I0 D A s a ca z pr w v q u H locs) {i : Int} (hp : post i z pr w v q u) (hdg : decode cc pc = .ok (.ireturn, 1)) : W p l e R s m args below meth c H locs 0 0 (E0i D a ca A post below args s) (F0 m pc ls [.int (iI i)]) :=
  W.iret C.1 C.2.1 hr (fun t9 ht hW => ⟨⟨iI i, (i, (z, pr, w, v, q, u)), rfl, ⟨rfl, hp⟩, by rw [ht]; exact hI.1, va_K.moved hW.alike hI.2.2.2, hI.2.1⟩, hI.2.2.1.F ht⟩) hI.2.2.1.2.2 hdg hlocks
theorem r0_z (C : CallFix p m c cc nL s args lw_all RX0) (hr : meth.sig.returnType = some .boolean) (hlocks : meth.locks = false) (hI : I0 D A s a ca z pr w v q u H locs) {i : Int} (hi : i = 0 ∨ i = 1) (hp : post i z pr w v q u) (hdg : decode cc pc = .ok (.ireturn, 1)) : W p l e R s m args below meth c H locs 0 0 (E0i D a ca A post below args s) (F0 m pc ls [.int (iI i)]) :=
  W.zret C.1 C.2.1 hr (by rcases hi with rfl | rfl <;> rfl) (fun t9 ht hW => ⟨⟨iI i, (i, (z, pr, w, v, q, u)), rfl, ⟨rfl, hp⟩, by rw [ht]; exact hI.1, va_K.moved hW.alike hI.2.2.2, hI.2.1⟩, hI.2.2.1.F ht⟩) hI.2.2.1.2.2 hdg hlocks
theorem c0_i {y : MethodName} {bytes : ByteArray} {maxL n index : Nat} {ret : Option FieldType} {rm : Room} {As : List Value} (C : CallFix p m c cc nL s args lw_all RX0) (hA : ∀ q9 : Nat, s.heap.size ≤ q9 → A q9) (hI : I0 D A s a ca z pr w v q u H locs) (hM : M0i l y bytes maxL ret rm As z pr w v q u post)
    (cw : CallW R s args RX0 RX0 index y bytes maxL ret (ws_ y bytes maxL ret) rm 0 0 n) (hn : As.length = n) (hsz : ls.size = nL) (hst : st0 = As.reverse ++ .ref (a 0) :: rest) (hroom : (rest.map fun v => v.category).sum ≤ 8) (hdg : decode cc pc = .ok (.invokevirtual index, 3)) (hcs : cells ≤ R.cells ∧ slots ≤ R.slots)
    (kk : ∀ (i : Int) (z1 : Nat → Int) (pr1 : Int) (w1 : Nat → Int) (v1 : Nat → Int) (q1 : Nat → Int) (u1 : Nat → Int) (H1 : Heap) (locs1 : List Loc), post i z1 pr1 w1 v1 q1 u1 → I0 D A s a ca z1 pr1 w1 v1 q1 u1 H1 locs1 → W p l e R s m args below meth c H1 locs1 cells slots Q (F0 m (pc + 3) ls (.int (iI i) :: rest))) : W p l e R s m args below meth c H locs cells slots Q (F0 m pc ls st0) := by
  obtain ⟨hP, hD, hS, hK⟩ := hI
  have hFc := va_free (wc := w0 a ca z pr w v q u) hD hS hA [0, 1, 2, 3, 4, 5] rfl
  refine va_calli (va_runV (As := As) (rest := rest) C (hM D a ca H.size) cw ⟨fun a9 U g mk q => by obtain ⟨q0, q1, qP, qK, qD⟩ := q; exact ⟨q0, q1, qP, va_K.moved (u := U) (U := U.calling g mk a9) (Vm.Alike.refl U.vm) qK, qD⟩, va_recv hK hP (ci := 0) (q0 := 0) rfl rfl, fun U hU hW => ⟨rfl, by rw [hU], by rw [hU]; exact hP, va_K.moved hW.alike hK, hD.weaken (fun _ _ _ _ => trivial)⟩⟩ rfl hn hsz hst (lv_room hroom) hdg hcs) hS (fun q9 _ h => hFc q9 h) hFc (fun r9 S t9 H1 locs1 ht hvm hw1 hB hz1 hk1 hS1 => ?_)
  obtain ⟨hP1, hK1, hD1⟩ := hB
  rw [ht] at hP1
  obtain ⟨rfl, hp⟩ := hw1
  exact kk S.1 S.2.1 S.2.2.1 S.2.2.2.1 S.2.2.2.2.1 S.2.2.2.2.2.1 S.2.2.2.2.2.2 H1 locs1 hp ⟨hP1, hD1.weaken (fun _ _ _ h => hFc _ h), hS1, hK⟩
end EX0i
def M0v (l : Launch) (y : MethodName) (bytes : ByteArray) (maxL : Nat) (ret : Option FieldType) (rm : Room) (As : List Value) (z : Nat → Int) (pr : Int) (w : Nat → Int) (v : Nat → Int) (q : Nat → Int) (u : Nat → Int) (post : (Nat → Int) → Int → (Nat → Int) → (Nat → Int) → (Nat → Int) → (Nat → Int) → Prop) : Prop := ∀ (D : va_G) (a : Nat → Nat) (ca : Nat → ClassId) (sz : Nat), Met l y (ws_ y bytes maxL ret) rm (P0 D a ca sz As z pr w v q u) (va_Qv (fun (S : DS0) => post S.1 S.2.1 S.2.2.1 S.2.2.2.1 S.2.2.2.2.1 S.2.2.2.2.2) (fun S t9 => B0 D a ca (va_A (w0 a ca z pr w v q u) sz) S t9) (va_A (w0 a ca z pr w v q u) sz)) 0 0 (va_A (w0 a ca z pr w v q u) sz)
def E0v (D : va_G) (a : Nat → Nat) (ca : Nat → ClassId) (A : Nat → Prop) (post : (Nat → Int) → Int → (Nat → Int) → (Nat → Int) → (Nat → Int) → (Nat → Int) → Prop) (below : List Frame) (args : Array Value) (s : State) : State → Prop := MQ below (va_Qv (fun (S : DS0) => post S.1 S.2.1 S.2.2.1 S.2.2.2.1 S.2.2.2.2.1 S.2.2.2.2.2) (fun S t9 => B0 D a ca A S t9) A) args s 0 0 A
theorem M0v.of {l : Launch} {y : MethodName} {bytes : ByteArray} {maxL : Nat} {ret : Option FieldType} {rm : Room} {As : List Value} {z : Nat → Int} {pr : Int} {w : Nat → Int} {v : Nat → Int} {q : Nat → Int} {u : Nat → Int} {post : (Nat → Int) → Int → (Nat → Int) → (Nat → Int) → (Nat → Int) → (Nat → Int) → Prop} (hy : plainName y.cls = true) (hcl : y.cls = RX0) (hlen : ∀ k9 : Nat, (lg_sl (.ref k9 :: As)).length ≤ maxL)
    (body : ∀ (p : Program) (e : Env) (s : State) (m : MethodId) (args : Array Value) (below : List Frame) (meth : Method) (c : Code) (D : va_G) (a : Nat → Nat) (ca : Nat → ClassId) (A : Nat → Prop) (ls : Array Slot), CallFix p m c bytes maxL s args lw_all RX0 → meth.sig.returnType = ret → meth.locks = false → (∀ q9 : Nat, s.heap.size ≤ q9 → A q9) → lv_has ls maxL (lv_args 0 (.ref (a 0) :: As)) → I0 D A s a ca z pr w v q u s.heap [] →
      W p l e rm s m args below meth c s.heap [] 0 0 (E0v D a ca A post below args s) (F0 m 0 ls [])) : M0v l y bytes maxL ret rm As z pr w v q u post := by
  intro D a ca sz
  refine Met.ofW (cc := bytes) (maxL := maxL) (ret := ret) hy rfl ?_
  intro p e s m args below meth c s₁ B hml hv
  obtain ⟨rfl, hsz, hP, hK, hD0⟩ := hv
  have hts := atoms_spec (ws := ws_ y bytes maxL ret) B.pre
  have hts : ∀ w ∈ lw_all, w.before _ s = true := fun w h => hts w (List.mem_cons_of_mem _ h)
  have hown : s.vm.findClass RX0 = some m.cls := hcl ▸ findClass_of_methodNamed B.named
  subst hsz
  have hD := hD0.self (sz := s.heap.size)
  generalize hAe : va_A (w0 a ca z pr w v q u) s.heap.size = A at hD ⊢
  have hA : ∀ q9 : Nat, s.heap.size ≤ q9 → A q9 := fun q9 h => by rw [← hAe]; exact Or.inr h
  have hl := lv_entry (.ref (a 0) :: As) (n := maxL) (hlen (a 0))
  rw [lg_entry_eq]
  generalize (lg_sl (.ref (a 0) :: As) ++ List.replicate (maxL - (lg_sl (.ref (a 0) :: As)).length) Slot.unset).toArray = ls at hl ⊢
  exact body p e s m _ below meth c D a ca A ls ⟨B.exec, B.bytes, hml, hown, hts⟩ B.returns B.notSynchronized hA hl ⟨hP, hD, va_S.rf, hK⟩
section EX0v
variable {p : Program} {l : Launch} {e : Env} {R : Room} {s : State} {m : MethodId} {args : Array Value} {below : List Frame} {meth : Method} {c : Code} {H : Heap} {locs : List Loc} {cells slots : Nat} {Q : State → Prop}
variable {cc : ByteArray} {pc nL : Nat} {ls : Array Slot} {rest st0 : List Value} {D : va_G} {A : Nat → Prop} {a : Nat → Nat} {ca : Nat → ClassId} {z : Nat → Int} {pr : Int} {w : Nat → Int} {v : Nat → Int} {q : Nat → Int} {u : Nat → Int} {post : (Nat → Int) → Int → (Nat → Int) → (Nat → Int) → (Nat → Int) → (Nat → Int) → Prop}
theorem r0_v (C : CallFix p m c cc nL s args lw_all RX0) (hr : meth.sig.returnType = none) (hlocks : meth.locks = false) (hI : I0 D A s a ca z pr w v q u H locs) (hp : post z pr w v q u) (hdg : decode cc pc = .ok (.return_, 1)) : W p l e R s m args below meth c H locs 0 0 (E0v D a ca A post below args s) (F0 m pc ls []) :=
  W.vret C.1 C.2.1 hr (fun t9 ht hW => ⟨⟨(z, pr, w, v, q, u), rfl, hp, by rw [ht]; exact hI.1, va_K.moved hW.alike hI.2.2.2, hI.2.1⟩, hI.2.2.1.F ht⟩) hI.2.2.1.2.2 hdg hlocks
theorem c0_v {y : MethodName} {bytes : ByteArray} {maxL n index : Nat} {ret : Option FieldType} {rm : Room} {As : List Value} (C : CallFix p m c cc nL s args lw_all RX0) (hA : ∀ q9 : Nat, s.heap.size ≤ q9 → A q9) (hI : I0 D A s a ca z pr w v q u H locs) (hM : M0v l y bytes maxL ret rm As z pr w v q u post)
    (cw : CallW R s args RX0 RX0 index y bytes maxL ret (ws_ y bytes maxL ret) rm 0 0 n) (hn : As.length = n) (hsz : ls.size = nL) (hst : st0 = As.reverse ++ .ref (a 0) :: rest) (hroom : (rest.map fun v => v.category).sum ≤ 8) (hdg : decode cc pc = .ok (.invokevirtual index, 3)) (hcs : cells ≤ R.cells ∧ slots ≤ R.slots)
    (kk : ∀ (z1 : Nat → Int) (pr1 : Int) (w1 : Nat → Int) (v1 : Nat → Int) (q1 : Nat → Int) (u1 : Nat → Int) (H1 : Heap) (locs1 : List Loc), post z1 pr1 w1 v1 q1 u1 → I0 D A s a ca z1 pr1 w1 v1 q1 u1 H1 locs1 → W p l e R s m args below meth c H1 locs1 cells slots Q (F0 m (pc + 3) ls rest)) : W p l e R s m args below meth c H locs cells slots Q (F0 m pc ls st0) := by
  obtain ⟨hP, hD, hS, hK⟩ := hI
  have hFc := va_free (wc := w0 a ca z pr w v q u) hD hS hA [0, 1, 2, 3, 4, 5] rfl
  refine va_callv (va_runV (As := As) (rest := rest) C (hM D a ca H.size) cw ⟨fun a9 U g mk q => by obtain ⟨q0, q1, qP, qK, qD⟩ := q; exact ⟨q0, q1, qP, va_K.moved (u := U) (U := U.calling g mk a9) (Vm.Alike.refl U.vm) qK, qD⟩, va_recv hK hP (ci := 0) (q0 := 0) rfl rfl, fun U hU hW => ⟨rfl, by rw [hU], by rw [hU]; exact hP, va_K.moved hW.alike hK, hD.weaken (fun _ _ _ _ => trivial)⟩⟩ rfl hn hsz hst (lv_room hroom) hdg hcs) hS (fun q9 _ h => hFc q9 h) hFc (fun S t9 H1 locs1 ht hvm hw1 hB hz1 hk1 hS1 => ?_)
  obtain ⟨hP1, hK1, hD1⟩ := hB
  rw [ht] at hP1
  exact kk S.1 S.2.1 S.2.2.1 S.2.2.2.1 S.2.2.2.2.1 S.2.2.2.2.2 H1 locs1 hw1 ⟨hP1, hD1.weaken (fun _ _ _ h => hFc _ h), hS1, hK⟩
end EX0v
abbrev w1 (a : Nat → Nat) (ca : Nat → ClassId) (z : Nat → Int) (kp : Nat → Int) (t : Nat → Int) : va_W := [(a 0, .inr (1, [.ref (a 1), .ref (a 2), .ref (a 3)])), (a 1, .inl (ca 1, 20, .inl fun j => iI (z j))), (a 2, .inl (ca 2, 20, .inl fun j => iI (kp j))), (a 3, .inl (ca 3, 32, .inr (.inl fun j => iL (t j))))]
abbrev ty1 (ca : Nat → ClassId) : List (ClassId × FieldType) := [(ca 1, .int), (ca 2, .int), (ca 3, .long)]
def I1 (D : va_G) (A : Nat → Prop) (s : State) (a : Nat → Nat) (ca : Nat → ClassId) (z : Nat → Int) (kp : Nat → Int) (t : Nat → Int) (H : Heap) (locs : List Loc) : Prop := va_P D vwCl (w1 a ca z kp t) H ∧ va_D A (w1 a ca z kp t) ∧ va_S A s.heap H locs ∧ va_K D vwCl (ty1 ca) s
theorem I1.cg {D : va_G} {A : Nat → Prop} {s : State} {a : Nat → Nat} {ca : Nat → ClassId} {z : Nat → Int} {kp : Nat → Int} {t : Nat → Int} {z' : Nat → Int} {kp' : Nat → Int} {t' : Nat → Int} {H : Heap} {locs : List Loc} (hI : I1 D A s a ca z kp t H locs) (hz : ∀ j, j < 20 → z j = z' j) (hkp : ∀ j, j < 20 → kp j = kp' j) (ht : ∀ j, j < 32 → t j = t' j) : I1 D A s a ca z' kp' t' H locs := by
  obtain ⟨hP, hD, hS, hK⟩ := hI
  refine ⟨fun k x hk => ?_, va_D_cg (ws := w1 a ca z kp t) rfl hD, hS, hK⟩
  match k, hk with
  | 0, hk => cases hk; exact hP 0 _ rfl
  | 1, hk =>
    cases hk
    have h := hP 1 _ rfl
    show H[a 1]? = some (vp_cell (ca 1) (20, .inl fun j => iI (z' j)))
    rw [← arr_cg (ca 1) hz]
    exact h
  | 2, hk =>
    cases hk
    have h := hP 2 _ rfl
    show H[a 2]? = some (vp_cell (ca 2) (20, .inl fun j => iI (kp' j)))
    rw [← arr_cg (ca 2) hkp]
    exact h
  | 3, hk =>
    cases hk
    have h := hP 3 _ rfl
    show H[a 3]? = some (vp_cell (ca 3) (32, .inr (.inl fun j => iL (t' j))))
    rw [← arr_cgL (ca 3) ht]
    exact h
  | k + 4, hk => cases hk
theorem I1.cz {D : va_G} {A : Nat → Prop} {s : State} {a : Nat → Nat} {ca : Nat → ClassId} {z : Nat → Int} {kp : Nat → Int} {t : Nat → Int} {H : Heap} {locs : List Loc} (hI : I1 D A s a ca z kp t H locs) (z' : Nat → Int) (h : ∀ j, j < 20 → z j = z' j) : I1 D A s a ca z' kp t H locs := hI.cg h (fun _ _ => rfl) (fun _ _ => rfl)
theorem I1.ckp {D : va_G} {A : Nat → Prop} {s : State} {a : Nat → Nat} {ca : Nat → ClassId} {z : Nat → Int} {kp : Nat → Int} {t : Nat → Int} {H : Heap} {locs : List Loc} (hI : I1 D A s a ca z kp t H locs) (kp' : Nat → Int) (h : ∀ j, j < 20 → kp j = kp' j) : I1 D A s a ca z kp' t H locs := hI.cg (fun _ _ => rfl) h (fun _ _ => rfl)
theorem I1.ct {D : va_G} {A : Nat → Prop} {s : State} {a : Nat → Nat} {ca : Nat → ClassId} {z : Nat → Int} {kp : Nat → Int} {t : Nat → Int} {H : Heap} {locs : List Loc} (hI : I1 D A s a ca z kp t H locs) (t' : Nat → Int) (h : ∀ j, j < 32 → t j = t' j) : I1 D A s a ca z kp t' H locs := hI.cg (fun _ _ => rfl) (fun _ _ => rfl) h
section WX1
variable {p : Program} {l : Launch} {e : Env} {R : Room} {s : State} {m : MethodId} {args : Array Value} {below : List Frame} {meth : Method} {c : Code} {H : Heap} {locs : List Loc} {cells slots : Nat} {Q : State → Prop}
variable {cc : ByteArray} {pc nL : Nat} {ls : Array Slot} {rest : List Value} {D : va_G} {A : Nat → Prop} {a : Nat → Nat} {ca : Nat → ClassId} {z : Nat → Int} {kp : Nat → Int} {t : Nat → Int}
theorem g1_cel (C : CallFix p m c cc nL s args lw_all RX1) (hI : I1 D A s a ca z kp t H locs) (hdg : decode cc pc = .ok (.getfield 7, 3)) (k9 : W p l e R s m args below meth c H locs cells slots Q (F0 m (pc + 3) ls (.ref (a 1) :: rest))) : W p l e R s m args below meth c H locs cells slots Q (F0 m pc ls (.ref (a 0) :: rest)) :=
  va_get (D := D) (ci := 1) (v := .ref (a 1)) (C := RX1) (T := TX1) (N := 3) C.1 C.2.1 C.2.2.2.2 in_X1 C.2.2.2.1 hI.2.2.2 hI.1 0 rfl rfl 0 (by decide) (C.2.2.2.2 _ q207) (fun _ h9 => h9) rfl hdg k9
theorem g1_kep (C : CallFix p m c cc nL s args lw_all RX1) (hI : I1 D A s a ca z kp t H locs) (hdg : decode cc pc = .ok (.getfield 13, 3)) (k9 : W p l e R s m args below meth c H locs cells slots Q (F0 m (pc + 3) ls (.ref (a 2) :: rest))) : W p l e R s m args below meth c H locs cells slots Q (F0 m pc ls (.ref (a 0) :: rest)) :=
  va_get (D := D) (ci := 1) (v := .ref (a 2)) (C := RX1) (T := TX1) (N := 3) C.1 C.2.1 C.2.2.2.2 in_X1 C.2.2.2.1 hI.2.2.2 hI.1 0 rfl rfl 1 (by decide) (C.2.2.2.2 _ q208) (fun _ h9 => h9) rfl hdg k9
theorem g1_tab (C : CallFix p m c cc nL s args lw_all RX1) (hI : I1 D A s a ca z kp t H locs) (hdg : decode cc pc = .ok (.getfield 16, 3)) (k9 : W p l e R s m args below meth c H locs cells slots Q (F0 m (pc + 3) ls (.ref (a 3) :: rest))) : W p l e R s m args below meth c H locs cells slots Q (F0 m pc ls (.ref (a 0) :: rest)) :=
  va_get (D := D) (ci := 1) (v := .ref (a 3)) (C := RX1) (T := TX1) (N := 3) C.1 C.2.1 C.2.2.2.2 in_X1 C.2.2.2.1 hI.2.2.2 hI.1 0 rfl rfl 2 (by decide) (C.2.2.2.2 _ q209) (fun _ h9 => h9) rfl hdg k9
theorem l1_z (C : CallFix p m c cc nL s args lw_all RX1) (hI : I1 D A s a ca z kp t H locs) {t0 : Int} (n : Nat) (hn : t0 = (n : Int)) (hlt : n < 20) (hdg : decode cc pc = .ok (.iaload, 1)) (k9 : W p l e R s m args below meth c H locs cells slots Q (F0 m (pc + 1) ls (.int (iI (z n)) :: rest))) : W p l e R s m args below meth c H locs cells slots Q (F0 m pc ls (.int (iI t0) :: .ref (a 1) :: rest)) := by
  subst hn
  refine va_iald C.1 C.2.1 hI.2.2.2 hI.1 1 0 rfl rfl (iI_in hlt (by decide)) hdg ?_
  rw [iI_cl (by omega)]
  exact k9
theorem s1_z (C : CallFix p m c cc nL s args lw_all RX1) (hI : I1 D A s a ca z kp t H locs) {t0 b : Int} (n : Nat) (hn : t0 = (n : Int)) (hlt : n < 20) (hdg : decode cc pc = .ok (.iastore, 1)) (k9 : ∀ (H1 : Heap) (locs1 : List Loc), I1 D A s a ca (up z n b) kp t H1 locs1 → W p l e R s m args below meth c H1 locs1 cells slots Q (F0 m (pc + 1) ls rest)) : W p l e R s m args below meth c H locs cells slots Q (F0 m pc ls (.int (iI b) :: .int (iI t0) :: .ref (a 1) :: rest)) := by
  subst hn
  refine va_iast C.1 C.2.1 hI.2.2.2 hI.1 hI.2.1 hI.2.2.1 1 0 rfl rfl (iI_in hlt (by decide)) hdg (fun H1 locs1 hP hD hS => ?_)
  rw [iI_cl (by omega), up_upd] at hP hD
  exact k9 H1 locs1 ⟨hP, hD, hS, hI.2.2.2⟩
theorem l1_kp (C : CallFix p m c cc nL s args lw_all RX1) (hI : I1 D A s a ca z kp t H locs) {t0 : Int} (n : Nat) (hn : t0 = (n : Int)) (hlt : n < 20) (hdg : decode cc pc = .ok (.iaload, 1)) (k9 : W p l e R s m args below meth c H locs cells slots Q (F0 m (pc + 1) ls (.int (iI (kp n)) :: rest))) : W p l e R s m args below meth c H locs cells slots Q (F0 m pc ls (.int (iI t0) :: .ref (a 2) :: rest)) := by
  subst hn
  refine va_iald C.1 C.2.1 hI.2.2.2 hI.1 2 1 rfl rfl (iI_in hlt (by decide)) hdg ?_
  rw [iI_cl (by omega)]
  exact k9
theorem s1_kp (C : CallFix p m c cc nL s args lw_all RX1) (hI : I1 D A s a ca z kp t H locs) {t0 b : Int} (n : Nat) (hn : t0 = (n : Int)) (hlt : n < 20) (hdg : decode cc pc = .ok (.iastore, 1)) (k9 : ∀ (H1 : Heap) (locs1 : List Loc), I1 D A s a ca z (up kp n b) t H1 locs1 → W p l e R s m args below meth c H1 locs1 cells slots Q (F0 m (pc + 1) ls rest)) : W p l e R s m args below meth c H locs cells slots Q (F0 m pc ls (.int (iI b) :: .int (iI t0) :: .ref (a 2) :: rest)) := by
  subst hn
  refine va_iast C.1 C.2.1 hI.2.2.2 hI.1 hI.2.1 hI.2.2.1 2 1 rfl rfl (iI_in hlt (by decide)) hdg (fun H1 locs1 hP hD hS => ?_)
  rw [iI_cl (by omega), up_upd] at hP hD
  exact k9 H1 locs1 ⟨hP, hD, hS, hI.2.2.2⟩
theorem l1_t (C : CallFix p m c cc nL s args lw_all RX1) (hI : I1 D A s a ca z kp t H locs) {t0 : Int} (n : Nat) (hn : t0 = (n : Int)) (hlt : n < 32) (hdg : decode cc pc = .ok (.laload, 1)) (k9 : W p l e R s m args below meth c H locs cells slots Q (F0 m (pc + 1) ls (.long (iL (t n)) :: rest))) : W p l e R s m args below meth c H locs cells slots Q (F0 m pc ls (.int (iI t0) :: .ref (a 3) :: rest)) := by
  subst hn
  refine va_lald C.1 C.2.1 hI.2.2.2 hI.1 3 2 rfl rfl (iI_in hlt (by decide)) hdg ?_
  rw [iI_cl (by omega)]
  exact k9
theorem s1_t (C : CallFix p m c cc nL s args lw_all RX1) (hI : I1 D A s a ca z kp t H locs) {t0 b : Int} (n : Nat) (hn : t0 = (n : Int)) (hlt : n < 32) (hdg : decode cc pc = .ok (.lastore, 1)) (k9 : ∀ (H1 : Heap) (locs1 : List Loc), I1 D A s a ca z kp (up t n b) H1 locs1 → W p l e R s m args below meth c H1 locs1 cells slots Q (F0 m (pc + 1) ls rest)) : W p l e R s m args below meth c H locs cells slots Q (F0 m pc ls (.long (iL b) :: .int (iI t0) :: .ref (a 3) :: rest)) := by
  subst hn
  refine va_last C.1 C.2.1 hI.2.2.2 hI.1 hI.2.1 hI.2.2.1 3 2 rfl rfl (iI_in hlt (by decide)) hdg (fun H1 locs1 hP hD hS => ?_)
  rw [iI_cl (by omega), up_updL] at hP hD
  exact k9 H1 locs1 ⟨hP, hD, hS, hI.2.2.2⟩
end WX1
abbrev DS1 : Type := (Nat → Int) × (Nat → Int) × (Nat → Int)
abbrev P1 (D : va_G) (a : Nat → Nat) (ca : Nat → ClassId) (sz : Nat) (As : List Value) (z : Nat → Int) (kp : Nat → Int) (t : Nat → Int) : Array Value → State → Prop := va_Pc (.ref (a 0) :: As) (fun U => U.heap.size = sz ∧ va_P D vwCl (w1 a ca z kp t) U.heap ∧ va_K D vwCl (ty1 ca) U ∧ va_D (fun _ => True) (w1 a ca z kp t))
abbrev B1 (D : va_G) (a : Nat → Nat) (ca : Nat → ClassId) (A : Nat → Prop) (S : DS1) (t9 : State) : Prop := va_P D vwCl (w1 a ca S.1 S.2.1 S.2.2) t9.heap ∧ va_K D vwCl (ty1 ca) t9 ∧ va_D A (w1 a ca S.1 S.2.1 S.2.2)
def M1i (l : Launch) (y : MethodName) (bytes : ByteArray) (maxL : Nat) (ret : Option FieldType) (rm : Room) (As : List Value) (z : Nat → Int) (kp : Nat → Int) (t : Nat → Int) (post : Int → (Nat → Int) → (Nat → Int) → (Nat → Int) → Prop) : Prop := ∀ (D : va_G) (a : Nat → Nat) (ca : Nat → ClassId) (sz : Nat), Met l y (ws_ y bytes maxL ret) rm (P1 D a ca sz As z kp t) (va_Qi (fun (r9 : Int32) (S : Int × DS1) => r9 = iI S.1 ∧ post S.1 S.2.1 S.2.2.1 S.2.2.2) (fun S t9 => B1 D a ca (va_A (w1 a ca z kp t) sz) S.2 t9) (va_A (w1 a ca z kp t) sz)) 0 0 (va_A (w1 a ca z kp t) sz)
def E1i (D : va_G) (a : Nat → Nat) (ca : Nat → ClassId) (A : Nat → Prop) (post : Int → (Nat → Int) → (Nat → Int) → (Nat → Int) → Prop) (below : List Frame) (args : Array Value) (s : State) : State → Prop := MQ below (va_Qi (fun (r9 : Int32) (S : Int × DS1) => r9 = iI S.1 ∧ post S.1 S.2.1 S.2.2.1 S.2.2.2) (fun S t9 => B1 D a ca A S.2 t9) A) args s 0 0 A
theorem M1i.of {l : Launch} {y : MethodName} {bytes : ByteArray} {maxL : Nat} {ret : Option FieldType} {rm : Room} {As : List Value} {z : Nat → Int} {kp : Nat → Int} {t : Nat → Int} {post : Int → (Nat → Int) → (Nat → Int) → (Nat → Int) → Prop} (hy : plainName y.cls = true) (hcl : y.cls = RX1) (hlen : ∀ k9 : Nat, (lg_sl (.ref k9 :: As)).length ≤ maxL)
    (body : ∀ (p : Program) (e : Env) (s : State) (m : MethodId) (args : Array Value) (below : List Frame) (meth : Method) (c : Code) (D : va_G) (a : Nat → Nat) (ca : Nat → ClassId) (A : Nat → Prop) (ls : Array Slot), CallFix p m c bytes maxL s args lw_all RX1 → meth.sig.returnType = ret → meth.locks = false → (∀ q9 : Nat, s.heap.size ≤ q9 → A q9) → lv_has ls maxL (lv_args 0 (.ref (a 0) :: As)) → I1 D A s a ca z kp t s.heap [] →
      W p l e rm s m args below meth c s.heap [] 0 0 (E1i D a ca A post below args s) (F0 m 0 ls [])) : M1i l y bytes maxL ret rm As z kp t post := by
  intro D a ca sz
  refine Met.ofW (cc := bytes) (maxL := maxL) (ret := ret) hy rfl ?_
  intro p e s m args below meth c s₁ B hml hv
  obtain ⟨rfl, hsz, hP, hK, hD0⟩ := hv
  have hts := atoms_spec (ws := ws_ y bytes maxL ret) B.pre
  have hts : ∀ w ∈ lw_all, w.before _ s = true := fun w h => hts w (List.mem_cons_of_mem _ h)
  have hown : s.vm.findClass RX1 = some m.cls := hcl ▸ findClass_of_methodNamed B.named
  subst hsz
  have hD := hD0.self (sz := s.heap.size)
  generalize hAe : va_A (w1 a ca z kp t) s.heap.size = A at hD ⊢
  have hA : ∀ q9 : Nat, s.heap.size ≤ q9 → A q9 := fun q9 h => by rw [← hAe]; exact Or.inr h
  have hl := lv_entry (.ref (a 0) :: As) (n := maxL) (hlen (a 0))
  rw [lg_entry_eq]
  generalize (lg_sl (.ref (a 0) :: As) ++ List.replicate (maxL - (lg_sl (.ref (a 0) :: As)).length) Slot.unset).toArray = ls at hl ⊢
  exact body p e s m _ below meth c D a ca A ls ⟨B.exec, B.bytes, hml, hown, hts⟩ B.returns B.notSynchronized hA hl ⟨hP, hD, va_S.rf, hK⟩
section EX1i
variable {p : Program} {l : Launch} {e : Env} {R : Room} {s : State} {m : MethodId} {args : Array Value} {below : List Frame} {meth : Method} {c : Code} {H : Heap} {locs : List Loc} {cells slots : Nat} {Q : State → Prop}
variable {cc : ByteArray} {pc nL : Nat} {ls : Array Slot} {rest st0 : List Value} {D : va_G} {A : Nat → Prop} {a : Nat → Nat} {ca : Nat → ClassId} {z : Nat → Int} {kp : Nat → Int} {t : Nat → Int} {post : Int → (Nat → Int) → (Nat → Int) → (Nat → Int) → Prop}
theorem r1_i (C : CallFix p m c cc nL s args lw_all RX1) (hr : meth.sig.returnType = some .int) (hlocks : meth.locks = false) (hI : I1 D A s a ca z kp t H locs) {i : Int} (hp : post i z kp t) (hdg : decode cc pc = .ok (.ireturn, 1)) : W p l e R s m args below meth c H locs 0 0 (E1i D a ca A post below args s) (F0 m pc ls [.int (iI i)]) :=
  W.iret C.1 C.2.1 hr (fun t9 ht hW => ⟨⟨iI i, (i, (z, kp, t)), rfl, ⟨rfl, hp⟩, by rw [ht]; exact hI.1, va_K.moved hW.alike hI.2.2.2, hI.2.1⟩, hI.2.2.1.F ht⟩) hI.2.2.1.2.2 hdg hlocks
theorem r1_z (C : CallFix p m c cc nL s args lw_all RX1) (hr : meth.sig.returnType = some .boolean) (hlocks : meth.locks = false) (hI : I1 D A s a ca z kp t H locs) {i : Int} (hi : i = 0 ∨ i = 1) (hp : post i z kp t) (hdg : decode cc pc = .ok (.ireturn, 1)) : W p l e R s m args below meth c H locs 0 0 (E1i D a ca A post below args s) (F0 m pc ls [.int (iI i)]) :=
  W.zret C.1 C.2.1 hr (by rcases hi with rfl | rfl <;> rfl) (fun t9 ht hW => ⟨⟨iI i, (i, (z, kp, t)), rfl, ⟨rfl, hp⟩, by rw [ht]; exact hI.1, va_K.moved hW.alike hI.2.2.2, hI.2.1⟩, hI.2.2.1.F ht⟩) hI.2.2.1.2.2 hdg hlocks
theorem c1_i {y : MethodName} {bytes : ByteArray} {maxL n index : Nat} {ret : Option FieldType} {rm : Room} {As : List Value} (C : CallFix p m c cc nL s args lw_all RX1) (hA : ∀ q9 : Nat, s.heap.size ≤ q9 → A q9) (hI : I1 D A s a ca z kp t H locs) (hM : M1i l y bytes maxL ret rm As z kp t post)
    (cw : CallW R s args RX1 RX1 index y bytes maxL ret (ws_ y bytes maxL ret) rm 0 0 n) (hn : As.length = n) (hsz : ls.size = nL) (hst : st0 = As.reverse ++ .ref (a 0) :: rest) (hroom : (rest.map fun v => v.category).sum ≤ 8) (hdg : decode cc pc = .ok (.invokevirtual index, 3)) (hcs : cells ≤ R.cells ∧ slots ≤ R.slots)
    (kk : ∀ (i : Int) (z1 : Nat → Int) (kp1 : Nat → Int) (t1 : Nat → Int) (H1 : Heap) (locs1 : List Loc), post i z1 kp1 t1 → I1 D A s a ca z1 kp1 t1 H1 locs1 → W p l e R s m args below meth c H1 locs1 cells slots Q (F0 m (pc + 3) ls (.int (iI i) :: rest))) : W p l e R s m args below meth c H locs cells slots Q (F0 m pc ls st0) := by
  obtain ⟨hP, hD, hS, hK⟩ := hI
  have hFc := va_free (wc := w1 a ca z kp t) hD hS hA [0, 1, 2, 3] rfl
  refine va_calli (va_runV (As := As) (rest := rest) C (hM D a ca H.size) cw ⟨fun a9 U g mk q => by obtain ⟨q0, q1, qP, qK, qD⟩ := q; exact ⟨q0, q1, qP, va_K.moved (u := U) (U := U.calling g mk a9) (Vm.Alike.refl U.vm) qK, qD⟩, va_recv hK hP (ci := 1) (q0 := 0) rfl rfl, fun U hU hW => ⟨rfl, by rw [hU], by rw [hU]; exact hP, va_K.moved hW.alike hK, hD.weaken (fun _ _ _ _ => trivial)⟩⟩ rfl hn hsz hst (lv_room hroom) hdg hcs) hS (fun q9 _ h => hFc q9 h) hFc (fun r9 S t9 H1 locs1 ht hvm hw1 hB hz1 hk1 hS1 => ?_)
  obtain ⟨hP1, hK1, hD1⟩ := hB
  rw [ht] at hP1
  obtain ⟨rfl, hp⟩ := hw1
  exact kk S.1 S.2.1 S.2.2.1 S.2.2.2 H1 locs1 hp ⟨hP1, hD1.weaken (fun _ _ _ h => hFc _ h), hS1, hK⟩
end EX1i
def M1l (l : Launch) (y : MethodName) (bytes : ByteArray) (maxL : Nat) (ret : Option FieldType) (rm : Room) (As : List Value) (z : Nat → Int) (kp : Nat → Int) (t : Nat → Int) (post : Int → (Nat → Int) → (Nat → Int) → (Nat → Int) → Prop) : Prop := ∀ (D : va_G) (a : Nat → Nat) (ca : Nat → ClassId) (sz : Nat), Met l y (ws_ y bytes maxL ret) rm (P1 D a ca sz As z kp t) (va_Ql (fun (r9 : Int64) (S : Int × DS1) => r9 = iL S.1 ∧ post S.1 S.2.1 S.2.2.1 S.2.2.2) (fun S t9 => B1 D a ca (va_A (w1 a ca z kp t) sz) S.2 t9) (va_A (w1 a ca z kp t) sz)) 0 0 (va_A (w1 a ca z kp t) sz)
def E1l (D : va_G) (a : Nat → Nat) (ca : Nat → ClassId) (A : Nat → Prop) (post : Int → (Nat → Int) → (Nat → Int) → (Nat → Int) → Prop) (below : List Frame) (args : Array Value) (s : State) : State → Prop := MQ below (va_Ql (fun (r9 : Int64) (S : Int × DS1) => r9 = iL S.1 ∧ post S.1 S.2.1 S.2.2.1 S.2.2.2) (fun S t9 => B1 D a ca A S.2 t9) A) args s 0 0 A
theorem M1l.of {l : Launch} {y : MethodName} {bytes : ByteArray} {maxL : Nat} {ret : Option FieldType} {rm : Room} {As : List Value} {z : Nat → Int} {kp : Nat → Int} {t : Nat → Int} {post : Int → (Nat → Int) → (Nat → Int) → (Nat → Int) → Prop} (hy : plainName y.cls = true) (hcl : y.cls = RX1) (hlen : ∀ k9 : Nat, (lg_sl (.ref k9 :: As)).length ≤ maxL)
    (body : ∀ (p : Program) (e : Env) (s : State) (m : MethodId) (args : Array Value) (below : List Frame) (meth : Method) (c : Code) (D : va_G) (a : Nat → Nat) (ca : Nat → ClassId) (A : Nat → Prop) (ls : Array Slot), CallFix p m c bytes maxL s args lw_all RX1 → meth.sig.returnType = ret → meth.locks = false → (∀ q9 : Nat, s.heap.size ≤ q9 → A q9) → lv_has ls maxL (lv_args 0 (.ref (a 0) :: As)) → I1 D A s a ca z kp t s.heap [] →
      W p l e rm s m args below meth c s.heap [] 0 0 (E1l D a ca A post below args s) (F0 m 0 ls [])) : M1l l y bytes maxL ret rm As z kp t post := by
  intro D a ca sz
  refine Met.ofW (cc := bytes) (maxL := maxL) (ret := ret) hy rfl ?_
  intro p e s m args below meth c s₁ B hml hv
  obtain ⟨rfl, hsz, hP, hK, hD0⟩ := hv
  have hts := atoms_spec (ws := ws_ y bytes maxL ret) B.pre
  have hts : ∀ w ∈ lw_all, w.before _ s = true := fun w h => hts w (List.mem_cons_of_mem _ h)
  have hown : s.vm.findClass RX1 = some m.cls := hcl ▸ findClass_of_methodNamed B.named
  subst hsz
  have hD := hD0.self (sz := s.heap.size)
  generalize hAe : va_A (w1 a ca z kp t) s.heap.size = A at hD ⊢
  have hA : ∀ q9 : Nat, s.heap.size ≤ q9 → A q9 := fun q9 h => by rw [← hAe]; exact Or.inr h
  have hl := lv_entry (.ref (a 0) :: As) (n := maxL) (hlen (a 0))
  rw [lg_entry_eq]
  generalize (lg_sl (.ref (a 0) :: As) ++ List.replicate (maxL - (lg_sl (.ref (a 0) :: As)).length) Slot.unset).toArray = ls at hl ⊢
  exact body p e s m _ below meth c D a ca A ls ⟨B.exec, B.bytes, hml, hown, hts⟩ B.returns B.notSynchronized hA hl ⟨hP, hD, va_S.rf, hK⟩
section EX1l
variable {p : Program} {l : Launch} {e : Env} {R : Room} {s : State} {m : MethodId} {args : Array Value} {below : List Frame} {meth : Method} {c : Code} {H : Heap} {locs : List Loc} {cells slots : Nat} {Q : State → Prop}
variable {cc : ByteArray} {pc nL : Nat} {ls : Array Slot} {rest st0 : List Value} {D : va_G} {A : Nat → Prop} {a : Nat → Nat} {ca : Nat → ClassId} {z : Nat → Int} {kp : Nat → Int} {t : Nat → Int} {post : Int → (Nat → Int) → (Nat → Int) → (Nat → Int) → Prop}
theorem r1_l (C : CallFix p m c cc nL s args lw_all RX1) (hr : meth.sig.returnType = some .long) (hlocks : meth.locks = false) (hI : I1 D A s a ca z kp t H locs) {i : Int} (hp : post i z kp t) (hdg : decode cc pc = .ok (.lreturn, 1)) : W p l e R s m args below meth c H locs 0 0 (E1l D a ca A post below args s) (F0 m pc ls [.long (iL i)]) :=
  W.lret C.1 C.2.1 hr (fun t9 ht hW => ⟨⟨iL i, (i, (z, kp, t)), rfl, ⟨rfl, hp⟩, by rw [ht]; exact hI.1, va_K.moved hW.alike hI.2.2.2, hI.2.1⟩, hI.2.2.1.F ht⟩) hI.2.2.1.2.2 hdg hlocks
theorem c1_l {y : MethodName} {bytes : ByteArray} {maxL n index : Nat} {ret : Option FieldType} {rm : Room} {As : List Value} (C : CallFix p m c cc nL s args lw_all RX1) (hA : ∀ q9 : Nat, s.heap.size ≤ q9 → A q9) (hI : I1 D A s a ca z kp t H locs) (hM : M1l l y bytes maxL ret rm As z kp t post)
    (cw : CallW R s args RX1 RX1 index y bytes maxL ret (ws_ y bytes maxL ret) rm 0 0 n) (hn : As.length = n) (hsz : ls.size = nL) (hst : st0 = As.reverse ++ .ref (a 0) :: rest) (hroom : (rest.map fun v => v.category).sum ≤ 8) (hdg : decode cc pc = .ok (.invokevirtual index, 3)) (hcs : cells ≤ R.cells ∧ slots ≤ R.slots)
    (kk : ∀ (i : Int) (z1 : Nat → Int) (kp1 : Nat → Int) (t1 : Nat → Int) (H1 : Heap) (locs1 : List Loc), post i z1 kp1 t1 → I1 D A s a ca z1 kp1 t1 H1 locs1 → W p l e R s m args below meth c H1 locs1 cells slots Q (F0 m (pc + 3) ls (.long (iL i) :: rest))) : W p l e R s m args below meth c H locs cells slots Q (F0 m pc ls st0) := by
  obtain ⟨hP, hD, hS, hK⟩ := hI
  have hFc := va_free (wc := w1 a ca z kp t) hD hS hA [0, 1, 2, 3] rfl
  refine va_calll (va_runV (As := As) (rest := rest) C (hM D a ca H.size) cw ⟨fun a9 U g mk q => by obtain ⟨q0, q1, qP, qK, qD⟩ := q; exact ⟨q0, q1, qP, va_K.moved (u := U) (U := U.calling g mk a9) (Vm.Alike.refl U.vm) qK, qD⟩, va_recv hK hP (ci := 1) (q0 := 0) rfl rfl, fun U hU hW => ⟨rfl, by rw [hU], by rw [hU]; exact hP, va_K.moved hW.alike hK, hD.weaken (fun _ _ _ _ => trivial)⟩⟩ rfl hn hsz hst (lv_room hroom) hdg hcs) hS (fun q9 _ h => hFc q9 h) hFc (fun r9 S t9 H1 locs1 ht hvm hw1 hB hz1 hk1 hS1 => ?_)
  obtain ⟨hP1, hK1, hD1⟩ := hB
  rw [ht] at hP1
  obtain ⟨rfl, hp⟩ := hw1
  exact kk S.1 S.2.1 S.2.2.1 S.2.2.2 H1 locs1 hp ⟨hP1, hD1.weaken (fun _ _ _ h => hFc _ h), hS1, hK⟩
end EX1l
def M1v (l : Launch) (y : MethodName) (bytes : ByteArray) (maxL : Nat) (ret : Option FieldType) (rm : Room) (As : List Value) (z : Nat → Int) (kp : Nat → Int) (t : Nat → Int) (post : (Nat → Int) → (Nat → Int) → (Nat → Int) → Prop) : Prop := ∀ (D : va_G) (a : Nat → Nat) (ca : Nat → ClassId) (sz : Nat), Met l y (ws_ y bytes maxL ret) rm (P1 D a ca sz As z kp t) (va_Qv (fun (S : DS1) => post S.1 S.2.1 S.2.2) (fun S t9 => B1 D a ca (va_A (w1 a ca z kp t) sz) S t9) (va_A (w1 a ca z kp t) sz)) 0 0 (va_A (w1 a ca z kp t) sz)
def E1v (D : va_G) (a : Nat → Nat) (ca : Nat → ClassId) (A : Nat → Prop) (post : (Nat → Int) → (Nat → Int) → (Nat → Int) → Prop) (below : List Frame) (args : Array Value) (s : State) : State → Prop := MQ below (va_Qv (fun (S : DS1) => post S.1 S.2.1 S.2.2) (fun S t9 => B1 D a ca A S t9) A) args s 0 0 A
theorem M1v.of {l : Launch} {y : MethodName} {bytes : ByteArray} {maxL : Nat} {ret : Option FieldType} {rm : Room} {As : List Value} {z : Nat → Int} {kp : Nat → Int} {t : Nat → Int} {post : (Nat → Int) → (Nat → Int) → (Nat → Int) → Prop} (hy : plainName y.cls = true) (hcl : y.cls = RX1) (hlen : ∀ k9 : Nat, (lg_sl (.ref k9 :: As)).length ≤ maxL)
    (body : ∀ (p : Program) (e : Env) (s : State) (m : MethodId) (args : Array Value) (below : List Frame) (meth : Method) (c : Code) (D : va_G) (a : Nat → Nat) (ca : Nat → ClassId) (A : Nat → Prop) (ls : Array Slot), CallFix p m c bytes maxL s args lw_all RX1 → meth.sig.returnType = ret → meth.locks = false → (∀ q9 : Nat, s.heap.size ≤ q9 → A q9) → lv_has ls maxL (lv_args 0 (.ref (a 0) :: As)) → I1 D A s a ca z kp t s.heap [] →
      W p l e rm s m args below meth c s.heap [] 0 0 (E1v D a ca A post below args s) (F0 m 0 ls [])) : M1v l y bytes maxL ret rm As z kp t post := by
  intro D a ca sz
  refine Met.ofW (cc := bytes) (maxL := maxL) (ret := ret) hy rfl ?_
  intro p e s m args below meth c s₁ B hml hv
  obtain ⟨rfl, hsz, hP, hK, hD0⟩ := hv
  have hts := atoms_spec (ws := ws_ y bytes maxL ret) B.pre
  have hts : ∀ w ∈ lw_all, w.before _ s = true := fun w h => hts w (List.mem_cons_of_mem _ h)
  have hown : s.vm.findClass RX1 = some m.cls := hcl ▸ findClass_of_methodNamed B.named
  subst hsz
  have hD := hD0.self (sz := s.heap.size)
  generalize hAe : va_A (w1 a ca z kp t) s.heap.size = A at hD ⊢
  have hA : ∀ q9 : Nat, s.heap.size ≤ q9 → A q9 := fun q9 h => by rw [← hAe]; exact Or.inr h
  have hl := lv_entry (.ref (a 0) :: As) (n := maxL) (hlen (a 0))
  rw [lg_entry_eq]
  generalize (lg_sl (.ref (a 0) :: As) ++ List.replicate (maxL - (lg_sl (.ref (a 0) :: As)).length) Slot.unset).toArray = ls at hl ⊢
  exact body p e s m _ below meth c D a ca A ls ⟨B.exec, B.bytes, hml, hown, hts⟩ B.returns B.notSynchronized hA hl ⟨hP, hD, va_S.rf, hK⟩
section EX1v
variable {p : Program} {l : Launch} {e : Env} {R : Room} {s : State} {m : MethodId} {args : Array Value} {below : List Frame} {meth : Method} {c : Code} {H : Heap} {locs : List Loc} {cells slots : Nat} {Q : State → Prop}
variable {cc : ByteArray} {pc nL : Nat} {ls : Array Slot} {rest st0 : List Value} {D : va_G} {A : Nat → Prop} {a : Nat → Nat} {ca : Nat → ClassId} {z : Nat → Int} {kp : Nat → Int} {t : Nat → Int} {post : (Nat → Int) → (Nat → Int) → (Nat → Int) → Prop}
theorem r1_v (C : CallFix p m c cc nL s args lw_all RX1) (hr : meth.sig.returnType = none) (hlocks : meth.locks = false) (hI : I1 D A s a ca z kp t H locs) (hp : post z kp t) (hdg : decode cc pc = .ok (.return_, 1)) : W p l e R s m args below meth c H locs 0 0 (E1v D a ca A post below args s) (F0 m pc ls []) :=
  W.vret C.1 C.2.1 hr (fun t9 ht hW => ⟨⟨(z, kp, t), rfl, hp, by rw [ht]; exact hI.1, va_K.moved hW.alike hI.2.2.2, hI.2.1⟩, hI.2.2.1.F ht⟩) hI.2.2.1.2.2 hdg hlocks
theorem c1_v {y : MethodName} {bytes : ByteArray} {maxL n index : Nat} {ret : Option FieldType} {rm : Room} {As : List Value} (C : CallFix p m c cc nL s args lw_all RX1) (hA : ∀ q9 : Nat, s.heap.size ≤ q9 → A q9) (hI : I1 D A s a ca z kp t H locs) (hM : M1v l y bytes maxL ret rm As z kp t post)
    (cw : CallW R s args RX1 RX1 index y bytes maxL ret (ws_ y bytes maxL ret) rm 0 0 n) (hn : As.length = n) (hsz : ls.size = nL) (hst : st0 = As.reverse ++ .ref (a 0) :: rest) (hroom : (rest.map fun v => v.category).sum ≤ 8) (hdg : decode cc pc = .ok (.invokevirtual index, 3)) (hcs : cells ≤ R.cells ∧ slots ≤ R.slots)
    (kk : ∀ (z1 : Nat → Int) (kp1 : Nat → Int) (t1 : Nat → Int) (H1 : Heap) (locs1 : List Loc), post z1 kp1 t1 → I1 D A s a ca z1 kp1 t1 H1 locs1 → W p l e R s m args below meth c H1 locs1 cells slots Q (F0 m (pc + 3) ls rest)) : W p l e R s m args below meth c H locs cells slots Q (F0 m pc ls st0) := by
  obtain ⟨hP, hD, hS, hK⟩ := hI
  have hFc := va_free (wc := w1 a ca z kp t) hD hS hA [0, 1, 2, 3] rfl
  refine va_callv (va_runV (As := As) (rest := rest) C (hM D a ca H.size) cw ⟨fun a9 U g mk q => by obtain ⟨q0, q1, qP, qK, qD⟩ := q; exact ⟨q0, q1, qP, va_K.moved (u := U) (U := U.calling g mk a9) (Vm.Alike.refl U.vm) qK, qD⟩, va_recv hK hP (ci := 1) (q0 := 0) rfl rfl, fun U hU hW => ⟨rfl, by rw [hU], by rw [hU]; exact hP, va_K.moved hW.alike hK, hD.weaken (fun _ _ _ _ => trivial)⟩⟩ rfl hn hsz hst (lv_room hroom) hdg hcs) hS (fun q9 _ h => hFc q9 h) hFc (fun S t9 H1 locs1 ht hvm hw1 hB hz1 hk1 hS1 => ?_)
  obtain ⟨hP1, hK1, hD1⟩ := hB
  rw [ht] at hP1
  exact kk S.1 S.2.1 S.2.2 H1 locs1 hw1 ⟨hP1, hD1.weaken (fun _ _ _ h => hFc _ h), hS1, hK⟩
end EX1v
def MSi (l : Launch) (y : MethodName) (bytes : ByteArray) (maxL : Nat) (ret : Option FieldType) (rm : Room) (As : List Value) (post : Int → Prop) : Prop := Met l y (ws_ y bytes maxL ret) rm (fun v _ => v = As.toArray) (vp_Si (fun r9 => ∃ i : Int, r9 = iI i ∧ post i)) 0 0 (fun _ => False)
def ESi (post : Int → Prop) (below : List Frame) (args : Array Value) (s : State) : State → Prop := MQ below (vp_Si (fun r9 => ∃ i : Int, r9 = iI i ∧ post i)) args s 0 0 (fun _ => False)
theorem MSi.of {l : Launch} {y : MethodName} {bytes : ByteArray} {maxL : Nat} {ret : Option FieldType} {rm : Room} {As : List Value} {post : Int → Prop} (hy : plainName y.cls = true) (hcl : y.cls = RX0) (hlen : (lg_sl As).length ≤ maxL)
    (body : ∀ (p : Program) (e : Env) (s : State) (m : MethodId) (args : Array Value) (below : List Frame) (meth : Method) (c : Code) (ls : Array Slot), CallFix p m c bytes maxL s args lw_all RX0 → meth.sig.returnType = ret → meth.locks = false → lv_has ls maxL (lv_args 0 As) → W p l e rm s m args below meth c s.heap [] 0 0 (ESi post below args s) (F0 m 0 ls [])) : MSi l y bytes maxL ret rm As post := by
  refine Met.ofW (cc := bytes) (maxL := maxL) (ret := ret) hy rfl ?_
  intro p e s m args below meth c s₁ B hml hv
  cases hv
  have hts := atoms_spec (ws := ws_ y bytes maxL ret) B.pre
  have hts : ∀ w ∈ lw_all, w.before _ s = true := fun w h => hts w (List.mem_cons_of_mem _ h)
  have hown : s.vm.findClass RX0 = some m.cls := hcl ▸ findClass_of_methodNamed B.named
  have hl := lv_entry As (n := maxL) hlen
  rw [lg_entry_eq]
  generalize (lg_sl As ++ List.replicate (maxL - (lg_sl As).length) Slot.unset).toArray = ls at hl ⊢
  exact body p e s m _ below meth c ls ⟨B.exec, B.bytes, hml, hown, hts⟩ B.returns B.notSynchronized hl
section EXS
variable {p : Program} {l : Launch} {e : Env} {R : Room} {s : State} {m : MethodId} {args : Array Value} {below : List Frame} {meth : Method} {c : Code} {H : Heap} {locs : List Loc} {cells slots : Nat} {Q : State → Prop}
variable {cc : ByteArray} {pc nL : Nat} {ls : Array Slot} {rest st0 : List Value} {post : Int → Prop}
theorem rS_z (C : CallFix p m c cc nL s args lw_all RX0) (hr : meth.sig.returnType = some .boolean) (hlocks : meth.locks = false) {i : Int} (hi : i = 0 ∨ i = 1) (hp : post i) (hdg : decode cc pc = .ok (.ireturn, 1)) : W p l e R s m args below meth c s.heap [] 0 0 (ESi post below args s) (F0 m pc ls [.int (iI i)]) :=
  W.zret C.1 C.2.1 hr (by rcases hi with rfl | rfl <;> rfl) (fun t9 ht hW => ⟨iI i, rfl, ⟨i, rfl, hp⟩, ht⟩) (fun q9 h => by cases h) hdg hlocks
theorem cS_i {y : MethodName} {bytes : ByteArray} {maxL n index : Nat} {ret : Option FieldType} {rm : Room} {As : List Value} (C : CallFix p m c cc nL s args lw_all RX0) (hM : MSi l y bytes maxL ret rm As post)
    (cw : CallB R s args RX0 index y bytes maxL ret (ws_ y bytes maxL ret) rm 0 0 n ∧ (Cond.static y).before args s = true) (hn : As.length = n) (hsz : ls.size = nL) (hst : st0 = As.reverse ++ rest) (hroom : (rest.map fun v => v.category).sum ≤ 8) (hdg : decode cc pc = .ok (.invokestatic index, 3)) (hcs : cells ≤ R.cells ∧ slots ≤ R.slots)
    (kk : ∀ i : Int, post i → W p l e R s m args below meth c H locs cells slots Q (F0 m (pc + 3) ls (.int (iI i) :: rest))) : W p l e R s m args below meth c H locs cells slots Q (F0 m pc ls st0) :=
  vp_callSi (W.runS (As := As) (rest := rest) C hM cw preEq rfl hn hsz hst (lv_room hroom) hdg hcs) (fun r9 hp => by obtain ⟨i, rfl, h⟩ := hp; exact kk i h)
end EXS
end
section
set_option maxRecDepth 100000
abbrev rm0_set : Room := { frames := 1, cells := 0, slots := 0, locals := 20 }
abbrev rm0_isRow : Room := { frames := 0, cells := 0, slots := 0, locals := 0 }
abbrev rm0_isNumber : Room := { frames := 0, cells := 0, slots := 0, locals := 0 }
abbrev rm0_at : Room := { frames := 1, cells := 0, slots := 0, locals := 20 }
abbrev rm0_swapRows : Room := { frames := 1, cells := 0, slots := 0, locals := 20 }
abbrev rm0_addRow : Room := { frames := 1, cells := 0, slots := 0, locals := 20 }
abbrev rm0_transpose : Room := { frames := 0, cells := 0, slots := 0, locals := 0 }
abbrev rm0_determinant : Room := { frames := 5, cells := 0, slots := 0, locals := 120 }
abbrev rm0_load : Room := { frames := 1, cells := 0, slots := 0, locals := 22 }
abbrev rm0_reduce : Room := { frames := 0, cells := 0, slots := 0, locals := 0 }
abbrev rm0_determinantOf : Room := { frames := 4, cells := 0, slots := 0, locals := 96 }
abbrev rm0_pivotFrom : Room := { frames := 0, cells := 0, slots := 0, locals := 0 }
abbrev rm0_exchange : Room := { frames := 0, cells := 0, slots := 0, locals := 0 }
abbrev rm0_times : Room := { frames := 1, cells := 0, slots := 0, locals := 22 }
abbrev rm0_clearBelow : Room := { frames := 3, cells := 0, slots := 0, locals := 68 }
abbrev rm0_inverse : Room := { frames := 2, cells := 0, slots := 0, locals := 44 }
abbrev rm0_join : Room := { frames := 3, cells := 0, slots := 0, locals := 68 }
abbrev rm0_minor : Room := { frames := 5, cells := 0, slots := 0, locals := 120 }
abbrev rm0_leaveOut : Room := { frames := 0, cells := 0, slots := 0, locals := 0 }
abbrev rm0_replaced : Room := { frames := 5, cells := 0, slots := 0, locals := 120 }
abbrev rm0_replaceColumn : Room := { frames := 0, cells := 0, slots := 0, locals := 0 }
abbrev rm0_rank : Room := { frames := 6, cells := 0, slots := 0, locals := 146 }
abbrev rm0_rankIn : Room := { frames := 5, cells := 0, slots := 0, locals := 121 }
abbrev rm0_keepRows : Room := { frames := 1, cells := 0, slots := 0, locals := 24 }
abbrev rm0_rankAtWork : Room := { frames := 4, cells := 0, slots := 0, locals := 96 }
abbrev rm0_wideRank : Room := { frames := 6, cells := 0, slots := 0, locals := 146 }
abbrev rm0_coefficient : Room := { frames := 6, cells := 0, slots := 0, locals := 148 }
abbrev rm0_coefficientFor : Room := { frames := 5, cells := 0, slots := 0, locals := 120 }
abbrev rm0_shift : Room := { frames := 1, cells := 0, slots := 0, locals := 22 }
abbrev rm0_nextProduct : Room := { frames := 2, cells := 0, slots := 0, locals := 44 }
abbrev rm0_nextDifferences : Room := { frames := 1, cells := 0, slots := 0, locals := 22 }
abbrev rm0_principal : Room := { frames := 7, cells := 0, slots := 0, locals := 171 }
abbrev rm0_rankOf : Room := { frames := 6, cells := 0, slots := 0, locals := 146 }
abbrev rm0_determinantWith : Room := { frames := 6, cells := 0, slots := 0, locals := 142 }
abbrev rm0_shifted : Room := { frames := 5, cells := 0, slots := 0, locals := 120 }
abbrev rm1_set : Room := { frames := 2, cells := 0, slots := 0, locals := 44 }
abbrev rm1_fits : Room := { frames := 1, cells := 0, slots := 0, locals := 21 }
abbrev rm1_row : Room := { frames := 0, cells := 0, slots := 0, locals := 0 }
abbrev rm1_at : Room := { frames := 1, cells := 0, slots := 0, locals := 21 }
abbrev rm1_swapRows : Room := { frames := 1, cells := 0, slots := 0, locals := 21 }
abbrev rm1_addRow : Room := { frames := 2, cells := 0, slots := 0, locals := 44 }
abbrev rm1_transpose : Room := { frames := 1, cells := 0, slots := 0, locals := 21 }
abbrev rm1_keep : Room := { frames := 0, cells := 0, slots := 0, locals := 0 }
abbrev rm1_determinant : Room := { frames := 3, cells := 0, slots := 0, locals := 75 }
abbrev rm1_part : Room := { frames := 2, cells := 0, slots := 0, locals := 50 }
abbrev rm1_ones : Room := { frames := 0, cells := 0, slots := 0, locals := 0 }
abbrev rm1_expand : Room := { frames := 1, cells := 0, slots := 0, locals := 23 }
abbrev rm1_minor : Room := { frames := 3, cells := 0, slots := 0, locals := 75 }
abbrev rm1_replaced : Room := { frames := 4, cells := 0, slots := 0, locals := 95 }
abbrev rm1_restore : Room := { frames := 0, cells := 0, slots := 0, locals := 0 }
abbrev rm1_rank : Room := { frames := 4, cells := 0, slots := 0, locals := 101 }
abbrev rm1_rankIn : Room := { frames := 3, cells := 0, slots := 0, locals := 75 }
abbrev rm1_wideRank : Room := { frames := 4, cells := 0, slots := 0, locals := 101 }
abbrev rm1_coefficient : Room := { frames := 4, cells := 0, slots := 0, locals := 99 }
abbrev rm1_principal : Room := { frames := 3, cells := 0, slots := 0, locals := 75 }
abbrev rm1_rankOf : Room := { frames := 4, cells := 0, slots := 0, locals := 101 }
abbrev rm1_determinantWith : Room := { frames := 4, cells := 0, slots := 0, locals := 95 }
abbrev rm1_shifted : Room := { frames := 4, cells := 0, slots := 0, locals := 95 }
theorem cwL0_set {R : Room} {s : State} {args : Array Value} (hts : ∀ w ∈ lw_all, w.before args s = true) (hR : rm0_set.frames + 1 ≤ R.frames ∧ 8 + (4 + 11) + rm0_set.locals ≤ R.locals) : CallW R s args "DeterminantDeskLaw" RX0 13 yX0_set cX0_set 4 (some .boolean) (ws_ yX0_set cX0_set 4 (some .boolean)) rm0_set 0 0 3 := cwV 3 hts (lw_V q58 q59 q60 q27 q61) rfl rfl rfl (by decide +kernel) hR
theorem cw0_isRow {R : Room} {s : State} {args : Array Value} (hts : ∀ w ∈ lw_all, w.before args s = true) (hR : rm0_isRow.frames + 1 ≤ R.frames ∧ 8 + (1 + 11) + rm0_isRow.locals ≤ R.locals) : CallB R s args RX0 26 yX0_isRow cX0_isRow 1 (some .boolean) (ws_ yX0_isRow cX0_isRow 1 (some .boolean)) rm0_isRow 0 0 1 ∧ (Cond.static yX0_isRow).before args s = true := va_cwS 1 hts (lw_S q62 q63 q27 q64) rfl rfl rfl (by decide +kernel) hR
theorem cw0_isNumber {R : Room} {s : State} {args : Array Value} (hts : ∀ w ∈ lw_all, w.before args s = true) (hR : rm0_isNumber.frames + 1 ≤ R.frames ∧ 8 + (1 + 11) + rm0_isNumber.locals ≤ R.locals) : CallB R s args RX0 30 yX0_isNumber cX0_isNumber 1 (some .boolean) (ws_ yX0_isNumber cX0_isNumber 1 (some .boolean)) rm0_isNumber 0 0 1 ∧ (Cond.static yX0_isNumber).before args s = true := va_cwS 1 hts (lw_S q65 q66 q27 q67) rfl rfl rfl (by decide +kernel) hR
theorem cwL0_at {R : Room} {s : State} {args : Array Value} (hts : ∀ w ∈ lw_all, w.before args s = true) (hR : rm0_at.frames + 1 ≤ R.frames ∧ 8 + (3 + 11) + rm0_at.locals ≤ R.locals) : CallW R s args "DeterminantDeskLaw" RX0 18 yX0_at cX0_at 3 (some .int) (ws_ yX0_at cX0_at 3 (some .int)) rm0_at 0 0 2 := cwV 2 hts (lw_V q68 q69 q70 q27 q71) rfl rfl rfl (by decide +kernel) hR
theorem cwL0_swapRows {R : Room} {s : State} {args : Array Value} (hts : ∀ w ∈ lw_all, w.before args s = true) (hR : rm0_swapRows.frames + 1 ≤ R.frames ∧ 8 + (5 + 11) + rm0_swapRows.locals ≤ R.locals) : CallW R s args "DeterminantDeskLaw" RX0 23 yX0_swapRows cX0_swapRows 5 (some .boolean) (ws_ yX0_swapRows cX0_swapRows 5 (some .boolean)) rm0_swapRows 0 0 2 := cwV 2 hts (lw_V q73 q74 q75 q27 q76) rfl rfl rfl (by decide +kernel) hR
theorem cwL0_addRow {R : Room} {s : State} {args : Array Value} (hts : ∀ w ∈ lw_all, w.before args s = true) (hR : rm0_addRow.frames + 1 ≤ R.frames ∧ 8 + (6 + 11) + rm0_addRow.locals ≤ R.locals) : CallW R s args "DeterminantDeskLaw" RX0 28 yX0_addRow cX0_addRow 6 (some .boolean) (ws_ yX0_addRow cX0_addRow 6 (some .boolean)) rm0_addRow 0 0 3 := cwV 3 hts (lw_V q77 q78 q79 q27 q80) rfl rfl rfl (by decide +kernel) hR
theorem cwL0_transpose {R : Room} {s : State} {args : Array Value} (hts : ∀ w ∈ lw_all, w.before args s = true) (hR : rm0_transpose.frames + 1 ≤ R.frames ∧ 8 + (4 + 11) + rm0_transpose.locals ≤ R.locals) : CallW R s args "DeterminantDeskLaw" RX0 32 yX0_transpose cX0_transpose 4 none (ws_ yX0_transpose cX0_transpose 4 none) rm0_transpose 0 0 0 := cwV 0 hts (lw_V q81 q82 q83 q27 q84) rfl rfl rfl (by decide +kernel) hR
theorem cw0_determinant {R : Room} {s : State} {args : Array Value} (hts : ∀ w ∈ lw_all, w.before args s = true) (hR : rm0_determinant.frames + 1 ≤ R.frames ∧ 8 + (3 + 11) + rm0_determinant.locals ≤ R.locals) : CallW R s args RX0 RX0 103 yX0_determinant cX0_determinant 3 (some .int) (ws_ yX0_determinant cX0_determinant 3 (some .int)) rm0_determinant 0 0 0 := cwV 0 hts (lw_V q196 q86 q87 q27 q88) rfl rfl rfl (by decide +kernel) hR
theorem cwL0_determinant {R : Room} {s : State} {args : Array Value} (hts : ∀ w ∈ lw_all, w.before args s = true) (hR : rm0_determinant.frames + 1 ≤ R.frames ∧ 8 + (3 + 11) + rm0_determinant.locals ≤ R.locals) : CallW R s args "DeterminantDeskLaw" RX0 36 yX0_determinant cX0_determinant 3 (some .int) (ws_ yX0_determinant cX0_determinant 3 (some .int)) rm0_determinant 0 0 0 := cwV 0 hts (lw_V q85 q86 q87 q27 q88) rfl rfl rfl (by decide +kernel) hR
theorem cw0_load {R : Room} {s : State} {args : Array Value} (hts : ∀ w ∈ lw_all, w.before args s = true) (hR : rm0_load.frames + 1 ≤ R.frames ∧ 8 + (3 + 11) + rm0_load.locals ≤ R.locals) : CallW R s args RX0 RX0 63 yX0_load cX0_load 3 none (ws_ yX0_load cX0_load 3 none) rm0_load 0 0 1 := cwV 1 hts (lw_V q89 q91 qs0 q27 q92) rfl rfl rfl (by decide +kernel) hR
theorem cw0_reduce {R : Room} {s : State} {args : Array Value} (hts : ∀ w ∈ lw_all, w.before args s = true) (hR : rm0_reduce.frames + 1 ≤ R.frames ∧ 8 + (3 + 11) + rm0_reduce.locals ≤ R.locals) : CallW R s args RX0 RX0 38 yX0_reduce cX0_reduce 3 (some .int) (ws_ yX0_reduce cX0_reduce 3 (some .int)) rm0_reduce 0 0 1 := cwV 1 hts (lw_V q93 q95 qs1 q27 q96) rfl rfl rfl (by decide +kernel) hR
theorem cw0_determinantOf {R : Room} {s : State} {args : Array Value} (hts : ∀ w ∈ lw_all, w.before args s = true) (hR : rm0_determinantOf.frames + 1 ≤ R.frames ∧ 8 + (5 + 11) + rm0_determinantOf.locals ≤ R.locals) : CallW R s args RX0 RX0 67 yX0_determinantOf cX0_determinantOf 5 (some .int) (ws_ yX0_determinantOf cX0_determinantOf 5 (some .int)) rm0_determinantOf 0 0 1 := cwV 1 hts (lw_V q97 q99 qs2 q27 q100) rfl rfl rfl (by decide +kernel) hR
theorem cw0_pivotFrom {R : Room} {s : State} {args : Array Value} (hts : ∀ w ∈ lw_all, w.before args s = true) (hR : rm0_pivotFrom.frames + 1 ≤ R.frames ∧ 8 + (5 + 11) + rm0_pivotFrom.locals ≤ R.locals) : CallW R s args RX0 RX0 49 yX0_pivotFrom cX0_pivotFrom 5 (some .int) (ws_ yX0_pivotFrom cX0_pivotFrom 5 (some .int)) rm0_pivotFrom 0 0 3 := cwV 3 hts (lw_V q101 q103 qs3 q27 q104) rfl rfl rfl (by decide +kernel) hR
theorem cw0_exchange {R : Room} {s : State} {args : Array Value} (hts : ∀ w ∈ lw_all, w.before args s = true) (hR : rm0_exchange.frames + 1 ≤ R.frames ∧ 8 + (5 + 11) + rm0_exchange.locals ≤ R.locals) : CallW R s args RX0 RX0 53 yX0_exchange cX0_exchange 5 none (ws_ yX0_exchange cX0_exchange 5 none) rm0_exchange 0 0 2 := cwV 2 hts (lw_V q105 q107 qs4 q27 q108) rfl rfl rfl (by decide +kernel) hR
theorem cw0_times {R : Room} {s : State} {args : Array Value} (hts : ∀ w ∈ lw_all, w.before args s = true) (hR : rm0_times.frames + 1 ≤ R.frames ∧ 8 + (3 + 11) + rm0_times.locals ≤ R.locals) : CallW R s args RX0 RX0 42 yX0_times cX0_times 3 (some .int) (ws_ yX0_times cX0_times 3 (some .int)) rm0_times 0 0 2 := cwV 2 hts (lw_V q109 q111 qs5 q27 q112) rfl rfl rfl (by decide +kernel) hR
theorem cw0_clearBelow {R : Room} {s : State} {args : Array Value} (hts : ∀ w ∈ lw_all, w.before args s = true) (hR : rm0_clearBelow.frames + 1 ≤ R.frames ∧ 8 + (9 + 11) + rm0_clearBelow.locals ≤ R.locals) : CallW R s args RX0 RX0 57 yX0_clearBelow cX0_clearBelow 9 none (ws_ yX0_clearBelow cX0_clearBelow 9 none) rm0_clearBelow 0 0 3 := cwV 3 hts (lw_V q113 q115 qs6 q27 q116) rfl rfl rfl (by decide +kernel) hR
theorem cw0_inverse {R : Room} {s : State} {args : Array Value} (hts : ∀ w ∈ lw_all, w.before args s = true) (hR : rm0_inverse.frames + 1 ≤ R.frames ∧ 8 + (5 + 11) + rm0_inverse.locals ≤ R.locals) : CallW R s args RX0 RX0 46 yX0_inverse cX0_inverse 5 (some .int) (ws_ yX0_inverse cX0_inverse 5 (some .int)) rm0_inverse 0 0 1 := cwV 1 hts (lw_V q117 q119 qs7 q27 q120) rfl rfl rfl (by decide +kernel) hR
theorem cw0_join {R : Room} {s : State} {args : Array Value} (hts : ∀ w ∈ lw_all, w.before args s = true) (hR : rm0_join.frames + 1 ≤ R.frames ∧ 8 + (7 + 11) + rm0_join.locals ≤ R.locals) : CallW R s args RX0 RX0 70 yX0_join cX0_join 7 (some .int) (ws_ yX0_join cX0_join 7 (some .int)) rm0_join 0 0 2 := cwV 2 hts (lw_V q121 q123 qs8 q27 q124) rfl rfl rfl (by decide +kernel) hR
theorem cwL0_minor {R : Room} {s : State} {args : Array Value} (hts : ∀ w ∈ lw_all, w.before args s = true) (hR : rm0_minor.frames + 1 ≤ R.frames ∧ 8 + (5 + 11) + rm0_minor.locals ≤ R.locals) : CallW R s args "DeterminantDeskLaw" RX0 41 yX0_minor cX0_minor 5 (some .int) (ws_ yX0_minor cX0_minor 5 (some .int)) rm0_minor 0 0 2 := cwV 2 hts (lw_V q127 q128 q129 q27 q130) rfl rfl rfl (by decide +kernel) hR
theorem cw0_leaveOut {R : Room} {s : State} {args : Array Value} (hts : ∀ w ∈ lw_all, w.before args s = true) (hR : rm0_leaveOut.frames + 1 ≤ R.frames ∧ 8 + (6 + 11) + rm0_leaveOut.locals ≤ R.locals) : CallW R s args RX0 RX0 73 yX0_leaveOut cX0_leaveOut 6 none (ws_ yX0_leaveOut cX0_leaveOut 6 none) rm0_leaveOut 0 0 2 := cwV 2 hts (lw_V q131 q133 qs9 q27 q134) rfl rfl rfl (by decide +kernel) hR
theorem cwL0_replaced {R : Room} {s : State} {args : Array Value} (hts : ∀ w ∈ lw_all, w.before args s = true) (hR : rm0_replaced.frames + 1 ≤ R.frames ∧ 8 + (4 + 11) + rm0_replaced.locals ≤ R.locals) : CallW R s args "DeterminantDeskLaw" RX0 45 yX0_replaced cX0_replaced 4 (some .int) (ws_ yX0_replaced cX0_replaced 4 (some .int)) rm0_replaced 0 0 1 := cwV 1 hts (lw_V q135 q136 q137 q27 q138) rfl rfl rfl (by decide +kernel) hR
theorem cw0_replaceColumn {R : Room} {s : State} {args : Array Value} (hts : ∀ w ∈ lw_all, w.before args s = true) (hR : rm0_replaceColumn.frames + 1 ≤ R.frames ∧ 8 + (3 + 11) + rm0_replaceColumn.locals ≤ R.locals) : CallW R s args RX0 RX0 76 yX0_replaceColumn cX0_replaceColumn 3 none (ws_ yX0_replaceColumn cX0_replaceColumn 3 none) rm0_replaceColumn 0 0 1 := cwV 1 hts (lw_V q139 q141 qs10 q27 q142) rfl rfl rfl (by decide +kernel) hR
theorem cwL0_rank {R : Room} {s : State} {args : Array Value} (hts : ∀ w ∈ lw_all, w.before args s = true) (hR : rm0_rank.frames + 1 ≤ R.frames ∧ 8 + (1 + 11) + rm0_rank.locals ≤ R.locals) : CallW R s args "DeterminantDeskLaw" RX0 50 yX0_rank cX0_rank 1 (some .int) (ws_ yX0_rank cX0_rank 1 (some .int)) rm0_rank 0 0 0 := cwV 0 hts (lw_V q143 q144 q145 q27 q146) rfl rfl rfl (by decide +kernel) hR
theorem cw0_rankIn {R : Room} {s : State} {args : Array Value} (hts : ∀ w ∈ lw_all, w.before args s = true) (hR : rm0_rankIn.frames + 1 ≤ R.frames ∧ 8 + (6 + 11) + rm0_rankIn.locals ≤ R.locals) : CallW R s args RX0 RX0 79 yX0_rankIn cX0_rankIn 6 (some .int) (ws_ yX0_rankIn cX0_rankIn 6 (some .int)) rm0_rankIn 0 0 2 := cwV 2 hts (lw_V q147 q149 qs11 q27 q150) rfl rfl rfl (by decide +kernel) hR
theorem cw0_keepRows {R : Room} {s : State} {args : Array Value} (hts : ∀ w ∈ lw_all, w.before args s = true) (hR : rm0_keepRows.frames + 1 ≤ R.frames ∧ 8 + (4 + 11) + rm0_keepRows.locals ≤ R.locals) : CallW R s args RX0 RX0 82 yX0_keepRows cX0_keepRows 4 (some .int) (ws_ yX0_keepRows cX0_keepRows 4 (some .int)) rm0_keepRows 0 0 1 := cwV 1 hts (lw_V q151 q153 qs12 q27 q154) rfl rfl rfl (by decide +kernel) hR
theorem cw0_rankAtWork {R : Room} {s : State} {args : Array Value} (hts : ∀ w ∈ lw_all, w.before args s = true) (hR : rm0_rankAtWork.frames + 1 ≤ R.frames ∧ 8 + (6 + 11) + rm0_rankAtWork.locals ≤ R.locals) : CallW R s args RX0 RX0 85 yX0_rankAtWork cX0_rankAtWork 6 (some .int) (ws_ yX0_rankAtWork cX0_rankAtWork 6 (some .int)) rm0_rankAtWork 0 0 2 := cwV 2 hts (lw_V q155 q157 qs13 q27 q158) rfl rfl rfl (by decide +kernel) hR
theorem cwL0_wideRank {R : Room} {s : State} {args : Array Value} (hts : ∀ w ∈ lw_all, w.before args s = true) (hR : rm0_wideRank.frames + 1 ≤ R.frames ∧ 8 + (1 + 11) + rm0_wideRank.locals ≤ R.locals) : CallW R s args "DeterminantDeskLaw" RX0 54 yX0_wideRank cX0_wideRank 1 (some .int) (ws_ yX0_wideRank cX0_wideRank 1 (some .int)) rm0_wideRank 0 0 0 := cwV 0 hts (lw_V q159 q160 q161 q27 q162) rfl rfl rfl (by decide +kernel) hR
theorem cw0_coefficient {R : Room} {s : State} {args : Array Value} (hts : ∀ w ∈ lw_all, w.before args s = true) (hR : rm0_coefficient.frames + 1 ≤ R.frames ∧ 8 + (4 + 11) + rm0_coefficient.locals ≤ R.locals) : CallW R s args RX0 RX0 91 yX0_coefficient cX0_coefficient 4 (some .int) (ws_ yX0_coefficient cX0_coefficient 4 (some .int)) rm0_coefficient 0 0 1 := cwV 1 hts (lw_V q187 q164 q165 q27 q166) rfl rfl rfl (by decide +kernel) hR
theorem cwL0_coefficient {R : Room} {s : State} {args : Array Value} (hts : ∀ w ∈ lw_all, w.before args s = true) (hR : rm0_coefficient.frames + 1 ≤ R.frames ∧ 8 + (4 + 11) + rm0_coefficient.locals ≤ R.locals) : CallW R s args "DeterminantDeskLaw" RX0 58 yX0_coefficient cX0_coefficient 4 (some .int) (ws_ yX0_coefficient cX0_coefficient 4 (some .int)) rm0_coefficient 0 0 1 := cwV 1 hts (lw_V q163 q164 q165 q27 q166) rfl rfl rfl (by decide +kernel) hR
theorem cw0_coefficientFor {R : Room} {s : State} {args : Array Value} (hts : ∀ w ∈ lw_all, w.before args s = true) (hR : rm0_coefficientFor.frames + 1 ≤ R.frames ∧ 8 + (9 + 11) + rm0_coefficientFor.locals ≤ R.locals) : CallW R s args RX0 RX0 88 yX0_coefficientFor cX0_coefficientFor 9 (some .int) (ws_ yX0_coefficientFor cX0_coefficientFor 9 (some .int)) rm0_coefficientFor 0 0 2 := cwV 2 hts (lw_V q167 q169 qs14 q27 q170) rfl rfl rfl (by decide +kernel) hR
theorem cw0_shift {R : Room} {s : State} {args : Array Value} (hts : ∀ w ∈ lw_all, w.before args s = true) (hR : rm0_shift.frames + 1 ≤ R.frames ∧ 8 + (3 + 11) + rm0_shift.locals ≤ R.locals) : CallW R s args RX0 RX0 94 yX0_shift cX0_shift 3 none (ws_ yX0_shift cX0_shift 3 none) rm0_shift 0 0 1 := cwV 1 hts (lw_V q171 q173 qs15 q27 q174) rfl rfl rfl (by decide +kernel) hR
theorem cw0_nextProduct {R : Room} {s : State} {args : Array Value} (hts : ∀ w ∈ lw_all, w.before args s = true) (hR : rm0_nextProduct.frames + 1 ≤ R.frames ∧ 8 + (5 + 11) + rm0_nextProduct.locals ≤ R.locals) : CallW R s args RX0 RX0 97 yX0_nextProduct cX0_nextProduct 5 none (ws_ yX0_nextProduct cX0_nextProduct 5 none) rm0_nextProduct 0 0 1 := cwV 1 hts (lw_V q175 q177 qs16 q27 q178) rfl rfl rfl (by decide +kernel) hR
theorem cw0_nextDifferences {R : Room} {s : State} {args : Array Value} (hts : ∀ w ∈ lw_all, w.before args s = true) (hR : rm0_nextDifferences.frames + 1 ≤ R.frames ∧ 8 + (3 + 11) + rm0_nextDifferences.locals ≤ R.locals) : CallW R s args RX0 RX0 100 yX0_nextDifferences cX0_nextDifferences 3 none (ws_ yX0_nextDifferences cX0_nextDifferences 3 none) rm0_nextDifferences 0 0 1 := cwV 1 hts (lw_V q179 q181 qs17 q27 q182) rfl rfl rfl (by decide +kernel) hR
theorem cwL0_principal {R : Room} {s : State} {args : Array Value} (hts : ∀ w ∈ lw_all, w.before args s = true) (hR : rm0_principal.frames + 1 ≤ R.frames ∧ 8 + (3 + 11) + rm0_principal.locals ≤ R.locals) : CallW R s args "DeterminantDeskLaw" RX0 62 yX0_principal cX0_principal 3 (some .int) (ws_ yX0_principal cX0_principal 3 (some .int)) rm0_principal 0 0 1 := cwV 1 hts (lw_V q183 q184 q185 q27 q186) rfl rfl rfl (by decide +kernel) hR
theorem cwL0_rankOf {R : Room} {s : State} {args : Array Value} (hts : ∀ w ∈ lw_all, w.before args s = true) (hR : rm0_rankOf.frames + 1 ≤ R.frames ∧ 8 + (2 + 11) + rm0_rankOf.locals ≤ R.locals) : CallW R s args "DeterminantDeskLaw" RX0 66 yX0_rankOf cX0_rankOf 2 (some .int) (ws_ yX0_rankOf cX0_rankOf 2 (some .int)) rm0_rankOf 0 0 1 := cwV 1 hts (lw_V q188 q189 q190 q27 q191) rfl rfl rfl (by decide +kernel) hR
theorem cwL0_determinantWith {R : Room} {s : State} {args : Array Value} (hts : ∀ w ∈ lw_all, w.before args s = true) (hR : rm0_determinantWith.frames + 1 ≤ R.frames ∧ 8 + (6 + 11) + rm0_determinantWith.locals ≤ R.locals) : CallW R s args "DeterminantDeskLaw" RX0 70 yX0_determinantWith cX0_determinantWith 6 (some .int) (ws_ yX0_determinantWith cX0_determinantWith 6 (some .int)) rm0_determinantWith 0 0 3 := cwV 3 hts (lw_V q192 q193 q194 q27 q195) rfl rfl rfl (by decide +kernel) hR
theorem cwL0_shifted {R : Room} {s : State} {args : Array Value} (hts : ∀ w ∈ lw_all, w.before args s = true) (hR : rm0_shifted.frames + 1 ≤ R.frames ∧ 8 + (4 + 11) + rm0_shifted.locals ≤ R.locals) : CallW R s args "DeterminantDeskLaw" RX0 75 yX0_shifted cX0_shifted 4 (some .int) (ws_ yX0_shifted cX0_shifted 4 (some .int)) rm0_shifted 0 0 1 := cwV 1 hts (lw_V q197 q198 q199 q27 q200) rfl rfl rfl (by decide +kernel) hR
theorem cwL1_set {R : Room} {s : State} {args : Array Value} (hts : ∀ w ∈ lw_all, w.before args s = true) (hR : rm1_set.frames + 1 ≤ R.frames ∧ 8 + (4 + 11) + rm1_set.locals ≤ R.locals) : CallW R s args "DeterminantDeskLaw" RX1 17 yX1_set cX1_set 4 (some .boolean) (ws_ yX1_set cX1_set 4 (some .boolean)) rm1_set 0 0 3 := cwV 3 hts (lw_V q218 q219 q220 q28 q221) rfl rfl rfl (by decide +kernel) hR
theorem cw1_fits {R : Room} {s : State} {args : Array Value} (hts : ∀ w ∈ lw_all, w.before args s = true) (hR : rm1_fits.frames + 1 ≤ R.frames ∧ 8 + (4 + 11) + rm1_fits.locals ≤ R.locals) : CallW R s args RX1 RX1 24 yX1_fits cX1_fits 4 (some .boolean) (ws_ yX1_fits cX1_fits 4 (some .boolean)) rm1_fits 0 0 3 := cwV 3 hts (lw_V q222 q224 qs18 q28 q225) rfl rfl rfl (by decide +kernel) hR
theorem cw1_row {R : Room} {s : State} {args : Array Value} (hts : ∀ w ∈ lw_all, w.before args s = true) (hR : rm1_row.frames + 1 ≤ R.frames ∧ 8 + (2 + 11) + rm1_row.locals ≤ R.locals) : CallW R s args RX1 RX1 20 yX1_row cX1_row 2 (some .boolean) (ws_ yX1_row cX1_row 2 (some .boolean)) rm1_row 0 0 1 := cwV 1 hts (lw_V q226 q228 qs19 q28 q229) rfl rfl rfl (by decide +kernel) hR
theorem cwL1_at {R : Room} {s : State} {args : Array Value} (hts : ∀ w ∈ lw_all, w.before args s = true) (hR : rm1_at.frames + 1 ≤ R.frames ∧ 8 + (3 + 11) + rm1_at.locals ≤ R.locals) : CallW R s args "DeterminantDeskLaw" RX1 22 yX1_at cX1_at 3 (some .int) (ws_ yX1_at cX1_at 3 (some .int)) rm1_at 0 0 2 := cwV 2 hts (lw_V q230 q231 q232 q28 q233) rfl rfl rfl (by decide +kernel) hR
theorem cwL1_swapRows {R : Room} {s : State} {args : Array Value} (hts : ∀ w ∈ lw_all, w.before args s = true) (hR : rm1_swapRows.frames + 1 ≤ R.frames ∧ 8 + (5 + 11) + rm1_swapRows.locals ≤ R.locals) : CallW R s args "DeterminantDeskLaw" RX1 27 yX1_swapRows cX1_swapRows 5 (some .boolean) (ws_ yX1_swapRows cX1_swapRows 5 (some .boolean)) rm1_swapRows 0 0 2 := cwV 2 hts (lw_V q235 q236 q237 q28 q238) rfl rfl rfl (by decide +kernel) hR
theorem cwL1_addRow {R : Room} {s : State} {args : Array Value} (hts : ∀ w ∈ lw_all, w.before args s = true) (hR : rm1_addRow.frames + 1 ≤ R.frames ∧ 8 + (6 + 11) + rm1_addRow.locals ≤ R.locals) : CallW R s args "DeterminantDeskLaw" RX1 31 yX1_addRow cX1_addRow 6 (some .boolean) (ws_ yX1_addRow cX1_addRow 6 (some .boolean)) rm1_addRow 0 0 3 := cwV 3 hts (lw_V q239 q240 q241 q28 q242) rfl rfl rfl (by decide +kernel) hR
theorem cwL1_transpose {R : Room} {s : State} {args : Array Value} (hts : ∀ w ∈ lw_all, w.before args s = true) (hR : rm1_transpose.frames + 1 ≤ R.frames ∧ 8 + (2 + 11) + rm1_transpose.locals ≤ R.locals) : CallW R s args "DeterminantDeskLaw" RX1 35 yX1_transpose cX1_transpose 2 none (ws_ yX1_transpose cX1_transpose 2 none) rm1_transpose 0 0 0 := cwV 0 hts (lw_V q243 q244 q245 q28 q246) rfl rfl rfl (by decide +kernel) hR
theorem cw1_keep {R : Room} {s : State} {args : Array Value} (hts : ∀ w ∈ lw_all, w.before args s = true) (hR : rm1_keep.frames + 1 ≤ R.frames ∧ 8 + (2 + 11) + rm1_keep.locals ≤ R.locals) : CallW R s args RX1 RX1 29 yX1_keep cX1_keep 2 none (ws_ yX1_keep cX1_keep 2 none) rm1_keep 0 0 0 := cwV 0 hts (lw_V q247 q249 qs20 q28 q250) rfl rfl rfl (by decide +kernel) hR
theorem cw1_determinant {R : Room} {s : State} {args : Array Value} (hts : ∀ w ∈ lw_all, w.before args s = true) (hR : rm1_determinant.frames + 1 ≤ R.frames ∧ 8 + (1 + 11) + rm1_determinant.locals ≤ R.locals) : CallW R s args RX1 RX1 43 yX1_determinant cX1_determinant 1 (some .int) (ws_ yX1_determinant cX1_determinant 1 (some .int)) rm1_determinant 0 0 0 := cwV 0 hts (lw_V q275 q252 q253 q28 q254) rfl rfl rfl (by decide +kernel) hR
theorem cwL1_determinant {R : Room} {s : State} {args : Array Value} (hts : ∀ w ∈ lw_all, w.before args s = true) (hR : rm1_determinant.frames + 1 ≤ R.frames ∧ 8 + (1 + 11) + rm1_determinant.locals ≤ R.locals) : CallW R s args "DeterminantDeskLaw" RX1 40 yX1_determinant cX1_determinant 1 (some .int) (ws_ yX1_determinant cX1_determinant 1 (some .int)) rm1_determinant 0 0 0 := cwV 0 hts (lw_V q251 q252 q253 q28 q254) rfl rfl rfl (by decide +kernel) hR
theorem cw1_part {R : Room} {s : State} {args : Array Value} (hts : ∀ w ∈ lw_all, w.before args s = true) (hR : rm1_part.frames + 1 ≤ R.frames ∧ 8 + (6 + 11) + rm1_part.locals ≤ R.locals) : CallW R s args RX1 RX1 40 yX1_part cX1_part 6 (some .long) (ws_ yX1_part cX1_part 6 (some .long)) rm1_part 0 0 2 := cwV 2 hts (lw_V q255 q257 qs21 q28 q258) rfl rfl rfl (by decide +kernel) hR
theorem cw1_ones {R : Room} {s : State} {args : Array Value} (hts : ∀ w ∈ lw_all, w.before args s = true) (hR : rm1_ones.frames + 1 ≤ R.frames ∧ 8 + (4 + 11) + rm1_ones.locals ≤ R.locals) : CallW R s args RX1 RX1 32 yX1_ones cX1_ones 4 (some .int) (ws_ yX1_ones cX1_ones 4 (some .int)) rm1_ones 0 0 1 := cwV 1 hts (lw_V q259 q261 qs22 q28 q262) rfl rfl rfl (by decide +kernel) hR
theorem cw1_expand {R : Room} {s : State} {args : Array Value} (hts : ∀ w ∈ lw_all, w.before args s = true) (hR : rm1_expand.frames + 1 ≤ R.frames ∧ 8 + (8 + 11) + rm1_expand.locals ≤ R.locals) : CallW R s args RX1 RX1 36 yX1_expand cX1_expand 8 (some .long) (ws_ yX1_expand cX1_expand 8 (some .long)) rm1_expand 0 0 2 := cwV 2 hts (lw_V q263 q265 qs23 q28 q266) rfl rfl rfl (by decide +kernel) hR
theorem cwL1_minor {R : Room} {s : State} {args : Array Value} (hts : ∀ w ∈ lw_all, w.before args s = true) (hR : rm1_minor.frames + 1 ≤ R.frames ∧ 8 + (3 + 11) + rm1_minor.locals ≤ R.locals) : CallW R s args "DeterminantDeskLaw" RX1 44 yX1_minor cX1_minor 3 (some .int) (ws_ yX1_minor cX1_minor 3 (some .int)) rm1_minor 0 0 2 := cwV 2 hts (lw_V q267 q268 q269 q28 q270) rfl rfl rfl (by decide +kernel) hR
theorem cwL1_replaced {R : Room} {s : State} {args : Array Value} (hts : ∀ w ∈ lw_all, w.before args s = true) (hR : rm1_replaced.frames + 1 ≤ R.frames ∧ 8 + (3 + 11) + rm1_replaced.locals ≤ R.locals) : CallW R s args "DeterminantDeskLaw" RX1 49 yX1_replaced cX1_replaced 3 (some .int) (ws_ yX1_replaced cX1_replaced 3 (some .int)) rm1_replaced 0 0 1 := cwV 1 hts (lw_V q271 q272 q273 q28 q274) rfl rfl rfl (by decide +kernel) hR
theorem cw1_restore {R : Room} {s : State} {args : Array Value} (hts : ∀ w ∈ lw_all, w.before args s = true) (hR : rm1_restore.frames + 1 ≤ R.frames ∧ 8 + (2 + 11) + rm1_restore.locals ≤ R.locals) : CallW R s args RX1 RX1 47 yX1_restore cX1_restore 2 none (ws_ yX1_restore cX1_restore 2 none) rm1_restore 0 0 0 := cwV 0 hts (lw_V q276 q278 qs24 q28 q279) rfl rfl rfl (by decide +kernel) hR
theorem cwL1_rank {R : Room} {s : State} {args : Array Value} (hts : ∀ w ∈ lw_all, w.before args s = true) (hR : rm1_rank.frames + 1 ≤ R.frames ∧ 8 + (1 + 11) + rm1_rank.locals ≤ R.locals) : CallW R s args "DeterminantDeskLaw" RX1 53 yX1_rank cX1_rank 1 (some .int) (ws_ yX1_rank cX1_rank 1 (some .int)) rm1_rank 0 0 0 := cwV 0 hts (lw_V q280 q281 q282 q28 q283) rfl rfl rfl (by decide +kernel) hR
theorem cw1_rankIn {R : Room} {s : State} {args : Array Value} (hts : ∀ w ∈ lw_all, w.before args s = true) (hR : rm1_rankIn.frames + 1 ≤ R.frames ∧ 8 + (7 + 11) + rm1_rankIn.locals ≤ R.locals) : CallW R s args RX1 RX1 50 yX1_rankIn cX1_rankIn 7 (some .int) (ws_ yX1_rankIn cX1_rankIn 7 (some .int)) rm1_rankIn 0 0 2 := cwV 2 hts (lw_V q284 q286 qs25 q28 q287) rfl rfl rfl (by decide +kernel) hR
theorem cwL1_wideRank {R : Room} {s : State} {args : Array Value} (hts : ∀ w ∈ lw_all, w.before args s = true) (hR : rm1_wideRank.frames + 1 ≤ R.frames ∧ 8 + (1 + 11) + rm1_wideRank.locals ≤ R.locals) : CallW R s args "DeterminantDeskLaw" RX1 57 yX1_wideRank cX1_wideRank 1 (some .int) (ws_ yX1_wideRank cX1_wideRank 1 (some .int)) rm1_wideRank 0 0 0 := cwV 0 hts (lw_V q288 q289 q290 q28 q291) rfl rfl rfl (by decide +kernel) hR
theorem cwL1_coefficient {R : Room} {s : State} {args : Array Value} (hts : ∀ w ∈ lw_all, w.before args s = true) (hR : rm1_coefficient.frames + 1 ≤ R.frames ∧ 8 + (3 + 11) + rm1_coefficient.locals ≤ R.locals) : CallW R s args "DeterminantDeskLaw" RX1 61 yX1_coefficient cX1_coefficient 3 (some .int) (ws_ yX1_coefficient cX1_coefficient 3 (some .int)) rm1_coefficient 0 0 1 := cwV 1 hts (lw_V q292 q293 q294 q28 q295) rfl rfl rfl (by decide +kernel) hR
theorem cw1_principal {R : Room} {s : State} {args : Array Value} (hts : ∀ w ∈ lw_all, w.before args s = true) (hR : rm1_principal.frames + 1 ≤ R.frames ∧ 8 + (5 + 11) + rm1_principal.locals ≤ R.locals) : CallW R s args RX1 RX1 54 yX1_principal cX1_principal 5 (some .int) (ws_ yX1_principal cX1_principal 5 (some .int)) rm1_principal 0 0 1 := cwV 1 hts (lw_V q296 q297 q298 q28 q299) rfl rfl rfl (by decide +kernel) hR
theorem cwL1_principal {R : Room} {s : State} {args : Array Value} (hts : ∀ w ∈ lw_all, w.before args s = true) (hR : rm1_principal.frames + 1 ≤ R.frames ∧ 8 + (5 + 11) + rm1_principal.locals ≤ R.locals) : CallW R s args "DeterminantDeskLaw" RX1 65 yX1_principal cX1_principal 5 (some .int) (ws_ yX1_principal cX1_principal 5 (some .int)) rm1_principal 0 0 1 := cwV 1 hts (lw_V q300 q297 q298 q28 q299) rfl rfl rfl (by decide +kernel) hR
theorem cwL1_rankOf {R : Room} {s : State} {args : Array Value} (hts : ∀ w ∈ lw_all, w.before args s = true) (hR : rm1_rankOf.frames + 1 ≤ R.frames ∧ 8 + (2 + 11) + rm1_rankOf.locals ≤ R.locals) : CallW R s args "DeterminantDeskLaw" RX1 69 yX1_rankOf cX1_rankOf 2 (some .int) (ws_ yX1_rankOf cX1_rankOf 2 (some .int)) rm1_rankOf 0 0 1 := cwV 1 hts (lw_V q301 q302 q303 q28 q304) rfl rfl rfl (by decide +kernel) hR
theorem cwL1_determinantWith {R : Room} {s : State} {args : Array Value} (hts : ∀ w ∈ lw_all, w.before args s = true) (hR : rm1_determinantWith.frames + 1 ≤ R.frames ∧ 8 + (6 + 11) + rm1_determinantWith.locals ≤ R.locals) : CallW R s args "DeterminantDeskLaw" RX1 74 yX1_determinantWith cX1_determinantWith 6 (some .int) (ws_ yX1_determinantWith cX1_determinantWith 6 (some .int)) rm1_determinantWith 0 0 3 := cwV 3 hts (lw_V q305 q306 q307 q28 q308) rfl rfl rfl (by decide +kernel) hR
theorem cwL1_shifted {R : Room} {s : State} {args : Array Value} (hts : ∀ w ∈ lw_all, w.before args s = true) (hR : rm1_shifted.frames + 1 ≤ R.frames ∧ 8 + (3 + 11) + rm1_shifted.locals ≤ R.locals) : CallW R s args "DeterminantDeskLaw" RX1 78 yX1_shifted cX1_shifted 3 (some .int) (ws_ yX1_shifted cX1_shifted 3 (some .int)) rm1_shifted 0 0 1 := cwV 1 hts (lw_V q309 q310 q311 q28 q312) rfl rfl rfl (by decide +kernel) hR
theorem iI_inc1 (j : Nat) : iI (j : Int) + Int32.ofInt 1 = iI ((j + 1 : Nat) : Int) := iI_add j 1
end
section
set_option maxRecDepth 100000
abbrev psS_isRow (i : Int) : Int → Prop := fun r => (r = 1 ∧ 0 ≤ i ∧ i < 4) ∨ (r = 0 ∧ (i < 0 ∨ 4 ≤ i))
set_option maxHeartbeats 4000000 in
set_option maxRecDepth 100000 in
theorem met0_isRow (l : Launch) (i : Int) (hi : -2147483648 ≤ i ∧ i < 2147483648) : MSi l yX0_isRow cX0_isRow 1 (some .boolean) rm0_isRow [.int (iI i)] (psS_isRow i) := by
  refine MSi.of (by decide) rfl (Nat.le_of_ble_eq_true rfl) ?_
  intro p e s m args below meth c ls C hr hlocks hl
  have hx := C.1
  have hb := C.2.1
  have hl : lv_has ls 1 [(0, .int (iI i))] := hl
  refine lv_iload_n hx hb dX0_isRow_0 rfl (lv_at hl 0 rfl) ?_
  refine z_if_lt hx hb 13 dX0_isRow_1 (by decide) (by omega) (fun c_1 => ?_) (fun c_1 => ?_)
  · refine z_iconst hx hb dX0_isRow_13 ?_
    exact rS_z C hr hlocks (by omega) (by omega) dX0_isRow_14
  · refine lv_iload_n hx hb dX0_isRow_4 rfl (lv_at hl 0 rfl) ?_
    refine z_iconst hx hb dX0_isRow_5 ?_
    refine z_icmp_ge hx hb 13 dX0_isRow_6 (by decide) (by omega) (by omega) (fun c_2 => ?_) (fun c_2 => ?_)
    · refine z_iconst hx hb dX0_isRow_13 ?_
      exact rS_z C hr hlocks (by omega) (by omega) dX0_isRow_14
    · refine z_iconst hx hb dX0_isRow_9 ?_
      refine lv_goto (tgt := 14) hx hb dX0_isRow_10 (by decide) ?_
      exact rS_z C hr hlocks (by omega) (by omega) dX0_isRow_14
abbrev psS_isNumber (i : Int) : Int → Prop := fun r => (r = 1 ∧ -50 ≤ i ∧ i ≤ 50) ∨ (r = 0 ∧ (i < -50 ∨ 50 < i))
set_option maxHeartbeats 4000000 in
set_option maxRecDepth 100000 in
theorem met0_isNumber (l : Launch) (i : Int) (hi : -2147483648 ≤ i ∧ i < 2147483648) : MSi l yX0_isNumber cX0_isNumber 1 (some .boolean) rm0_isNumber [.int (iI i)] (psS_isNumber i) := by
  refine MSi.of (by decide) rfl (Nat.le_of_ble_eq_true rfl) ?_
  intro p e s m args below meth c ls C hr hlocks hl
  have hx := C.1
  have hb := C.2.1
  have hl : lv_has ls 1 [(0, .int (iI i))] := hl
  refine lv_iload_n hx hb dX0_isNumber_0 rfl (lv_at hl 0 rfl) ?_
  refine z_bipush hx hb dX0_isNumber_1 (by decide +kernel) ?_
  refine z_icmp_lt hx hb 16 dX0_isNumber_3 (by decide) (by omega) (by omega) (fun c_1 => ?_) (fun c_1 => ?_)
  · refine z_iconst hx hb dX0_isNumber_16 ?_
    exact rS_z C hr hlocks (by omega) (by omega) dX0_isNumber_17
  · refine lv_iload_n hx hb dX0_isNumber_6 rfl (lv_at hl 0 rfl) ?_
    refine z_bipush hx hb dX0_isNumber_7 (by decide +kernel) ?_
    refine z_icmp_gt hx hb 16 dX0_isNumber_9 (by decide) (by omega) (by omega) (fun c_2 => ?_) (fun c_2 => ?_)
    · refine z_iconst hx hb dX0_isNumber_16 ?_
      exact rS_z C hr hlocks (by omega) (by omega) dX0_isNumber_17
    · refine z_iconst hx hb dX0_isNumber_12 ?_
      refine lv_goto (tgt := 17) hx hb dX0_isNumber_13 (by decide) ?_
      exact rS_z C hr hlocks (by omega) (by omega) dX0_isNumber_17
theorem em_neg {y p : Int} (hp : 0 < p) (h : Int.tmod y p < 0) : Int.tmod y p + p = y % p := by
  have h1 := Int.tmod_eq_emod (a := y) (b := p)
  have h2 := Int.emod_lt_of_pos y hp
  have h3 := Int.emod_nonneg y (Int.ne_of_gt hp)
  by_cases q : 0 ≤ y ∨ p ∣ y
  · rw [if_pos q] at h1; omega
  · rw [if_neg q] at h1
    have : (p.natAbs : Int) = p := by omega
    omega
theorem em_pos {y p : Int} (hp : 0 < p) (h : 0 ≤ Int.tmod y p) : Int.tmod y p = y % p := by
  have h1 := Int.tmod_eq_emod (a := y) (b := p)
  have h2 := Int.emod_lt_of_pos y hp
  have h3 := Int.emod_nonneg y (Int.ne_of_gt hp)
  by_cases q : 0 ≤ y ∨ p ∣ y
  · rw [if_pos q] at h1; omega
  · rw [if_neg q] at h1
    have : (p.natAbs : Int) = p := by omega
    omega
theorem em_bd {y p : Int} (hp : 0 < p) : -p < Int.tmod y p ∧ Int.tmod y p < p := by
  have h1 := Int.tmod_eq_emod (a := y) (b := p)
  have h2 := Int.emod_lt_of_pos y hp
  have h3 := Int.emod_nonneg y (Int.ne_of_gt hp)
  have h4 : (p.natAbs : Int) = p := by omega
  by_cases q : 0 ≤ y ∨ p ∣ y
  · rw [if_pos q] at h1; omega
  · rw [if_neg q] at h1
    have h5 : y % p ≠ 0 := fun h => q (Or.inr (Int.dvd_of_emod_eq_zero h))
    omega
abbrev ps0_reduce (y : Int) (z : Nat → Int) (pr : Int) (w : Nat → Int) (v : Nat → Int) (q : Nat → Int) (u : Nat → Int) : Int → (Nat → Int) → Int → (Nat → Int) → (Nat → Int) → (Nat → Int) → (Nat → Int) → Prop := fun r z1 pr1 w1 v1 q1 u1 => y % pr = r ∧ z = z1 ∧ pr = pr1 ∧ w = w1 ∧ v = v1 ∧ q = q1 ∧ u = u1
set_option maxHeartbeats 4000000 in
set_option maxRecDepth 100000 in
theorem met0_reduce (l : Launch) (y : Int) (z : Nat → Int) (pr : Int) (w : Nat → Int) (v : Nat → Int) (q : Nat → Int) (u : Nat → Int) (hp : pr = 32749 ∨ pr = 32719) (hy : -2147483648 ≤ y ∧ y < 2147483648) : M0i l yX0_reduce cX0_reduce 3 (some .int) rm0_reduce [.int (iI y)] z pr w v q u (ps0_reduce y z pr w v q u) := by
  refine M0i.of (by decide) rfl (fun _ => Nat.le_of_ble_eq_true rfl) ?_
  intro p e s m args below meth c D a ca A ls C hr hlocks hA hl hI
  have hx := C.1
  have hb := C.2.1
  have hl : lv_has ls 3 [(0, .ref (a 0)), (1, .int (iI y))] := hl
  have hp0 : 0 < pr ∧ pr < 40000 := by omega
  have hm := em_bd (y := y) hp0.1
  refine lv_aload_n hx hb dX0_reduce_0 rfl (lv_at hl 0 rfl) ?_
  refine g0_prime C hI dX0_reduce_1 ?_
  refine z_if_le hx hb 16 dX0_reduce_4 (by decide) (by omega) (fun c_1 => ?_) (fun c_1 => ?_)
  · exfalso; omega
  · refine lv_iload_n hx hb dX0_reduce_7 rfl (lv_at hl 1 rfl) ?_
    refine lv_aload_n hx hb dX0_reduce_8 rfl (lv_at hl 0 rfl) ?_
    refine g0_prime C hI dX0_reduce_9 ?_
    refine z_irem hx hb dX0_reduce_12 (by omega) (by omega) ?_
    refine lv_goto (tgt := 17) hx hb dX0_reduce_13 (by decide) ?_
    refine lv_istore_n (lv' := [(2, .int (iI (Int.tmod y pr))), (0, .ref (a 0)), (1, .int (iI y))]) hx hb dX0_reduce_17 rfl hl (by decide) rfl (fun ls hl => ?_)
    refine lv_iload_n hx hb dX0_reduce_18 rfl (lv_at hl 0 rfl) ?_
    refine z_if_ge hx hb 31 dX0_reduce_19 (by decide) (by omega) (fun c_2 => ?_) (fun c_2 => ?_)
    · refine lv_iload_n hx hb dX0_reduce_31 rfl (lv_at hl 0 rfl) ?_
      exact r0_i C hr hlocks hI (⟨(em_pos hp0.1 (by omega)).symm, rfl, rfl, rfl, rfl, rfl, rfl⟩) dX0_reduce_32
    · refine lv_iload_n hx hb dX0_reduce_22 rfl (lv_at hl 0 rfl) ?_
      refine lv_aload_n hx hb dX0_reduce_23 rfl (lv_at hl 1 rfl) ?_
      refine g0_prime C hI dX0_reduce_24 ?_
      refine z_iadd hx hb dX0_reduce_27 ?_
      refine lv_goto (tgt := 32) hx hb dX0_reduce_28 (by decide) ?_
      exact r0_i C hr hlocks hI (⟨(em_neg hp0.1 (by omega)).symm, rfl, rfl, rfl, rfl, rfl, rfl⟩) dX0_reduce_32
theorem mul_bd {a b p : Int} (ha : 0 ≤ a ∧ a < p) (hb : 0 ≤ b ∧ b < p) (hp : p ≤ 32749) : 0 ≤ a * b ∧ a * b < 1073741824 := by
  have h1 : a * b ≤ 32749 * 32749 := Int.mul_le_mul (by omega) (by omega) hb.1 (by omega)
  have h2 := Int.mul_nonneg ha.1 hb.1
  omega
theorem em_in {y p : Int} (hp : 0 < p) : 0 ≤ y % p ∧ y % p < p := ⟨Int.emod_nonneg y (Int.ne_of_gt hp), Int.emod_lt_of_pos y hp⟩
abbrev ps0_times (x1 : Int) (x2 : Int) (z : Nat → Int) (pr : Int) (w : Nat → Int) (v : Nat → Int) (q : Nat → Int) (u : Nat → Int) : Int → (Nat → Int) → Int → (Nat → Int) → (Nat → Int) → (Nat → Int) → (Nat → Int) → Prop := fun r z1 pr1 w1 v1 q1 u1 => x1 * x2 % pr = r ∧ z = z1 ∧ pr = pr1 ∧ w = w1 ∧ v = v1 ∧ q = q1 ∧ u = u1
set_option maxHeartbeats 4000000 in
set_option maxRecDepth 100000 in
theorem met0_times (l : Launch) (x1 : Int) (x2 : Int) (z : Nat → Int) (pr : Int) (w : Nat → Int) (v : Nat → Int) (q : Nat → Int) (u : Nat → Int) (hp : pr = 32749 ∨ pr = 32719) (h1 : 0 ≤ x1 ∧ x1 < pr) (h2 : 0 ≤ x2 ∧ x2 < pr) : M0i l yX0_times cX0_times 3 (some .int) rm0_times [.int (iI x1), .int (iI x2)] z pr w v q u (ps0_times x1 x2 z pr w v q u) := by
  refine M0i.of (by decide) rfl (fun _ => Nat.le_of_ble_eq_true rfl) ?_
  intro p e s m args below meth c D a ca A ls C hr hlocks hA hl hI
  have hx := C.1
  have hb := C.2.1
  have hl : lv_has ls 3 [(0, .ref (a 0)), (1, .int (iI x1)), (2, .int (iI x2))] := hl
  have hm := mul_bd h1 h2 (by omega)
  refine lv_aload_n hx hb dX0_times_0 rfl (lv_at hl 0 rfl) ?_
  refine lv_iload_n hx hb dX0_times_1 rfl (lv_at hl 1 rfl) ?_
  refine lv_iload_n hx hb dX0_times_2 rfl (lv_at hl 2 rfl) ?_
  refine z_imul hx hb dX0_times_3 ?_
  refine c0_i (As := [.int (iI (x1 * x2))]) C hA hI (met0_reduce l (x1 * x2) z pr w v q u hp (by omega)) (cw0_reduce C.2.2.2.2 ⟨Nat.le_of_ble_eq_true rfl, Nat.le_of_ble_eq_true rfl⟩) rfl hl.1 rfl (Nat.le_of_ble_eq_true rfl) dX0_times_4 ⟨Nat.le_refl _, Nat.le_refl _⟩ (fun r_1 z_1 pr_1 w_1 v_1 q_1 u_1 H locs hp_1 hI => ?_)
  obtain ⟨rfl, rfl, rfl, rfl, rfl, rfl, rfl⟩ := hp_1
  exact r0_i C hr hlocks hI (⟨rfl, rfl, rfl, rfl, rfl, rfl, rfl⟩) dX0_times_7
end
section
set_option maxRecDepth 100000
abbrev ps0_inverse (x1 : Int) (z : Nat → Int) (pr : Int) (w : Nat → Int) (v : Nat → Int) (q : Nat → Int) (u : Nat → Int) : Int → (Nat → Int) → Int → (Nat → Int) → (Nat → Int) → (Nat → Int) → (Nat → Int) → Prop := fun r z1 pr1 w1 v1 q1 u1 => (0 ≤ r ∧ r < pr ∧ (x1 ≠ 0 → x1 * r % pr = 1)) ∧ z = z1 ∧ pr = pr1 ∧ w = w1 ∧ v = v1 ∧ q = q1 ∧ u = u1
set_option maxHeartbeats 4000000 in
set_option maxRecDepth 100000 in
theorem met0_inverse (l : Launch) (x1 : Int) (z : Nat → Int) (pr : Int) (w : Nat → Int) (v : Nat → Int) (q : Nat → Int) (u : Nat → Int) (hp : pr = 32749 ∨ pr = 32719) (h1 : 0 ≤ x1 ∧ x1 < pr) : M0i l yX0_inverse cX0_inverse 5 (some .int) rm0_inverse [.int (iI x1)] z pr w v q u (ps0_inverse x1 z pr w v q u) := by
  refine M0i.of (by decide) rfl (fun _ => Nat.le_of_ble_eq_true rfl) ?_
  intro p e s m args below meth c D a ca A ls C hr hlocks hA hl hI
  have hx := C.1
  have hb := C.2.1
  have hl : lv_has ls 5 [(0, .ref (a 0)), (1, .int (iI x1))] := hl
  have hp0 : 0 < pr ∧ pr ≤ 32749 := by omega
  have hpr2 : pr - 2 = ((pr.toNat - 2 : Nat) : Int) := by omega
  refine z_iconst hx hb dX0_inverse_0 ?_
  refine lv_istore_n (lv' := [(2, .int (iI 1)), (0, .ref (a 0)), (1, .int (iI x1))]) hx hb dX0_inverse_1 rfl hl (by decide) rfl (fun ls hl => ?_)
  refine lv_iload_n hx hb dX0_inverse_2 rfl (lv_at hl 2 rfl) ?_
  refine lv_istore_n (lv' := [(3, .int (iI x1)), (2, .int (iI 1)), (0, .ref (a 0)), (1, .int (iI x1))]) hx hb dX0_inverse_3 rfl hl (by decide) rfl (fun ls hl => ?_)
  refine z_iconst hx hb dX0_inverse_4 ?_
  refine lv_istore (lv' := [(4, .int (iI 0)), (3, .int (iI x1)), (2, .int (iI 1)), (0, .ref (a 0)), (1, .int (iI x1))]) hx hb dX0_inverse_5 hl (by decide) rfl (fun ls hl => ?_)
  have lp_7 : ∀ (n_7 : Nat) (k : Nat) (rr : Int) (ww : Int), (hf_7 : 15 < k + n_7) → (hk : k ≤ 15) → (hrr : rr = x1 ^ ((pr.toNat - 2) % 2 ^ k) % pr) → (hww : ww = x1 ^ (2 ^ k) % pr) → ∀ (H : Heap) (locs : List Loc), I0 D A s a ca z pr w v q u H locs → ∀ (ls : Array Slot), lv_has ls 5 [(0, .ref (a 0)), (1, .int (iI x1)), (2, .int (iI rr)), (3, .int (iI ww)), (4, .int (iI (k : Int)))] → W p l e rm0_inverse s m args below meth c H locs 0 0 (E0i D a ca A (ps0_inverse x1 z pr w v q u) below args s) (F0 m 7 ls []) := by
    intro n_7
    induction n_7 with
    | zero =>
      intro k rr ww hf_7 hk hrr hww H locs hI ls hl
      exfalso; omega
    | succ n_7 ih_7 =>
      intro k rr ww hf_7 hk hrr hww H locs hI ls hl
      have br : 0 ≤ rr ∧ rr < pr := by rw [hrr]; exact em_in hp0.1
      have bw : 0 ≤ ww ∧ ww < pr := by rw [hww]; exact em_in hp0.1
      have hbt : (pr.toNat - 2) / 2 ^ k < 2 ^ 31 := Nat.lt_of_le_of_lt (Nat.div_le_self _ _) (by omega)
      refine lv_iload hx hb dX0_inverse_7 (lv_at hl 4 rfl) ?_
      refine z_bipush hx hb dX0_inverse_9 (by decide +kernel) ?_
      refine z_icmp_ge hx hb 48 dX0_inverse_11 (by decide) (by omega) (by omega) (fun c_1 => ?_) (fun c_1 => ?_)
      · refine lv_iload_n hx hb dX0_inverse_48 rfl (lv_at hl 2 rfl) ?_
        have hk15 : k = 15 := by omega
        exact r0_i C hr hlocks hI (⟨⟨br.1, br.2, fun h0 => by subst hk15; rw [hrr, Nat.mod_eq_of_lt (by omega)]; exact fm_invZ hp h1 h0⟩, rfl, rfl, rfl, rfl, rfl, rfl⟩) dX0_inverse_49
      · refine lv_aload_n hx hb dX0_inverse_14 rfl (lv_at hl 0 rfl) ?_
        refine g0_prime C hI dX0_inverse_15 ?_
        refine z_iconst hx hb dX0_inverse_18 ?_
        refine z_isub hx hb dX0_inverse_19 ?_
        refine lv_iload hx hb dX0_inverse_20 (lv_at hl 4 rfl) ?_
        refine z_ishr hx hb (((pr.toNat - 2) / 2 ^ k : Nat) : Int) dX0_inverse_22 (by rw [hpr2]; exact iI_shr (by omega) (by omega)) ?_
        refine z_iconst hx hb dX0_inverse_23 ?_
        refine z_iand hx hb (((pr.toNat - 2) / 2 ^ k % 2 : Nat) : Int) dX0_inverse_24 (iI_and1 hbt) ?_
        refine z_if_eq hx hb 35 dX0_inverse_25 (by decide) (by omega) (fun c_2 => ?_) (fun c_2 => ?_)
        · refine lv_aload_n hx hb dX0_inverse_35 rfl (lv_at hl 0 rfl) ?_
          refine lv_iload_n hx hb dX0_inverse_36 rfl (lv_at hl 3 rfl) ?_
          refine lv_iload_n hx hb dX0_inverse_37 rfl (lv_at hl 3 rfl) ?_
          refine c0_i (As := [.int (iI ww), .int (iI ww)]) C hA hI (met0_times l ww ww z pr w v q u hp bw bw) (cw0_times C.2.2.2.2 ⟨Nat.le_of_ble_eq_true rfl, Nat.le_of_ble_eq_true rfl⟩) rfl hl.1 rfl (Nat.le_of_ble_eq_true rfl) dX0_inverse_38 ⟨Nat.le_refl _, Nat.le_refl _⟩ (fun r_3 z_3 pr_3 w_3 v_3 q_3 u_3 H locs hp_3 hI => ?_)
          obtain ⟨rfl, rfl, rfl, rfl, rfl, rfl, rfl⟩ := hp_3
          refine lv_istore_n (lv' := [(3, .int (iI (ww * ww % pr))), (0, .ref (a 0)), (1, .int (iI x1)), (2, .int (iI rr)), (4, .int (iI (k : Int)))]) hx hb dX0_inverse_41 rfl hl (by decide) rfl (fun ls hl => ?_)
          refine lv_iinc (v := iI ((k + 1 : Nat) : Int)) (lv' := [(4, .int (iI ((k + 1 : Nat) : Int))), (3, .int (iI (ww * ww % pr))), (0, .ref (a 0)), (1, .int (iI x1)), (2, .int (iI rr))]) hx hb dX0_inverse_42 hl (k := 4) rfl (iI_inc1 _) (by decide) rfl (fun ls hl => ?_)
          refine lv_goto (tgt := 7) hx hb dX0_inverse_45 (by decide) ?_
          exact ih_7 (k + 1) rr (ww * ww % pr) (by omega) (by omega) (by rw [hrr]; exact pw_not (by omega)) (by rw [hww]; exact pw_sq) _ _ hI ls (lv_sub hl [2, 3, 4, 1, 0] rfl)
        · refine lv_aload_n hx hb dX0_inverse_28 rfl (lv_at hl 0 rfl) ?_
          refine lv_iload_n hx hb dX0_inverse_29 rfl (lv_at hl 2 rfl) ?_
          refine lv_iload_n hx hb dX0_inverse_30 rfl (lv_at hl 3 rfl) ?_
          refine c0_i (As := [.int (iI rr), .int (iI ww)]) C hA hI (met0_times l rr ww z pr w v q u hp br bw) (cw0_times C.2.2.2.2 ⟨Nat.le_of_ble_eq_true rfl, Nat.le_of_ble_eq_true rfl⟩) rfl hl.1 rfl (Nat.le_of_ble_eq_true rfl) dX0_inverse_31 ⟨Nat.le_refl _, Nat.le_refl _⟩ (fun r_4 z_4 pr_4 w_4 v_4 q_4 u_4 H locs hp_4 hI => ?_)
          obtain ⟨rfl, rfl, rfl, rfl, rfl, rfl, rfl⟩ := hp_4
          refine lv_istore_n (lv' := [(2, .int (iI (rr * ww % pr))), (0, .ref (a 0)), (1, .int (iI x1)), (3, .int (iI ww)), (4, .int (iI (k : Int)))]) hx hb dX0_inverse_34 rfl hl (by decide) rfl (fun ls hl => ?_)
          refine lv_aload_n hx hb dX0_inverse_35 rfl (lv_at hl 1 rfl) ?_
          refine lv_iload_n hx hb dX0_inverse_36 rfl (lv_at hl 3 rfl) ?_
          refine lv_iload_n hx hb dX0_inverse_37 rfl (lv_at hl 3 rfl) ?_
          refine c0_i (As := [.int (iI ww), .int (iI ww)]) C hA hI (met0_times l ww ww z pr w v q u hp bw bw) (cw0_times C.2.2.2.2 ⟨Nat.le_of_ble_eq_true rfl, Nat.le_of_ble_eq_true rfl⟩) rfl hl.1 rfl (Nat.le_of_ble_eq_true rfl) dX0_inverse_38 ⟨Nat.le_refl _, Nat.le_refl _⟩ (fun r_5 z_5 pr_5 w_5 v_5 q_5 u_5 H locs hp_5 hI => ?_)
          obtain ⟨rfl, rfl, rfl, rfl, rfl, rfl, rfl⟩ := hp_5
          refine lv_istore_n (lv' := [(3, .int (iI (ww * ww % pr))), (2, .int (iI (rr * ww % pr))), (0, .ref (a 0)), (1, .int (iI x1)), (4, .int (iI (k : Int)))]) hx hb dX0_inverse_41 rfl hl (by decide) rfl (fun ls hl => ?_)
          refine lv_iinc (v := iI ((k + 1 : Nat) : Int)) (lv' := [(4, .int (iI ((k + 1 : Nat) : Int))), (3, .int (iI (ww * ww % pr))), (2, .int (iI (rr * ww % pr))), (0, .ref (a 0)), (1, .int (iI x1))]) hx hb dX0_inverse_42 hl (k := 4) rfl (iI_inc1 _) (by decide) rfl (fun ls hl => ?_)
          refine lv_goto (tgt := 7) hx hb dX0_inverse_45 (by decide) ?_
          exact ih_7 (k + 1) (rr * ww % pr) (ww * ww % pr) (by omega) (by omega) (by rw [hrr, hww]; exact pw_set (by omega)) (by rw [hww]; exact pw_sq) _ _ hI ls (lv_sub hl [3, 4, 2, 1, 0] rfl)
  exact lp_7 16 0 1 x1 (by omega) (by omega) (by rcases hp with rfl | rfl <;> simp) (by rw [Nat.pow_zero, Int.pow_one]; exact (Int.emod_eq_of_lt h1.1 h1.2).symm) _ _ hI ls (lv_sub hl [3, 4, 2, 1, 0] rfl)
abbrev ps0_load (x1 : Int) (z : Nat → Int) (pr : Int) (w : Nat → Int) (v : Nat → Int) (q : Nat → Int) (u : Nat → Int) : (Nat → Int) → Int → (Nat → Int) → (Nat → Int) → (Nat → Int) → (Nat → Int) → Prop := fun z1 pr1 w1 v1 q1 u1 => z = z1 ∧ x1 = pr1 ∧ (fun k => z k % x1) = w1 ∧ v = v1 ∧ q = q1 ∧ u = u1
set_option maxHeartbeats 4000000 in
set_option maxRecDepth 100000 in
theorem met0_load (l : Launch) (x1 : Int) (z : Nat → Int) (pr : Int) (w : Nat → Int) (v : Nat → Int) (q : Nat → Int) (u : Nat → Int) (hp : x1 = 32749 ∨ x1 = 32719) (hz : ∀ k, k < 20 → -50 ≤ z k ∧ z k ≤ 50) : M0v l yX0_load cX0_load 3 none rm0_load [.int (iI x1)] z pr w v q u (ps0_load x1 z pr w v q u) := by
  refine M0v.of (by decide) rfl (fun _ => Nat.le_of_ble_eq_true rfl) ?_
  intro p e s m args below meth c D a ca A ls C hr hlocks hA hl hI
  have hx := C.1
  have hb := C.2.1
  have hl : lv_has ls 3 [(0, .ref (a 0)), (1, .int (iI x1))] := hl
  refine lv_aload_n hx hb dX0_load_0 rfl (lv_at hl 0 rfl) ?_
  refine lv_iload_n hx hb dX0_load_1 rfl (lv_at hl 1 rfl) ?_
  refine p0_prime C hI dX0_load_2 (fun H locs hI => ?_)
  refine z_iconst hx hb dX0_load_5 ?_
  refine lv_istore_n (lv' := [(2, .int (iI 0)), (0, .ref (a 0)), (1, .int (iI x1))]) hx hb dX0_load_6 rfl hl (by decide) rfl (fun ls hl => ?_)
  have lp_7 : ∀ (n_7 : Nat) (k : Nat) (g : Nat → Int), (hf_7 : 20 < k + n_7) → (hk : k ≤ 20) → (hg : ∀ j, j < k → g j = z j % x1) → ∀ (H : Heap) (locs : List Loc), I0 D A s a ca z x1 g v q u H locs → ∀ (ls : Array Slot), lv_has ls 3 [(0, .ref (a 0)), (1, .int (iI x1)), (2, .int (iI (k : Int)))] → W p l e rm0_load s m args below meth c H locs 0 0 (E0v D a ca A (ps0_load x1 z pr w v q u) below args s) (F0 m 7 ls []) := by
    intro n_7
    induction n_7 with
    | zero =>
      intro k g hf_7 hk hg H locs hI ls hl
      exfalso; omega
    | succ n_7 ih_7 =>
      intro k g hf_7 hk hg H locs hI ls hl
      refine lv_iload_n hx hb dX0_load_7 rfl (lv_at hl 2 rfl) ?_
      refine z_bipush hx hb dX0_load_8 (by decide +kernel) ?_
      refine z_icmp_ge hx hb 35 dX0_load_10 (by decide) (by omega) (by omega) (fun c_1 => ?_) (fun c_1 => ?_)
      · have hI := hI.cw (fun k => z k % x1) (fun j hj => hg j (by omega))
        exact r0_v C hr hlocks hI (⟨rfl, rfl, rfl, rfl, rfl, rfl⟩) dX0_load_35
      · have hzk := hz k (by omega)
        refine lv_aload_n hx hb dX0_load_13 rfl (lv_at hl 0 rfl) ?_
        refine g0_work C hI dX0_load_14 ?_
        refine lv_iload_n hx hb dX0_load_17 rfl (lv_at hl 2 rfl) ?_
        refine lv_aload_n hx hb dX0_load_18 rfl (lv_at hl 0 rfl) ?_
        refine lv_aload_n hx hb dX0_load_19 rfl (lv_at hl 0 rfl) ?_
        refine g0_num C hI dX0_load_20 ?_
        refine lv_iload_n hx hb dX0_load_23 rfl (lv_at hl 2 rfl) ?_
        refine l0_z C hI k (by omega) (by omega) dX0_load_24 ?_
        refine c0_i (As := [.int (iI (z k))]) C hA hI (met0_reduce l (z k) z x1 g v q u hp (by omega)) (cw0_reduce C.2.2.2.2 ⟨Nat.le_of_ble_eq_true rfl, Nat.le_of_ble_eq_true rfl⟩) rfl hl.1 rfl (Nat.le_of_ble_eq_true rfl) dX0_load_25 ⟨Nat.le_refl _, Nat.le_refl _⟩ (fun r_2 z_2 pr_2 w_2 v_2 q_2 u_2 H locs hp_2 hI => ?_)
        obtain ⟨rfl, rfl, rfl, rfl, rfl, rfl, rfl⟩ := hp_2
        refine s0_w C hI k (by omega) (by omega) dX0_load_28 (fun H locs hI => ?_)
        refine lv_iinc (v := iI ((k + 1 : Nat) : Int)) (lv' := [(2, .int (iI ((k + 1 : Nat) : Int))), (0, .ref (a 0)), (1, .int (iI x1))]) hx hb dX0_load_29 hl (k := 2) rfl (iI_inc1 _) (by decide) rfl (fun ls hl => ?_)
        refine lv_goto (tgt := 7) hx hb dX0_load_32 (by decide) ?_
        exact ih_7 (k + 1) (up g k (z k % x1)) (by omega) (by omega) (lt_s (fun j hj => by rw [up_n (by omega)]; exact hg j hj) (up_s _ _ _)) _ _ hI ls (lv_sub hl [1, 2, 0] rfl)
  exact lp_7 21 0 w (by omega) (by omega) (fun j hj => absurd hj (Nat.not_lt_zero j)) _ _ hI ls (lv_sub hl [1, 2, 0] rfl)
abbrev ps0_pivotFrom (x1 : Nat) (x2 : Nat) (x3 : Nat) (z : Nat → Int) (pr : Int) (w : Nat → Int) (v : Nat → Int) (q : Nat → Int) (u : Nat → Int) : Int → (Nat → Int) → Int → (Nat → Int) → (Nat → Int) → (Nat → Int) → (Nat → Int) → Prop := fun r z1 pr1 w1 v1 q1 u1 => ((r = -1 ∧ ∀ i, x1 ≤ i → i < x2 → w (i * 5 + x3) = 0) ∨ (∃ i : Nat, r = (i : Int) ∧ x1 ≤ i ∧ i < x2 ∧ w (i * 5 + x3) ≠ 0)) ∧ z = z1 ∧ pr = pr1 ∧ w = w1 ∧ v = v1 ∧ q = q1 ∧ u = u1
set_option maxHeartbeats 4000000 in
set_option maxRecDepth 100000 in
theorem met0_pivotFrom (l : Launch) (x1 : Nat) (x2 : Nat) (x3 : Nat) (z : Nat → Int) (pr : Int) (w : Nat → Int) (v : Nat → Int) (q : Nat → Int) (u : Nat → Int) (h1 : x1 ≤ x2 ∧ x2 ≤ 4 ∧ x3 < 5) (hw : ∀ k, k < 20 → 0 ≤ w k ∧ w k < 40000) : M0i l yX0_pivotFrom cX0_pivotFrom 5 (some .int) rm0_pivotFrom [.int (iI (x1 : Int)), .int (iI (x2 : Int)), .int (iI (x3 : Int))] z pr w v q u (ps0_pivotFrom x1 x2 x3 z pr w v q u) := by
  refine M0i.of (by decide) rfl (fun _ => Nat.le_of_ble_eq_true rfl) ?_
  intro p e s m args below meth c D a ca A ls C hr hlocks hA hl hI
  have hx := C.1
  have hb := C.2.1
  have hl : lv_has ls 5 [(0, .ref (a 0)), (1, .int (iI (x1 : Int))), (2, .int (iI (x2 : Int))), (3, .int (iI (x3 : Int)))] := hl
  refine lv_iload_n hx hb dX0_pivotFrom_0 rfl (lv_at hl 1 rfl) ?_
  refine lv_istore (lv' := [(4, .int (iI (x1 : Int))), (0, .ref (a 0)), (1, .int (iI (x1 : Int))), (2, .int (iI (x2 : Int))), (3, .int (iI (x3 : Int)))]) hx hb dX0_pivotFrom_1 hl (by decide) rfl (fun ls hl => ?_)
  have lp_3 : ∀ (n_3 : Nat) (i : Nat), (hf_3 : x2 < i + n_3) → (hi : x1 ≤ i ∧ i ≤ x2) → (hn : ∀ j, x1 ≤ j → j < i → w (j * 5 + x3) = 0) → ∀ (H : Heap) (locs : List Loc), I0 D A s a ca z pr w v q u H locs → ∀ (ls : Array Slot), lv_has ls 5 [(0, .ref (a 0)), (1, .int (iI (x1 : Int))), (2, .int (iI (x2 : Int))), (3, .int (iI (x3 : Int))), (4, .int (iI (i : Int)))] → W p l e rm0_pivotFrom s m args below meth c H locs 0 0 (E0i D a ca A (ps0_pivotFrom x1 x2 x3 z pr w v q u) below args s) (F0 m 3 ls []) := by
    intro n_3
    induction n_3 with
    | zero =>
      intro i hf_3 hi hn H locs hI ls hl
      exfalso; omega
    | succ n_3 ih_3 =>
      intro i hf_3 hi hn H locs hI ls hl
      refine lv_iload hx hb dX0_pivotFrom_3 (lv_at hl 4 rfl) ?_
      refine lv_iload_n hx hb dX0_pivotFrom_5 rfl (lv_at hl 2 rfl) ?_
      refine z_icmp_ge hx hb 32 dX0_pivotFrom_6 (by decide) (by omega) (by omega) (fun c_1 => ?_) (fun c_1 => ?_)
      · refine z_iconst hx hb dX0_pivotFrom_32 ?_
        exact r0_i C hr hlocks hI (⟨Or.inl ⟨rfl, fun j h2 h3 => hn j h2 (by omega)⟩, rfl, rfl, rfl, rfl, rfl, rfl⟩) dX0_pivotFrom_33
      · have hwk := hw (i * 5 + x3) (by omega)
        refine lv_aload_n hx hb dX0_pivotFrom_9 rfl (lv_at hl 0 rfl) ?_
        refine g0_work C hI dX0_pivotFrom_10 ?_
        refine lv_iload hx hb dX0_pivotFrom_13 (lv_at hl 4 rfl) ?_
        refine z_iconst hx hb dX0_pivotFrom_15 ?_
        refine z_imul hx hb dX0_pivotFrom_16 ?_
        refine lv_iload_n hx hb dX0_pivotFrom_17 rfl (lv_at hl 3 rfl) ?_
        refine z_iadd hx hb dX0_pivotFrom_18 ?_
        refine l0_w C hI ((i * 5) + x3) (by omega) (by omega) dX0_pivotFrom_19 ?_
        refine z_if_eq hx hb 26 dX0_pivotFrom_20 (by decide) (by omega) (fun c_2 => ?_) (fun c_2 => ?_)
        · refine lv_iinc (v := iI ((i + 1 : Nat) : Int)) (lv' := [(4, .int (iI ((i + 1 : Nat) : Int))), (0, .ref (a 0)), (1, .int (iI (x1 : Int))), (2, .int (iI (x2 : Int))), (3, .int (iI (x3 : Int)))]) hx hb dX0_pivotFrom_26 hl (k := 4) rfl (iI_inc1 _) (by decide) rfl (fun ls hl => ?_)
          refine lv_goto (tgt := 3) hx hb dX0_pivotFrom_29 (by decide) ?_
          exact ih_3 (i + 1) (by omega) (by omega) (fun j h2 h3 => (Nat.lt_succ_iff_lt_or_eq.mp h3).elim (fun e => hn j h2 e) (fun e => by rw [e]; assumption)) _ _ hI ls (lv_sub hl [1, 2, 3, 4, 0] rfl)
        · refine lv_iload hx hb dX0_pivotFrom_23 (lv_at hl 4 rfl) ?_
          exact r0_i C hr hlocks hI (⟨Or.inr ⟨i, rfl, by omega, by omega, by assumption⟩, rfl, rfl, rfl, rfl, rfl, rfl⟩) dX0_pivotFrom_25
  exact lp_3 (x2 + 1) x1 (by omega) (by omega) (fun j h2 h3 => by omega) _ _ hI ls (lv_sub hl [1, 2, 3, 4, 0] rfl)
def exch (w : Nat → Int) (i k j : Nat) : Nat → Int := fun x => if x % 5 < j then (if x / 5 = i then w (k * 5 + x % 5) else if x / 5 = k then w (i * 5 + x % 5) else w x) else w x
theorem exch_0 (w : Nat → Int) (i k : Nat) : exch w i k 0 = w := by
  funext x
  simp [exch]
theorem exch_s {w : Nat → Int} {i k j : Nat} (hj : j < 5) : up (up (exch w i k j) (i * 5 + j) (exch w i k j (k * 5 + j))) (k * 5 + j) (exch w i k j (i * 5 + j)) = exch w i k (j + 1) := by
  have d1 : ∀ a : Nat, (a * 5 + j) % 5 = j := by omega
  have d2 : ∀ a : Nat, (a * 5 + j) / 5 = a := by omega
  have e1 : ∀ a : Nat, exch w i k j (a * 5 + j) = w (a * 5 + j) := by
    intro a
    unfold exch
    rw [d1, if_neg (Nat.lt_irrefl j)]
  rw [e1, e1]
  funext x
  unfold up
  by_cases h1 : x = k * 5 + j
  · subst h1
    rw [if_pos rfl]
    unfold exch
    rw [d1, d2, if_pos (Nat.lt_succ_self j)]
    by_cases h2 : k = i
    · subst h2; rw [if_pos rfl]
    · rw [if_neg h2, if_pos rfl]
  · rw [if_neg h1]
    by_cases h2 : x = i * 5 + j
    · subst h2
      rw [if_pos rfl]
      unfold exch
      rw [d1, d2, if_pos (Nat.lt_succ_self j), if_pos rfl]
    · rw [if_neg h2]
      unfold exch
      by_cases h3 : x % 5 < j
      · rw [if_pos h3, if_pos (show x % 5 < j + 1 by omega)]
      · rw [if_neg h3]
        by_cases h4 : x % 5 < j + 1
        · rw [if_pos h4, if_neg (by omega), if_neg (by omega)]
        · rw [if_neg h4]
abbrev ps0_exchange (x1 : Nat) (x2 : Nat) (z : Nat → Int) (pr : Int) (w : Nat → Int) (v : Nat → Int) (q : Nat → Int) (u : Nat → Int) : (Nat → Int) → Int → (Nat → Int) → (Nat → Int) → (Nat → Int) → (Nat → Int) → Prop := fun z1 pr1 w1 v1 q1 u1 => z = z1 ∧ pr = pr1 ∧ exch w x1 x2 5 = w1 ∧ v = v1 ∧ q = q1 ∧ u = u1
set_option maxHeartbeats 4000000 in
set_option maxRecDepth 100000 in
theorem met0_exchange (l : Launch) (x1 : Nat) (x2 : Nat) (z : Nat → Int) (pr : Int) (w : Nat → Int) (v : Nat → Int) (q : Nat → Int) (u : Nat → Int) (h1 : x1 < 4 ∧ x2 < 4) : M0v l yX0_exchange cX0_exchange 5 none rm0_exchange [.int (iI (x1 : Int)), .int (iI (x2 : Int))] z pr w v q u (ps0_exchange x1 x2 z pr w v q u) := by
  refine M0v.of (by decide) rfl (fun _ => Nat.le_of_ble_eq_true rfl) ?_
  intro p e s m args below meth c D a ca A ls C hr hlocks hA hl hI
  have hx := C.1
  have hb := C.2.1
  have hl : lv_has ls 5 [(0, .ref (a 0)), (1, .int (iI (x1 : Int))), (2, .int (iI (x2 : Int)))] := hl
  refine z_iconst hx hb dX0_exchange_0 ?_
  refine lv_istore_n (lv' := [(3, .int (iI 0)), (0, .ref (a 0)), (1, .int (iI (x1 : Int))), (2, .int (iI (x2 : Int)))]) hx hb dX0_exchange_1 rfl hl (by decide) rfl (fun ls hl => ?_)
  have lp_2 : ∀ (n_2 : Nat) (j : Nat), (hf_2 : 5 < j + n_2) → (hj : j ≤ 5) → ∀ (H : Heap) (locs : List Loc), I0 D A s a ca z pr (exch w x1 x2 j) v q u H locs → ∀ (ls : Array Slot), lv_has ls 5 [(0, .ref (a 0)), (1, .int (iI (x1 : Int))), (2, .int (iI (x2 : Int))), (3, .int (iI (j : Int)))] → W p l e rm0_exchange s m args below meth c H locs 0 0 (E0v D a ca A (ps0_exchange x1 x2 z pr w v q u) below args s) (F0 m 2 ls []) := by
    intro n_2
    induction n_2 with
    | zero =>
      intro j hf_2 hj H locs hI ls hl
      exfalso; omega
    | succ n_2 ih_2 =>
      intro j hf_2 hj H locs hI ls hl
      refine lv_iload_n hx hb dX0_exchange_2 rfl (lv_at hl 3 rfl) ?_
      refine z_iconst hx hb dX0_exchange_3 ?_
      refine z_icmp_ge hx hb 57 dX0_exchange_4 (by decide) (by omega) (by omega) (fun c_1 => ?_) (fun c_1 => ?_)
      · have hj5 : j = 5 := by omega
        subst hj5
        exact r0_v C hr hlocks hI (⟨rfl, rfl, rfl, rfl, rfl, rfl⟩) dX0_exchange_57
      · refine lv_aload_n hx hb dX0_exchange_7 rfl (lv_at hl 0 rfl) ?_
        refine g0_work C hI dX0_exchange_8 ?_
        refine lv_iload_n hx hb dX0_exchange_11 rfl (lv_at hl 1 rfl) ?_
        refine z_iconst hx hb dX0_exchange_12 ?_
        refine z_imul hx hb dX0_exchange_13 ?_
        refine lv_iload_n hx hb dX0_exchange_14 rfl (lv_at hl 3 rfl) ?_
        refine z_iadd hx hb dX0_exchange_15 ?_
        refine l0_w C hI ((x1 * 5) + j) (by omega) (by omega) dX0_exchange_16 ?_
        refine lv_istore (lv' := [(4, .int (iI ((exch w x1 x2 j) ((x1 * 5) + j)))), (0, .ref (a 0)), (1, .int (iI (x1 : Int))), (2, .int (iI (x2 : Int))), (3, .int (iI (j : Int)))]) hx hb dX0_exchange_17 hl (by decide) rfl (fun ls hl => ?_)
        refine lv_aload_n hx hb dX0_exchange_19 rfl (lv_at hl 1 rfl) ?_
        refine g0_work C hI dX0_exchange_20 ?_
        refine lv_iload_n hx hb dX0_exchange_23 rfl (lv_at hl 2 rfl) ?_
        refine z_iconst hx hb dX0_exchange_24 ?_
        refine z_imul hx hb dX0_exchange_25 ?_
        refine lv_iload_n hx hb dX0_exchange_26 rfl (lv_at hl 4 rfl) ?_
        refine z_iadd hx hb dX0_exchange_27 ?_
        refine lv_aload_n hx hb dX0_exchange_28 rfl (lv_at hl 1 rfl) ?_
        refine g0_work C hI dX0_exchange_29 ?_
        refine lv_iload_n hx hb dX0_exchange_32 rfl (lv_at hl 3 rfl) ?_
        refine z_iconst hx hb dX0_exchange_33 ?_
        refine z_imul hx hb dX0_exchange_34 ?_
        refine lv_iload_n hx hb dX0_exchange_35 rfl (lv_at hl 4 rfl) ?_
        refine z_iadd hx hb dX0_exchange_36 ?_
        refine l0_w C hI ((x2 * 5) + j) (by omega) (by omega) dX0_exchange_37 ?_
        refine s0_w C hI ((x1 * 5) + j) (by omega) (by omega) dX0_exchange_38 (fun H locs hI => ?_)
        refine lv_aload_n hx hb dX0_exchange_39 rfl (lv_at hl 1 rfl) ?_
        refine g0_work C hI dX0_exchange_40 ?_
        refine lv_iload_n hx hb dX0_exchange_43 rfl (lv_at hl 3 rfl) ?_
        refine z_iconst hx hb dX0_exchange_44 ?_
        refine z_imul hx hb dX0_exchange_45 ?_
        refine lv_iload_n hx hb dX0_exchange_46 rfl (lv_at hl 4 rfl) ?_
        refine z_iadd hx hb dX0_exchange_47 ?_
        refine lv_iload hx hb dX0_exchange_48 (lv_at hl 0 rfl) ?_
        refine s0_w C hI ((x2 * 5) + j) (by omega) (by omega) dX0_exchange_50 (fun H locs hI => ?_)
        refine lv_iinc (v := iI ((j + 1 : Nat) : Int)) (lv' := [(3, .int (iI ((j + 1 : Nat) : Int))), (4, .int (iI ((exch w x1 x2 j) ((x1 * 5) + j)))), (0, .ref (a 0)), (1, .int (iI (x1 : Int))), (2, .int (iI (x2 : Int)))]) hx hb dX0_exchange_51 hl (k := 4) rfl (iI_inc1 _) (by decide) rfl (fun ls hl => ?_)
        refine lv_goto (tgt := 2) hx hb dX0_exchange_54 (by decide) ?_
        rw [exch_s (by omega)] at hI
        exact ih_2 (j + 1) (by omega) (by omega) _ _ hI ls (lv_sub hl [2, 3, 4, 0] rfl)
  exact lp_2 6 0 (by omega) (by omega) _ _ (by rw [exch_0]; exact hI) ls (lv_sub hl [1, 2, 3, 0] rfl)
end
section
set_option maxRecDepth 100000
/-- the work space while a column is taken out: rows r+1 .. i-1 done, of row i the columns below j -/
def clr (p : Int) (w : Nat → Int) (un : Int) (r c i j : Nat) : Nat → Int := fun x => if (r < x / 5 ∧ x / 5 < i ∧ c ≤ x % 5) ∨ (x / 5 = i ∧ c ≤ x % 5 ∧ x % 5 < j) then (w x - w (x / 5 * 5 + c) * un % p * w (r * 5 + x % 5) % p) % p else w x
theorem clr_0 (p : Int) (w : Nat → Int) (un : Int) (r c : Nat) : clr p w un r c (r + 1) 0 = w := by
  funext x
  unfold clr
  rw [if_neg (by omega)]
theorem clr_a (p : Int) (w : Nat → Int) (un : Int) (r c i : Nat) : clr p w un r c i c = clr p w un r c i 0 := by
  funext x
  unfold clr
  by_cases h : r < x / 5 ∧ x / 5 < i ∧ c ≤ x % 5
  · rw [if_pos (Or.inl h), if_pos (Or.inl h)]
  · rw [if_neg (by omega), if_neg (by omega)]
theorem clr_e (p : Int) (w : Nat → Int) (un : Int) (r c i : Nat) (h : r < i) : clr p w un r c i 5 = clr p w un r c (i + 1) 0 := by
  funext x
  unfold clr
  by_cases h : (r < x / 5 ∧ x / 5 < i ∧ c ≤ x % 5) ∨ (x / 5 = i ∧ c ≤ x % 5 ∧ x % 5 < 5)
  · rw [if_pos h, if_pos (by omega)]
  · rw [if_neg h, if_neg (by omega)]
theorem clr_i {p : Int} {w : Nat → Int} {un : Int} {r c i j b : Nat} (hb : b < 5) (h : ¬ b < j) : clr p w un r c i j (i * 5 + b) = w (i * 5 + b) := by
  unfold clr
  rw [if_neg (by omega)]
theorem clr_r {p : Int} {w : Nat → Int} {un : Int} {r c i j b : Nat} (hb : b < 5) (h : r < i) : clr p w un r c i j (r * 5 + b) = w (r * 5 + b) := by
  unfold clr
  rw [if_neg (by omega)]
theorem clr_s {p : Int} {w : Nat → Int} {un : Int} {r c i j : Nat} (hj : j < 5) (hc : c ≤ j) : up (clr p w un r c i j) (i * 5 + j) ((w (i * 5 + j) - w (i * 5 + c) * un % p * w (r * 5 + j) % p) % p) = clr p w un r c i (j + 1) := by
  funext x
  by_cases h : x = i * 5 + j
  · subst h
    rw [up_s]
    unfold clr
    rw [if_pos (by omega)]
    have e1 : (i * 5 + j) / 5 = i := by omega
    have e2 : (i * 5 + j) % 5 = j := by omega
    rw [e1, e2]
  · rw [up_n h]
    unfold clr
    by_cases h2 : (r < x / 5 ∧ x / 5 < i ∧ c ≤ x % 5) ∨ (x / 5 = i ∧ c ≤ x % 5 ∧ x % 5 < j)
    · rw [if_pos h2, if_pos (by omega)]
    · rw [if_neg h2, if_neg (by omega)]
theorem clr_in {p : Int} {w : Nat → Int} {un : Int} {r c i j : Nat} (hp : 0 < p) (hw : ∀ k, k < 20 → 0 ≤ w k ∧ w k < p) : ∀ k, k < 20 → 0 ≤ clr p w un r c i j k ∧ clr p w un r c i j k < p := by
  intro k hk
  unfold clr
  split
  · exact em_in hp
  · exact hw k hk
abbrev ps0_clearBelow (x1 : Nat) (x2 : Nat) (x3 : Nat) (z : Nat → Int) (pr : Int) (w : Nat → Int) (v : Nat → Int) (q : Nat → Int) (u : Nat → Int) : (Nat → Int) → Int → (Nat → Int) → (Nat → Int) → (Nat → Int) → (Nat → Int) → Prop := fun z1 pr1 w1 v1 q1 u1 => (∃ un : Int, (w (x1 * 5 + x3) ≠ 0 → w (x1 * 5 + x3) * un % pr = 1) ∧ clr pr w un x1 x3 x2 0 = w1) ∧ z = z1 ∧ pr = pr1 ∧ v = v1 ∧ q = q1 ∧ u = u1
set_option maxHeartbeats 4000000 in
set_option maxRecDepth 100000 in
theorem met0_clearBelow (l : Launch) (x1 : Nat) (x2 : Nat) (x3 : Nat) (z : Nat → Int) (pr : Int) (w : Nat → Int) (v : Nat → Int) (q : Nat → Int) (u : Nat → Int) (hp : pr = 32749 ∨ pr = 32719) (h1 : x1 < x2 ∧ x2 ≤ 4 ∧ x3 < 5) (hw : ∀ k, k < 20 → 0 ≤ w k ∧ w k < pr) : M0v l yX0_clearBelow cX0_clearBelow 9 none rm0_clearBelow [.int (iI (x1 : Int)), .int (iI (x2 : Int)), .int (iI (x3 : Int))] z pr w v q u (ps0_clearBelow x1 x2 x3 z pr w v q u) := by
  refine M0v.of (by decide) rfl (fun _ => Nat.le_of_ble_eq_true rfl) ?_
  intro p e s m args below meth c D a ca A ls C hr hlocks hA hl hI
  have hx := C.1
  have hb := C.2.1
  have hl : lv_has ls 9 [(0, .ref (a 0)), (1, .int (iI (x1 : Int))), (2, .int (iI (x2 : Int))), (3, .int (iI (x3 : Int)))] := hl
  have hp0 : 0 < pr ∧ pr ≤ 32749 := by omega
  refine lv_aload_n hx hb dX0_clearBelow_0 rfl (lv_at hl 0 rfl) ?_
  refine lv_aload_n hx hb dX0_clearBelow_1 rfl (lv_at hl 0 rfl) ?_
  refine g0_work C hI dX0_clearBelow_2 ?_
  refine lv_iload_n hx hb dX0_clearBelow_5 rfl (lv_at hl 1 rfl) ?_
  refine z_iconst hx hb dX0_clearBelow_6 ?_
  refine z_imul hx hb dX0_clearBelow_7 ?_
  refine lv_iload_n hx hb dX0_clearBelow_8 rfl (lv_at hl 3 rfl) ?_
  refine z_iadd hx hb dX0_clearBelow_9 ?_
  refine l0_w C hI ((x1 * 5) + x3) (by omega) (by omega) dX0_clearBelow_10 ?_
  refine c0_i (As := [.int (iI (w ((x1 * 5) + x3)))]) C hA hI (met0_inverse l (w ((x1 * 5) + x3)) z pr w v q u hp (hw _ (by omega))) (cw0_inverse C.2.2.2.2 ⟨Nat.le_of_ble_eq_true rfl, Nat.le_of_ble_eq_true rfl⟩) rfl hl.1 rfl (Nat.le_of_ble_eq_true rfl) dX0_clearBelow_11 ⟨Nat.le_refl _, Nat.le_refl _⟩ (fun un z_1 pr_1 w_1 v_1 q_1 u_1 H locs hp_1 hI => ?_)
  obtain ⟨hun, rfl, rfl, rfl, rfl, rfl, rfl⟩ := hp_1
  refine lv_istore (lv' := [(4, .int (iI un)), (0, .ref (a 0)), (1, .int (iI (x1 : Int))), (2, .int (iI (x2 : Int))), (3, .int (iI (x3 : Int)))]) hx hb dX0_clearBelow_14 hl (by decide) rfl (fun ls hl => ?_)
  refine lv_iload_n hx hb dX0_clearBelow_16 rfl (lv_at hl 2 rfl) ?_
  refine z_iconst hx hb dX0_clearBelow_17 ?_
  refine z_iadd hx hb dX0_clearBelow_18 ?_
  refine lv_istore (lv' := [(5, .int (iI ((x1 : Int) + 1))), (4, .int (iI un)), (0, .ref (a 0)), (1, .int (iI (x1 : Int))), (2, .int (iI (x2 : Int))), (3, .int (iI (x3 : Int)))]) hx hb dX0_clearBelow_19 hl (by decide) rfl (fun ls hl => ?_)
  have lp_21 : ∀ (n_21 : Nat) (i : Nat), (hf_21 : x2 < i + n_21) → (hi : x1 < i ∧ i ≤ x2) → ∀ (H : Heap) (locs : List Loc), I0 D A s a ca z pr (clr pr w un x1 x3 i 0) v q u H locs → ∀ (ls : Array Slot), lv_has ls 9 [(0, .ref (a 0)), (1, .int (iI (x1 : Int))), (2, .int (iI (x2 : Int))), (3, .int (iI (x3 : Int))), (4, .int (iI un)), (5, .int (iI (i : Int)))] → W p l e rm0_clearBelow s m args below meth c H locs 0 0 (E0v D a ca A (ps0_clearBelow x1 x2 x3 z pr w v q u) below args s) (F0 m 21 ls []) := by
    intro n_21
    induction n_21 with
    | zero =>
      intro i hf_21 hi H locs hI ls hl
      exfalso; omega
    | succ n_21 ih_21 =>
      intro i hf_21 hi H locs hI ls hl
      refine lv_iload hx hb dX0_clearBelow_21 (lv_at hl 5 rfl) ?_
      refine lv_iload_n hx hb dX0_clearBelow_23 rfl (lv_at hl 2 rfl) ?_
      refine z_icmp_ge hx hb 117 dX0_clearBelow_24 (by decide) (by omega) (by omega) (fun c_2 => ?_) (fun c_2 => ?_)
      · have hi5 : i = x2 := by omega
        subst hi5
        exact r0_v C hr hlocks hI (⟨⟨un, hun.2.2, rfl⟩, rfl, rfl, rfl, rfl, rfl⟩) dX0_clearBelow_117
      · refine lv_aload_n hx hb dX0_clearBelow_27 rfl (lv_at hl 0 rfl) ?_
        refine lv_aload_n hx hb dX0_clearBelow_28 rfl (lv_at hl 0 rfl) ?_
        refine g0_work C hI dX0_clearBelow_29 ?_
        refine lv_iload hx hb dX0_clearBelow_32 (lv_at hl 5 rfl) ?_
        refine z_iconst hx hb dX0_clearBelow_34 ?_
        refine z_imul hx hb dX0_clearBelow_35 ?_
        refine lv_iload_n hx hb dX0_clearBelow_36 rfl (lv_at hl 3 rfl) ?_
        refine z_iadd hx hb dX0_clearBelow_37 ?_
        refine l0_w C hI ((i * 5) + x3) (by omega) (by omega) dX0_clearBelow_38 ?_
        rw [clr_i (by omega) (by omega)]
        refine lv_iload hx hb dX0_clearBelow_39 (lv_at hl 4 rfl) ?_
        refine c0_i (As := [.int (iI (w (i * 5 + x3))), .int (iI un)]) C hA hI (met0_times l (w (i * 5 + x3)) un z pr (clr pr w un x1 x3 i 0) v q u hp (hw _ (by omega)) ⟨hun.1, hun.2.1⟩) (cw0_times C.2.2.2.2 ⟨Nat.le_of_ble_eq_true rfl, Nat.le_of_ble_eq_true rfl⟩) rfl hl.1 rfl (Nat.le_of_ble_eq_true rfl) dX0_clearBelow_41 ⟨Nat.le_refl _, Nat.le_refl _⟩ (fun r_3 z_3 pr_3 w_3 v_3 q_3 u_3 H locs hp_3 hI => ?_)
        obtain ⟨rfl, rfl, rfl, rfl, rfl, rfl, rfl⟩ := hp_3
        refine lv_istore (lv' := [(6, .int (iI (w (i * 5 + x3) * un % pr))), (0, .ref (a 0)), (1, .int (iI (x1 : Int))), (2, .int (iI (x2 : Int))), (3, .int (iI (x3 : Int))), (4, .int (iI un)), (5, .int (iI (i : Int)))]) hx hb dX0_clearBelow_44 hl (by decide) rfl (fun ls hl => ?_)
        refine lv_iload_n hx hb dX0_clearBelow_46 rfl (lv_at hl 4 rfl) ?_
        refine lv_istore (lv' := [(7, .int (iI (x3 : Int))), (6, .int (iI (w (i * 5 + x3) * un % pr))), (0, .ref (a 0)), (1, .int (iI (x1 : Int))), (2, .int (iI (x2 : Int))), (3, .int (iI (x3 : Int))), (4, .int (iI un)), (5, .int (iI (i : Int)))]) hx hb dX0_clearBelow_47 hl (by decide) rfl (fun ls hl => ?_)
        have lp_49 : ∀ (n_49 : Nat) (j : Nat), (hf_49 : 5 < j + n_49) → (hj : x3 ≤ j ∧ j ≤ 5) → ∀ (H : Heap) (locs : List Loc), I0 D A s a ca z pr (clr pr w un x1 x3 i j) v q u H locs → ∀ (ls : Array Slot), lv_has ls 9 [(0, .ref (a 0)), (1, .int (iI (x1 : Int))), (2, .int (iI (x2 : Int))), (3, .int (iI (x3 : Int))), (4, .int (iI un)), (5, .int (iI (i : Int))), (6, .int (iI (w (i * 5 + x3) * un % pr))), (7, .int (iI (j : Int)))] → W p l e rm0_clearBelow s m args below meth c H locs 0 0 (E0v D a ca A (ps0_clearBelow x1 x2 x3 z pr w v q u) below args s) (F0 m 49 ls []) := by
          intro n_49
          induction n_49 with
          | zero =>
            intro j hf_49 hj H locs hI ls hl
            exfalso; omega
          | succ n_49 ih_49 =>
            intro j hf_49 hj H locs hI ls hl
            refine lv_iload hx hb dX0_clearBelow_49 (lv_at hl 7 rfl) ?_
            refine z_iconst hx hb dX0_clearBelow_51 ?_
            refine z_icmp_ge hx hb 111 dX0_clearBelow_52 (by decide) (by omega) (by omega) (fun c_4 => ?_) (fun c_4 => ?_)
            · have hj5 : j = 5 := by omega
              rw [hj5] at hI
              refine lv_iinc (v := iI ((i + 1 : Nat) : Int)) (lv' := [(5, .int (iI ((i + 1 : Nat) : Int))), (0, .ref (a 0)), (1, .int (iI (x1 : Int))), (2, .int (iI (x2 : Int))), (3, .int (iI (x3 : Int))), (4, .int (iI un)), (6, .int (iI (w (i * 5 + x3) * un % pr))), (7, .int (iI (j : Int)))]) hx hb dX0_clearBelow_111 hl (k := 5) rfl (iI_inc1 _) (by decide) rfl (fun ls hl => ?_)
              refine lv_goto (tgt := 21) hx hb dX0_clearBelow_114 (by decide) ?_
              exact ih_21 (i + 1) (by omega) (by omega) _ _ (by rw [← clr_e _ _ _ _ _ _ hi.1]; exact hI) ls (lv_sub hl [1, 2, 3, 4, 5, 0] rfl)
            · refine lv_aload_n hx hb dX0_clearBelow_55 rfl (lv_at hl 0 rfl) ?_
              refine lv_iload hx hb dX0_clearBelow_56 (lv_at hl 6 rfl) ?_
              refine lv_aload_n hx hb dX0_clearBelow_58 rfl (lv_at hl 0 rfl) ?_
              refine g0_work C hI dX0_clearBelow_59 ?_
              refine lv_iload_n hx hb dX0_clearBelow_62 rfl (lv_at hl 1 rfl) ?_
              refine z_iconst hx hb dX0_clearBelow_63 ?_
              refine z_imul hx hb dX0_clearBelow_64 ?_
              refine lv_iload hx hb dX0_clearBelow_65 (lv_at hl 7 rfl) ?_
              refine z_iadd hx hb dX0_clearBelow_67 ?_
              refine l0_w C hI ((x1 * 5) + j) (by omega) (by omega) dX0_clearBelow_68 ?_
              rw [clr_r (by omega) (by omega)]
              refine c0_i (As := [.int (iI (w (i * 5 + x3) * un % pr)), .int (iI (w (x1 * 5 + j)))]) C hA hI (met0_times l (w (i * 5 + x3) * un % pr) (w (x1 * 5 + j)) z pr (clr pr w un x1 x3 i j) v q u hp (em_in hp0.1) (hw _ (by omega))) (cw0_times C.2.2.2.2 ⟨Nat.le_of_ble_eq_true rfl, Nat.le_of_ble_eq_true rfl⟩) rfl hl.1 rfl (Nat.le_of_ble_eq_true rfl) dX0_clearBelow_69 ⟨Nat.le_refl _, Nat.le_refl _⟩ (fun r_5 z_5 pr_5 w_5 v_5 q_5 u_5 H locs hp_5 hI => ?_)
              obtain ⟨rfl, rfl, rfl, rfl, rfl, rfl, rfl⟩ := hp_5
              refine lv_istore (lv' := [(8, .int (iI (w (i * 5 + x3) * un % pr * w (x1 * 5 + j) % pr))), (0, .ref (a 0)), (1, .int (iI (x1 : Int))), (2, .int (iI (x2 : Int))), (3, .int (iI (x3 : Int))), (4, .int (iI un)), (5, .int (iI (i : Int))), (6, .int (iI (w (i * 5 + x3) * un % pr))), (7, .int (iI (j : Int)))]) hx hb dX0_clearBelow_72 hl (by decide) rfl (fun ls hl => ?_)
              refine lv_aload_n hx hb dX0_clearBelow_74 rfl (lv_at hl 1 rfl) ?_
              refine g0_work C hI dX0_clearBelow_75 ?_
              refine lv_iload hx hb dX0_clearBelow_78 (lv_at hl 6 rfl) ?_
              refine z_iconst hx hb dX0_clearBelow_80 ?_
              refine z_imul hx hb dX0_clearBelow_81 ?_
              refine lv_iload hx hb dX0_clearBelow_82 (lv_at hl 8 rfl) ?_
              refine z_iadd hx hb dX0_clearBelow_84 ?_
              refine lv_aload_n hx hb dX0_clearBelow_85 rfl (lv_at hl 1 rfl) ?_
              refine lv_aload_n hx hb dX0_clearBelow_86 rfl (lv_at hl 1 rfl) ?_
              refine g0_work C hI dX0_clearBelow_87 ?_
              refine lv_iload hx hb dX0_clearBelow_90 (lv_at hl 6 rfl) ?_
              refine z_iconst hx hb dX0_clearBelow_92 ?_
              refine z_imul hx hb dX0_clearBelow_93 ?_
              refine lv_iload hx hb dX0_clearBelow_94 (lv_at hl 8 rfl) ?_
              refine z_iadd hx hb dX0_clearBelow_96 ?_
              refine l0_w C hI ((i * 5) + j) (by omega) (by omega) dX0_clearBelow_97 ?_
              rw [clr_i (by omega) (by omega)]
              have b1 := hw (i * 5 + j) (by omega)
              have b2 := em_in (y := w (i * 5 + x3) * un % pr * w (x1 * 5 + j)) hp0.1
              refine lv_iload hx hb dX0_clearBelow_98 (lv_at hl 0 rfl) ?_
              refine z_isub hx hb dX0_clearBelow_100 ?_
              refine c0_i (As := [.int (iI ((w (i * 5 + j)) - (w (i * 5 + x3) * un % pr * w (x1 * 5 + j) % pr)))]) C hA hI (met0_reduce l ((w (i * 5 + j)) - (w (i * 5 + x3) * un % pr * w (x1 * 5 + j) % pr)) z pr (clr pr w un x1 x3 i j) v q u hp (by omega)) (cw0_reduce C.2.2.2.2 ⟨Nat.le_of_ble_eq_true rfl, Nat.le_of_ble_eq_true rfl⟩) rfl hl.1 rfl (Nat.le_of_ble_eq_true rfl) dX0_clearBelow_101 ⟨Nat.le_refl _, Nat.le_refl _⟩ (fun r_6 z_6 pr_6 w_6 v_6 q_6 u_6 H locs hp_6 hI => ?_)
              obtain ⟨rfl, rfl, rfl, rfl, rfl, rfl, rfl⟩ := hp_6
              refine s0_w C hI ((i * 5) + j) (by omega) (by omega) dX0_clearBelow_104 (fun H locs hI => ?_)
              refine lv_iinc (v := iI ((j + 1 : Nat) : Int)) (lv' := [(7, .int (iI ((j + 1 : Nat) : Int))), (8, .int (iI (w (i * 5 + x3) * un % pr * w (x1 * 5 + j) % pr))), (0, .ref (a 0)), (1, .int (iI (x1 : Int))), (2, .int (iI (x2 : Int))), (3, .int (iI (x3 : Int))), (4, .int (iI un)), (5, .int (iI (i : Int))), (6, .int (iI (w (i * 5 + x3) * un % pr)))]) hx hb dX0_clearBelow_105 hl (k := 8) rfl (iI_inc1 _) (by decide) rfl (fun ls hl => ?_)
              refine lv_goto (tgt := 49) hx hb dX0_clearBelow_108 (by decide) ?_
              rw [clr_s (by omega) (by omega)] at hI
              exact ih_49 (j + 1) (by omega) (by omega) _ _ hI ls (lv_sub hl [2, 3, 4, 5, 6, 7, 8, 0] rfl)
        exact lp_49 6 x3 (by omega) (by omega) _ _ (by rw [clr_a]; exact hI) ls (lv_sub hl [2, 3, 4, 5, 6, 7, 1, 0] rfl)
  exact lp_21 (x2 + 1) (x1 + 1) (by omega) (by omega) _ _ (by rw [clr_0]; exact hI) ls (lv_sub hl [2, 3, 4, 5, 1, 0] rfl)
end
section
set_option maxRecDepth 100000
/-! what exchange and clearBelow do to the determinant from c on -/
theorem row_exch {w : Nat → Int} {i k a j : Nat} (hj : j < 5) : row (exch w i k 5) a j = if a = i then row w k j else if a = k then row w i j else row w a j := by
  unfold row exch
  have e1 : (a * 5 + j) % 5 = j := by omega
  have e2 : (a * 5 + j) / 5 = a := by omega
  rw [e1, e2, if_pos hj]
theorem row_exch_i {w : Nat → Int} {i k j : Nat} (hj : j < 5) : row (exch w i k 5) i j = row w k j := by rw [row_exch hj, if_pos rfl]
theorem row_exch_k {w : Nat → Int} {i k j : Nat} (hj : j < 5) : row (exch w i k 5) k j = row w i j := by
  rw [row_exch hj]
  by_cases h : k = i
  · subst h; rw [if_pos rfl]
  · rw [if_neg h, if_pos rfl]
theorem row_exch_n {w : Nat → Int} {i k a j : Nat} (hj : j < 5) (h1 : a ≠ i) (h2 : a ≠ k) : row (exch w i k 5) a j = row w a j := by rw [row_exch hj, if_neg h1, if_neg h2]
theorem exch_in {p : Int} {w : Nat → Int} {i k : Nat} (hi : i < 4 ∧ k < 4) (hw : ∀ k, k < 20 → 0 ≤ w k ∧ w k < p) : ∀ x, x < 20 → 0 ≤ exch w i k 5 x ∧ exch w i k 5 x < p := by
  intro x hx
  unfold exch
  split
  · split
    · exact hw _ (by omega)
    · split
      · exact hw _ (by omega)
      · exact hw _ hx
  · exact hw _ hx
theorem td_exch {w : Nat → Int} {i c k : Nat} (h1 : c < i) (h2 : i < c + k) (h3 : c + k ≤ 4) : td (exch w i c 5) c k = -td w c k := by
  have hk : k = 2 ∨ k = 3 ∨ k = 4 := by omega
  rcases hk with rfl | rfl | rfl
  · have : i = c + 1 := by omega
    subst this
    show d2 _ _ _ _ = -d2 _ _ _ _
    rw [← sw2]
    unfold d2
    rw [row_exch_i (by omega), row_exch_k (by omega), row_exch_i (by omega), row_exch_k (by omega)]
  · have : i = c + 1 ∨ i = c + 2 := by omega
    rcases this with rfl | rfl
    · show d3 _ _ _ _ _ _ = -d3 _ _ _ _ _ _
      rw [← sw3a]
      unfold d3 d2
      simp only [row_exch_i (w := w) (i := c + 1) (k := c) (j := c) (by omega), row_exch_i (w := w) (i := c + 1) (k := c) (j := c + 1) (by omega), row_exch_i (w := w) (i := c + 1) (k := c) (j := c + 2) (by omega), row_exch_k (w := w) (i := c + 1) (k := c) (j := c) (by omega), row_exch_k (w := w) (i := c + 1) (k := c) (j := c + 1) (by omega), row_exch_k (w := w) (i := c + 1) (k := c) (j := c + 2) (by omega), row_exch_n (w := w) (i := c + 1) (k := c) (a := c + 2) (j := c) (by omega) (by omega) (by omega), row_exch_n (w := w) (i := c + 1) (k := c) (a := c + 2) (j := c + 1) (by omega) (by omega) (by omega), row_exch_n (w := w) (i := c + 1) (k := c) (a := c + 2) (j := c + 2) (by omega) (by omega) (by omega)]
    · show d3 _ _ _ _ _ _ = -d3 _ _ _ _ _ _
      rw [← sw3b]
      unfold d3 d2
      simp only [row_exch_i (w := w) (i := c + 2) (k := c) (j := c) (by omega), row_exch_i (w := w) (i := c + 2) (k := c) (j := c + 1) (by omega), row_exch_i (w := w) (i := c + 2) (k := c) (j := c + 2) (by omega), row_exch_k (w := w) (i := c + 2) (k := c) (j := c) (by omega), row_exch_k (w := w) (i := c + 2) (k := c) (j := c + 1) (by omega), row_exch_k (w := w) (i := c + 2) (k := c) (j := c + 2) (by omega), row_exch_n (w := w) (i := c + 2) (k := c) (a := c + 1) (j := c) (by omega) (by omega) (by omega), row_exch_n (w := w) (i := c + 2) (k := c) (a := c + 1) (j := c + 1) (by omega) (by omega) (by omega), row_exch_n (w := w) (i := c + 2) (k := c) (a := c + 1) (j := c + 2) (by omega) (by omega) (by omega)]
  · have h0 : c = 0 := by omega
    subst h0
    have h : ∀ (a j : Nat), j < 5 → row (exch w i 0 5) a j = if a = i then row w 0 j else if a = 0 then row w i j else row w a j := fun a j hj => row_exch hj
    have : i = 1 ∨ i = 2 ∨ i = 3 := by omega
    show d4 _ _ _ _ _ _ _ _ = -d4 _ _ _ _ _ _ _ _
    rcases this with rfl | rfl | rfl
    · rw [← sw4a]
      unfold d4 d3 d2
      simp [h]
    · rw [← sw4b]
      unfold d4 d3 d2
      simp [h]
    · rw [← sw4c]
      unfold d4 d3 d2
      simp [h]
theorem td_zero {w : Nat → Int} {c k : Nat} (hk : 1 ≤ k ∧ k ≤ 4) (h : ∀ i, c ≤ i → i < c + k → w (i * 5 + c) = 0) : td w c k = 0 := by
  have h0 : row w c c = 0 := h c (by omega) (by omega)
  have : k = 1 ∨ k = 2 ∨ k = 3 ∨ k = 4 := by omega
  rcases this with rfl | rfl | rfl | rfl
  · exact h0
  · exact ze2 h0 (h (c + 1) (by omega) (by omega))
  · exact ze3 h0 (h (c + 1) (by omega) (by omega)) (h (c + 2) (by omega) (by omega))
  · exact ze4 h0 (h (c + 1) (by omega) (by omega)) (h (c + 2) (by omega) (by omega)) (h (c + 3) (by omega) (by omega))
/-- a row below, after clearBelow from column c on -/
theorem row_clr {p : Int} {w : Nat → Int} {un : Int} {r c n i j : Nat} (hi : r < i ∧ i < n) (hj : c ≤ j ∧ j < 5) : row (clr p w un r c n 0) i j = (row w i j - row w i c * un % p * row w r j % p) % p := by
  unfold row clr
  have e1 : (i * 5 + j) % 5 = j := by omega
  have e2 : (i * 5 + j) / 5 = i := by omega
  rw [e1, e2, if_pos (by omega)]
theorem row_clr_n {p : Int} {w : Nat → Int} {un : Int} {r c n i j : Nat} (hj : j < 5) (h : i ≤ r ∨ n ≤ i ∨ j < c) : row (clr p w un r c n 0) i j = row w i j := by
  unfold row clr
  rw [if_neg (by omega)]
/-- what was taken off, put back -/
theorem row_clr_cg {p : Int} {w : Nat → Int} {un : Int} {r c n i j : Nat} (hi : r < i ∧ i < n) (hj : c ≤ j ∧ j < 5) : cg p (row w i j) (row (clr p w un r c n 0) i j + row w i c * un % p * row w r j) := by
  rw [row_clr hi hj]
  refine cg.sy ((((cg.em p _).tr ((cg.rf p _).sb (cg.em p _))).ad (cg.rf p _)).tr (cg.of ?_))
  grind
theorem row_clr_z {p : Int} {w : Nat → Int} {un : Int} {r c n i : Nat} (hp : 0 < p) (hi : r < i ∧ i < n) (hc : c < 5) (hw : 0 ≤ row w i c ∧ row w i c < p) (hu : row w r c * un % p = 1) : row (clr p w un r c n 0) i c = 0 := by
  rw [row_clr hi ⟨Nat.le_refl _, hc⟩]
  have h1 : cg p (row w i c * un % p * row w r c % p) (row w i c) := by
    refine ((cg.em p _).tr ((cg.em p _).ml (cg.rf p _))).tr ?_
    have h2 : cg p (row w r c * un) 1 := (cg.em p _).sy.tr (cg.of hu)
    refine (cg.of (show row w i c * un * row w r c = row w i c * (row w r c * un) by grind)).tr (((cg.rf p (row w i c)).ml h2).tr (cg.of (Int.mul_one _)))
  have h2 := h1.eq
  rw [Int.emod_emod, Int.emod_eq_of_lt hw.1 hw.2] at h2
  rw [h2, Int.sub_self, Int.zero_emod]
theorem td_clear {p : Int} {w : Nat → Int} {un : Int} {c k : Nat} (hp : 0 < p) (hk : 1 ≤ k) (hck : c + k ≤ 4) (hw : ∀ k, k < 20 → 0 ≤ w k ∧ w k < p) (hu : w (c * 5 + c) * un % p = 1) : cg p (td w c k) (w (c * 5 + c) * td (clr p w un c c (c + k) 0) (c + 1) (k - 1)) := by
  have hu' : row w c c * un % p = 1 := hu
  have hwr : ∀ i, i < 4 → 0 ≤ row w i c ∧ row w i c < p := fun i hi => hw (i * 5 + c) (by omega)
  have zz : ∀ i, c < i → i < c + k → row (clr p w un c c (c + k) 0) i c = 0 := fun i h1 h2 => row_clr_z hp ⟨h1, h2⟩ (by omega) (hwr i (by omega)) hu'
  have gg : ∀ i, c < i → i < c + k → ∀ j, c ≤ j → j < 5 → cg p (row w i j) (row (clr p w un c c (c + k) 0) i j + row w i c * un % p * row w c j) := fun i h1 h2 j h3 h4 => row_clr_cg ⟨h1, h2⟩ ⟨h3, h4⟩
  generalize clr p w un c c (c + k) 0 = w' at zz gg ⊢
  have : k = 1 ∨ k = 2 ∨ k = 3 ∨ k = 4 := by omega
  rcases this with rfl | rfl | rfl | rfl
  · exact cg.of (Int.mul_one _).symm
  · show cg p (d2 _ _ _ _) (row w c c * row w' (c + 1) (c + 1))
    refine cg.tr ?_ (cg.of ((ad2 (a := row w c) (b := row w' (c + 1)) (row w (c + 1) c * un % p)).trans (el2 (zz (c + 1) (by omega) (by omega)))))
    have g := gg (c + 1) (by omega) (by omega)
    exact ((g (c + 1) (by omega) (by omega)).ml (cg.rf p _)).sb ((g c (by omega) (by omega)).ml (cg.rf p _))
  · show cg p (d3 _ _ _ _ _ _) (row w c c * d2 _ _ _ _)
    refine cg.tr ?_ (cg.of ((ad3 (a := row w c) (b := row w' (c + 1)) (c := row w' (c + 2)) (row w (c + 1) c * un % p) (row w (c + 2) c * un % p)).trans (el3 (zz (c + 1) (by omega) (by omega)) (zz (c + 2) (by omega) (by omega)))))
    have g := gg (c + 1) (by omega) (by omega)
    have h := gg (c + 2) (by omega) (by omega)
    unfold d3 d2
    exact ((((h (c + 2) (by omega) (by omega)).ml (((g (c + 1) (by omega) (by omega)).ml (cg.rf p _)).sb ((g c (by omega) (by omega)).ml (cg.rf p _)))).sb ((h (c + 1) (by omega) (by omega)).ml (((g (c + 2) (by omega) (by omega)).ml (cg.rf p _)).sb ((g c (by omega) (by omega)).ml (cg.rf p _))))).ad ((h c (by omega) (by omega)).ml (((g (c + 2) (by omega) (by omega)).ml (cg.rf p _)).sb ((g (c + 1) (by omega) (by omega)).ml (cg.rf p _)))))
  · have h0 : c = 0 := by omega
    subst h0
    show cg p (d4 _ _ _ _ _ _ _ _) (row w 0 0 * d3 _ _ _ _ _ _)
    refine cg.tr ?_ (cg.of ((ad4 (a := row w 0) (b := row w' 1) (c := row w' 2) (d := row w' 3) (row w 1 0 * un % p) (row w 2 0 * un % p) (row w 3 0 * un % p)).trans (el4 (zz 1 (by omega) (by omega)) (zz 2 (by omega) (by omega)) (zz 3 (by omega) (by omega)))))
    exact d4_cg (by omega) (by omega) (by omega) (by omega) (fun j hj => cg.rf p _) (fun j hj => gg 1 (by omega) (by omega) j (by omega) hj) (fun j hj => gg 2 (by omega) (by omega) j (by omega) hj) (fun j hj => gg 3 (by omega) (by omega) j (by omega) hj)
end
section
set_option maxRecDepth 100000
/-- a step of the elimination, on the determinant of what is left -/
theorem el_step {p rr D : Int} {w : Nat → Int} {un : Int} {c k : Nat} (hp : 0 < p) (hk : 1 ≤ k) (hck : c + k ≤ 4) (hw : ∀ k, k < 20 → 0 ≤ w k ∧ w k < p) (hu : w (c * 5 + c) * un % p = 1) (h : cg p (rr * td w c k) D) : cg p (rr * w (c * 5 + c) % p * td (clr p w un c c (c + k) 0) (c + 1) (k - 1)) D := by
  refine cg.tr ?_ h
  refine (((cg.em p _).ml (cg.rf p _)).tr (cg.of (Int.mul_assoc _ _ _))).tr ?_
  exact (cg.rf p rr).ml (td_clear hp hk hck hw hu).sy
theorem el_neg {p rr D : Int} {w : Nat → Int} {i c k : Nat} (h1 : c < i) (h2 : i < c + k) (h3 : c + k ≤ 4) (h : cg p (rr * td w c k) D) : cg p (-rr % p * td (exch w i c 5) c k) D := by
  refine cg.tr ?_ h
  rw [td_exch h1 h2 h3]
  exact ((cg.em p _).ml (cg.rf p _)).tr (cg.of (by grind))
abbrev ps0_determinantOf (x1 : Nat) (z : Nat → Int) (pr : Int) (w : Nat → Int) (v : Nat → Int) (q : Nat → Int) (u : Nat → Int) : Int → (Nat → Int) → Int → (Nat → Int) → (Nat → Int) → (Nat → Int) → (Nat → Int) → Prop := fun r z1 pr1 w1 v1 q1 u1 => td w 0 x1 % pr = r ∧ z = z1 ∧ pr = pr1 ∧ v = v1 ∧ q = q1 ∧ u = u1
set_option maxHeartbeats 4000000 in
set_option maxRecDepth 100000 in
theorem met0_determinantOf (l : Launch) (x1 : Nat) (z : Nat → Int) (pr : Int) (w : Nat → Int) (v : Nat → Int) (q : Nat → Int) (u : Nat → Int) (hp : pr = 32749 ∨ pr = 32719) (h1 : x1 ≤ 4) (hw : ∀ k, k < 20 → 0 ≤ w k ∧ w k < pr) : M0i l yX0_determinantOf cX0_determinantOf 5 (some .int) rm0_determinantOf [.int (iI (x1 : Int))] z pr w v q u (ps0_determinantOf x1 z pr w v q u) := by
  refine M0i.of (by decide) rfl (fun _ => Nat.le_of_ble_eq_true rfl) ?_
  intro p e s m args below meth c D a ca A ls C hr hlocks hA hl hI
  have hx := C.1
  have hb := C.2.1
  have hl : lv_has ls 5 [(0, .ref (a 0)), (1, .int (iI (x1 : Int)))] := hl
  have hp0 : 0 < pr ∧ pr ≤ 32749 := by omega
  refine z_iconst hx hb dX0_determinantOf_0 ?_
  refine lv_istore_n (lv' := [(2, .int (iI 1)), (0, .ref (a 0)), (1, .int (iI (x1 : Int)))]) hx hb dX0_determinantOf_1 rfl hl (by decide) rfl (fun ls hl => ?_)
  refine z_iconst hx hb dX0_determinantOf_2 ?_
  refine lv_istore_n (lv' := [(3, .int (iI 0)), (2, .int (iI 1)), (0, .ref (a 0)), (1, .int (iI (x1 : Int)))]) hx hb dX0_determinantOf_3 rfl hl (by decide) rfl (fun ls hl => ?_)
  have lp_4 : ∀ (n_4 : Nat) (c0 : Nat) (rr : Int) (g : Nat → Int), (hf_4 : x1 < c0 + n_4) → (hc : c0 ≤ x1) → (hrr : 0 ≤ rr ∧ rr < pr) → (hg : ∀ k, k < 20 → 0 ≤ g k ∧ g k < pr) → (hD : cg pr (rr * td g c0 (x1 - c0)) (td w 0 x1)) → ∀ (H : Heap) (locs : List Loc), I0 D A s a ca z pr g v q u H locs → ∀ (ls : Array Slot), lv_has ls 5 [(0, .ref (a 0)), (1, .int (iI (x1 : Int))), (2, .int (iI rr)), (3, .int (iI (c0 : Int)))] → W p l e rm0_determinantOf s m args below meth c H locs 0 0 (E0i D a ca A (ps0_determinantOf x1 z pr w v q u) below args s) (F0 m 4 ls []) := by
    intro n_4
    induction n_4 with
    | zero =>
      intro c0 rr g hf_4 hc hrr hg hD H locs hI ls hl
      exfalso; omega
    | succ n_4 ih_4 =>
      intro c0 rr g hf_4 hc hrr hg hD H locs hI ls hl
      refine lv_iload_n hx hb dX0_determinantOf_4 rfl (lv_at hl 3 rfl) ?_
      refine lv_iload_n hx hb dX0_determinantOf_5 rfl (lv_at hl 1 rfl) ?_
      refine z_icmp_ge hx hb 74 dX0_determinantOf_6 (by decide) (by omega) (by omega) (fun c_1 => ?_) (fun c_1 => ?_)
      · refine lv_iload_n hx hb dX0_determinantOf_74 rfl (lv_at hl 2 rfl) ?_
        have hcx : x1 - c0 = 0 := by omega
        rw [hcx] at hD
        have hD3 : cg pr (rr * 1) (td w 0 x1) := hD
        rw [Int.mul_one] at hD3
        exact r0_i C hr hlocks hI (⟨by rw [← hD3.eq, Int.emod_eq_of_lt hrr.1 hrr.2], rfl, rfl, rfl, rfl, rfl⟩) dX0_determinantOf_75
      · refine lv_aload_n hx hb dX0_determinantOf_9 rfl (lv_at hl 0 rfl) ?_
        refine lv_iload_n hx hb dX0_determinantOf_10 rfl (lv_at hl 3 rfl) ?_
        refine lv_iload_n hx hb dX0_determinantOf_11 rfl (lv_at hl 1 rfl) ?_
        refine lv_iload_n hx hb dX0_determinantOf_12 rfl (lv_at hl 3 rfl) ?_
        refine c0_i (As := [.int (iI (c0 : Int)), .int (iI (x1 : Int)), .int (iI (c0 : Int))]) C hA hI (met0_pivotFrom l c0 x1 c0 z pr g v q u (by omega) (fun k hk => by have := hg k hk; omega)) (cw0_pivotFrom C.2.2.2.2 ⟨Nat.le_of_ble_eq_true rfl, Nat.le_of_ble_eq_true rfl⟩) rfl hl.1 rfl (Nat.le_of_ble_eq_true rfl) dX0_determinantOf_13 ⟨Nat.le_refl _, Nat.le_refl _⟩ (fun ip z_2 pr_2 w_2 v_2 q_2 u_2 H locs hp_2 hI => ?_)
        obtain ⟨hpv, rfl, rfl, rfl, rfl, rfl, rfl⟩ := hp_2
        have hb9 : -1 ≤ ip ∧ ip < 4 := by rcases hpv with ⟨h, _⟩ | ⟨i, h, _, _, _⟩ <;> omega
        refine lv_istore (lv' := [(4, .int (iI ip)), (0, .ref (a 0)), (1, .int (iI (x1 : Int))), (2, .int (iI rr)), (3, .int (iI (c0 : Int)))]) hx hb dX0_determinantOf_16 hl (by decide) rfl (fun ls hl => ?_)
        refine lv_iload hx hb dX0_determinantOf_18 (lv_at hl 0 rfl) ?_
        refine z_if_ge hx hb 25 dX0_determinantOf_20 (by decide) (by omega) (fun c_3 => ?_) (fun c_3 => ?_)
        · obtain ⟨i, rfl, hi1, hi2, hi3⟩ : ∃ i : Nat, ip = (i : Int) ∧ c0 ≤ i ∧ i < x1 ∧ g (i * 5 + c0) ≠ 0 := by
            rcases hpv with ⟨h, _⟩ | h
            · omega
            · exact h
          refine lv_iload hx hb dX0_determinantOf_25 (lv_at hl 0 rfl) ?_
          refine lv_iload_n hx hb dX0_determinantOf_27 rfl (lv_at hl 4 rfl) ?_
          refine z_icmp_eq hx hb 45 dX0_determinantOf_28 (by decide) (by omega) (by omega) (fun c_4 => ?_) (fun c_4 => ?_)
          · refine lv_aload_n hx hb dX0_determinantOf_45 rfl (lv_at hl 1 rfl) ?_
            refine lv_iload_n hx hb dX0_determinantOf_46 rfl (lv_at hl 3 rfl) ?_
            refine lv_aload_n hx hb dX0_determinantOf_47 rfl (lv_at hl 1 rfl) ?_
            refine g0_work C hI dX0_determinantOf_48 ?_
            refine lv_iload_n hx hb dX0_determinantOf_51 rfl (lv_at hl 4 rfl) ?_
            refine z_iconst hx hb dX0_determinantOf_52 ?_
            refine z_imul hx hb dX0_determinantOf_53 ?_
            refine lv_iload_n hx hb dX0_determinantOf_54 rfl (lv_at hl 4 rfl) ?_
            refine z_iadd hx hb dX0_determinantOf_55 ?_
            refine l0_w C hI ((c0 * 5) + c0) (by omega) (by omega) dX0_determinantOf_56 ?_
            refine c0_i (As := [.int (iI rr), .int (iI (g ((c0 * 5) + c0)))]) C hA hI (met0_times l rr (g ((c0 * 5) + c0)) z pr g v q u hp hrr (hg _ (by omega))) (cw0_times C.2.2.2.2 ⟨Nat.le_of_ble_eq_true rfl, Nat.le_of_ble_eq_true rfl⟩) rfl hl.1 rfl (Nat.le_of_ble_eq_true rfl) dX0_determinantOf_57 ⟨Nat.le_refl _, Nat.le_refl _⟩ (fun r_5 z_5 pr_5 w_5 v_5 q_5 u_5 H locs hp_5 hI => ?_)
            obtain ⟨rfl, rfl, rfl, rfl, rfl, rfl, rfl⟩ := hp_5
            refine lv_istore_n (lv' := [(2, .int (iI (rr * g (c0 * 5 + c0) % pr))), (4, .int (iI (i : Int))), (0, .ref (a 0)), (1, .int (iI (x1 : Int))), (3, .int (iI (c0 : Int)))]) hx hb dX0_determinantOf_60 rfl hl (by decide) rfl (fun ls hl => ?_)
            refine lv_aload_n hx hb dX0_determinantOf_61 rfl (lv_at hl 2 rfl) ?_
            refine lv_iload_n hx hb dX0_determinantOf_62 rfl (lv_at hl 4 rfl) ?_
            refine lv_iload_n hx hb dX0_determinantOf_63 rfl (lv_at hl 3 rfl) ?_
            refine lv_iload_n hx hb dX0_determinantOf_64 rfl (lv_at hl 4 rfl) ?_
            refine c0_v (As := [.int (iI (c0 : Int)), .int (iI (x1 : Int)), .int (iI (c0 : Int))]) C hA hI (met0_clearBelow l c0 x1 c0 z pr g v q u hp (by omega) hg) (cw0_clearBelow C.2.2.2.2 ⟨Nat.le_of_ble_eq_true rfl, Nat.le_of_ble_eq_true rfl⟩) rfl hl.1 rfl (Nat.le_of_ble_eq_true rfl) dX0_determinantOf_65 ⟨Nat.le_refl _, Nat.le_refl _⟩ (fun z_6 pr_6 w_6 v_6 q_6 u_6 H locs hp_6 hI => ?_)
            obtain ⟨⟨un, hun, rfl⟩, rfl, rfl, rfl, rfl, rfl⟩ := hp_6
            have hic : i = c0 := by omega
            have hg2 := clr_in (un := un) (r := c0) (c := c0) (i := x1) (j := 0) hp0.1 hg
            have hD2 : cg pr (rr * g (c0 * 5 + c0) % pr * td (clr pr g un c0 c0 x1 0) (c0 + 1) (x1 - (c0 + 1))) (td w 0 x1) := by
              have e := el_step (un := un) hp0.1 (show 1 ≤ x1 - c0 by omega) (show c0 + (x1 - c0) ≤ 4 by omega) hg (hun (by rw [← hic]; rw [← hic] at hi3; exact hi3)) hD
              rw [show c0 + (x1 - c0) = x1 by omega, show x1 - c0 - 1 = x1 - (c0 + 1) by omega] at e
              exact e
            refine lv_iinc (v := iI ((c0 + 1 : Nat) : Int)) (lv' := [(3, .int (iI ((c0 + 1 : Nat) : Int))), (2, .int (iI (rr * g (c0 * 5 + c0) % pr))), (4, .int (iI (i : Int))), (0, .ref (a 0)), (1, .int (iI (x1 : Int)))]) hx hb dX0_determinantOf_68 hl (k := 4) rfl (iI_inc1 _) (by decide) rfl (fun ls hl => ?_)
            refine lv_goto (tgt := 4) hx hb dX0_determinantOf_71 (by decide) ?_
            exact ih_4 (c0 + 1) (rr * g (c0 * 5 + c0) % pr) (clr pr g un c0 c0 x1 0) (by omega) (by omega) (em_in hp0.1) hg2 hD2 _ _ hI ls (lv_sub hl [3, 4, 1, 0] rfl)
          · refine lv_aload_n hx hb dX0_determinantOf_31 rfl (lv_at hl 1 rfl) ?_
            refine lv_iload hx hb dX0_determinantOf_32 (lv_at hl 0 rfl) ?_
            refine lv_iload_n hx hb dX0_determinantOf_34 rfl (lv_at hl 4 rfl) ?_
            refine c0_v (As := [.int (iI (i : Int)), .int (iI (c0 : Int))]) C hA hI (met0_exchange l i c0 z pr g v q u (by omega)) (cw0_exchange C.2.2.2.2 ⟨Nat.le_of_ble_eq_true rfl, Nat.le_of_ble_eq_true rfl⟩) rfl hl.1 rfl (Nat.le_of_ble_eq_true rfl) dX0_determinantOf_35 ⟨Nat.le_refl _, Nat.le_refl _⟩ (fun z_7 pr_7 w_7 v_7 q_7 u_7 H locs hp_7 hI => ?_)
            obtain ⟨rfl, rfl, rfl, rfl, rfl, rfl⟩ := hp_7
            refine lv_aload_n hx hb dX0_determinantOf_38 rfl (lv_at hl 1 rfl) ?_
            refine lv_iload_n hx hb dX0_determinantOf_39 rfl (lv_at hl 3 rfl) ?_
            refine z_ineg hx hb dX0_determinantOf_40 ?_
            refine c0_i (As := [.int (iI (-rr))]) C hA hI (met0_reduce l (-rr) z pr (exch g i c0 5) v q u hp (by omega)) (cw0_reduce C.2.2.2.2 ⟨Nat.le_of_ble_eq_true rfl, Nat.le_of_ble_eq_true rfl⟩) rfl hl.1 rfl (Nat.le_of_ble_eq_true rfl) dX0_determinantOf_41 ⟨Nat.le_refl _, Nat.le_refl _⟩ (fun r_8 z_8 pr_8 w_8 v_8 q_8 u_8 H locs hp_8 hI => ?_)
            obtain ⟨rfl, rfl, rfl, rfl, rfl, rfl, rfl⟩ := hp_8
            refine lv_istore_n (lv' := [(2, .int (iI (-rr % pr))), (4, .int (iI (i : Int))), (0, .ref (a 0)), (1, .int (iI (x1 : Int))), (3, .int (iI (c0 : Int)))]) hx hb dX0_determinantOf_44 rfl hl (by decide) rfl (fun ls hl => ?_)
            refine lv_aload_n hx hb dX0_determinantOf_45 rfl (lv_at hl 2 rfl) ?_
            refine lv_iload_n hx hb dX0_determinantOf_46 rfl (lv_at hl 0 rfl) ?_
            refine lv_aload_n hx hb dX0_determinantOf_47 rfl (lv_at hl 2 rfl) ?_
            refine g0_work C hI dX0_determinantOf_48 ?_
            refine lv_iload_n hx hb dX0_determinantOf_51 rfl (lv_at hl 4 rfl) ?_
            refine z_iconst hx hb dX0_determinantOf_52 ?_
            refine z_imul hx hb dX0_determinantOf_53 ?_
            refine lv_iload_n hx hb dX0_determinantOf_54 rfl (lv_at hl 4 rfl) ?_
            refine z_iadd hx hb dX0_determinantOf_55 ?_
            refine l0_w C hI ((c0 * 5) + c0) (by omega) (by omega) dX0_determinantOf_56 ?_
            refine c0_i (As := [.int (iI (-rr % pr)), .int (iI ((exch g i c0 5) ((c0 * 5) + c0)))]) C hA hI (met0_times l (-rr % pr) ((exch g i c0 5) ((c0 * 5) + c0)) z pr (exch g i c0 5) v q u hp (em_in hp0.1) (exch_in (by omega) hg _ (by omega))) (cw0_times C.2.2.2.2 ⟨Nat.le_of_ble_eq_true rfl, Nat.le_of_ble_eq_true rfl⟩) rfl hl.1 rfl (Nat.le_of_ble_eq_true rfl) dX0_determinantOf_57 ⟨Nat.le_refl _, Nat.le_refl _⟩ (fun r_9 z_9 pr_9 w_9 v_9 q_9 u_9 H locs hp_9 hI => ?_)
            obtain ⟨rfl, rfl, rfl, rfl, rfl, rfl, rfl⟩ := hp_9
            refine lv_istore_n (lv' := [(2, .int (iI (-rr % pr * exch g i c0 5 (c0 * 5 + c0) % pr))), (4, .int (iI (i : Int))), (0, .ref (a 0)), (1, .int (iI (x1 : Int))), (3, .int (iI (c0 : Int)))]) hx hb dX0_determinantOf_60 rfl hl (by decide) rfl (fun ls hl => ?_)
            refine lv_aload_n hx hb dX0_determinantOf_61 rfl (lv_at hl 2 rfl) ?_
            refine lv_iload_n hx hb dX0_determinantOf_62 rfl (lv_at hl 4 rfl) ?_
            refine lv_iload_n hx hb dX0_determinantOf_63 rfl (lv_at hl 3 rfl) ?_
            refine lv_iload_n hx hb dX0_determinantOf_64 rfl (lv_at hl 4 rfl) ?_
            refine c0_v (As := [.int (iI (c0 : Int)), .int (iI (x1 : Int)), .int (iI (c0 : Int))]) C hA hI (met0_clearBelow l c0 x1 c0 z pr (exch g i c0 5) v q u hp (by omega) (exch_in (by omega) hg)) (cw0_clearBelow C.2.2.2.2 ⟨Nat.le_of_ble_eq_true rfl, Nat.le_of_ble_eq_true rfl⟩) rfl hl.1 rfl (Nat.le_of_ble_eq_true rfl) dX0_determinantOf_65 ⟨Nat.le_refl _, Nat.le_refl _⟩ (fun z_10 pr_10 w_10 v_10 q_10 u_10 H locs hp_10 hI => ?_)
            obtain ⟨⟨un, hun, rfl⟩, rfl, rfl, rfl, rfl, rfl⟩ := hp_10
            have hg1 := exch_in (p := pr) (w := g) (i := i) (k := c0) (by omega) hg
            have hg2 := clr_in (un := un) (r := c0) (c := c0) (i := x1) (j := 0) hp0.1 hg1
            have hpiv : exch g i c0 5 (c0 * 5 + c0) ≠ 0 := by
              have e : row (exch g i c0 5) c0 c0 = row g i c0 := row_exch_k (by omega)
              have e2 : exch g i c0 5 (c0 * 5 + c0) = g (i * 5 + c0) := e
              rw [e2]
              exact hi3
            have hD2 : cg pr (-rr % pr * exch g i c0 5 (c0 * 5 + c0) % pr * td (clr pr (exch g i c0 5) un c0 c0 x1 0) (c0 + 1) (x1 - (c0 + 1))) (td w 0 x1) := by
              have e := el_step (un := un) hp0.1 (show 1 ≤ x1 - c0 by omega) (show c0 + (x1 - c0) ≤ 4 by omega) hg1 (hun hpiv) (el_neg (i := i) (by omega) (by omega) (by omega) hD)
              rw [show c0 + (x1 - c0) = x1 by omega, show x1 - c0 - 1 = x1 - (c0 + 1) by omega] at e
              exact e
            refine lv_iinc (v := iI ((c0 + 1 : Nat) : Int)) (lv' := [(3, .int (iI ((c0 + 1 : Nat) : Int))), (2, .int (iI (-rr % pr * exch g i c0 5 (c0 * 5 + c0) % pr))), (4, .int (iI (i : Int))), (0, .ref (a 0)), (1, .int (iI (x1 : Int)))]) hx hb dX0_determinantOf_68 hl (k := 4) rfl (iI_inc1 _) (by decide) rfl (fun ls hl => ?_)
            refine lv_goto (tgt := 4) hx hb dX0_determinantOf_71 (by decide) ?_
            exact ih_4 (c0 + 1) (-rr % pr * exch g i c0 5 (c0 * 5 + c0) % pr) (clr pr (exch g i c0 5) un c0 c0 x1 0) (by omega) (by omega) (em_in hp0.1) hg2 hD2 _ _ hI ls (lv_sub hl [3, 4, 1, 0] rfl)
        · refine z_iconst hx hb dX0_determinantOf_23 ?_
          have hz : td g c0 (x1 - c0) = 0 := by
            refine td_zero (by omega) (fun j h2 h3 => ?_)
            rcases hpv with ⟨_, h⟩ | ⟨j2, h, _, _, _⟩
            · exact h j h2 (by omega)
            · omega
          rw [hz, Int.mul_zero] at hD
          exact r0_i C hr hlocks hI (⟨by rw [← hD.eq, Int.zero_emod], rfl, rfl, rfl, rfl, rfl⟩) dX0_determinantOf_24
  exact lp_4 (x1 + 1) 0 1 w (by omega) (by omega) (by omega) hw (cg.of (Int.one_mul _)) _ _ hI ls (lv_sub hl [2, 3, 1, 0] rfl)
theorem crt_k {d x1 x2 un : Int} (h1 : d % 32749 = x1) (h2 : d % 32719 = x2) (hun : 30 * un % 32719 = 1) : ∃ K, x1 + 32749 * ((x2 - x1) % 32719 * un % 32719) = d + 1071514531 * K := by
  have g1 : cg 32719 ((x2 - x1) % 32719 * un % 32719) ((x2 - x1) * un) := (cg.em _ _).tr ((cg.em _ _).ml (cg.rf _ _))
  have g2 : cg 32719 (30 * un) 1 := (cg.em _ _).sy.tr (cg.of hun)
  have g3 : cg 32719 x2 d := (cg.of h2.symm).tr (cg.em _ _)
  generalize (x2 - x1) % 32719 * un % 32719 = st at g1 ⊢
  obtain ⟨t1, e1⟩ := g1
  obtain ⟨t2, e2⟩ := g2
  obtain ⟨t3, e3⟩ := g3
  have e4 := Int.mul_ediv_add_emod d 32749
  rw [h1] at e4
  -- x1 + 32749 st = d + 32749 (st - d / 32749), and the same is d + 32719 B
  have e5 : ∃ B, x1 + 32749 * st = d + 32719 * B := ⟨st + t3 + 30 * t1 + (x2 - x1) * t2, by grind⟩
  obtain ⟨B, e5⟩ := e5
  generalize hA : st - d / 32749 = A
  have e6 : x1 + 32749 * st = d + 32749 * A := by grind
  have e7 : 30 * A = 32719 * (B - A) := by omega
  refine ⟨un * (B - A) - t2 * A, ?_⟩
  grind
abbrev ps0_join (x1 : Int) (x2 : Int) (z : Nat → Int) (pr : Int) (w : Nat → Int) (v : Nat → Int) (q : Nat → Int) (u : Nat → Int) : Int → (Nat → Int) → Int → (Nat → Int) → (Nat → Int) → (Nat → Int) → (Nat → Int) → Prop := fun r z1 pr1 w1 v1 q1 u1 => (∀ d : Int, -535740906 ≤ d → d ≤ 535740906 → d % 32749 = x1 → d % 32719 = x2 → r = d) ∧ z = z1 ∧ 32719 = pr1 ∧ w = w1 ∧ v = v1 ∧ q = q1 ∧ u = u1
set_option maxHeartbeats 4000000 in
set_option maxRecDepth 100000 in
theorem met0_join (l : Launch) (x1 : Int) (x2 : Int) (z : Nat → Int) (pr : Int) (w : Nat → Int) (v : Nat → Int) (q : Nat → Int) (u : Nat → Int) (h1 : 0 ≤ x1 ∧ x1 < 32749) (h2 : 0 ≤ x2 ∧ x2 < 32719) : M0i l yX0_join cX0_join 7 (some .int) rm0_join [.int (iI x1), .int (iI x2)] z pr w v q u (ps0_join x1 x2 z pr w v q u) := by
  refine M0i.of (by decide) rfl (fun _ => Nat.le_of_ble_eq_true rfl) ?_
  intro p e s m args below meth c D a ca A ls C hr hlocks hA hl hI
  have hx := C.1
  have hb := C.2.1
  have hl : lv_has ls 7 [(0, .ref (a 0)), (1, .int (iI x1)), (2, .int (iI x2))] := hl
  refine lv_aload_n hx hb dX0_join_0 rfl (lv_at hl 0 rfl) ?_
  refine z_sipush hx hb dX0_join_1 (by decide +kernel) ?_
  refine p0_prime C hI dX0_join_4 (fun H locs hI => ?_)
  refine lv_aload_n hx hb dX0_join_7 rfl (lv_at hl 0 rfl) ?_
  refine z_bipush hx hb dX0_join_8 (by decide +kernel) ?_
  refine c0_i (As := [.int (iI 30)]) C hA hI (met0_inverse l 30 z 32719 w v q u (by omega) (by omega)) (cw0_inverse C.2.2.2.2 ⟨Nat.le_of_ble_eq_true rfl, Nat.le_of_ble_eq_true rfl⟩) rfl hl.1 rfl (Nat.le_of_ble_eq_true rfl) dX0_join_10 ⟨Nat.le_refl _, Nat.le_refl _⟩ (fun un z_1 pr_1 w_1 v_1 q_1 u_1 H locs hp_1 hI => ?_)
  obtain ⟨hun, rfl, rfl, rfl, rfl, rfl, rfl⟩ := hp_1
  refine lv_istore_n (lv' := [(3, .int (iI un)), (0, .ref (a 0)), (1, .int (iI x1)), (2, .int (iI x2))]) hx hb dX0_join_13 rfl hl (by decide) rfl (fun ls hl => ?_)
  refine lv_aload_n hx hb dX0_join_14 rfl (lv_at hl 1 rfl) ?_
  refine lv_iload_n hx hb dX0_join_15 rfl (lv_at hl 3 rfl) ?_
  refine lv_iload_n hx hb dX0_join_16 rfl (lv_at hl 2 rfl) ?_
  refine z_isub hx hb dX0_join_17 ?_
  refine c0_i (As := [.int (iI (x2 - x1))]) C hA hI (met0_reduce l (x2 - x1) z 32719 w v q u (by omega) (by omega)) (cw0_reduce C.2.2.2.2 ⟨Nat.le_of_ble_eq_true rfl, Nat.le_of_ble_eq_true rfl⟩) rfl hl.1 rfl (Nat.le_of_ble_eq_true rfl) dX0_join_18 ⟨Nat.le_refl _, Nat.le_refl _⟩ (fun r_2 z_2 pr_2 w_2 v_2 q_2 u_2 H locs hp_2 hI => ?_)
  obtain ⟨rfl, rfl, rfl, rfl, rfl, rfl, rfl⟩ := hp_2
  refine lv_istore (lv' := [(4, .int (iI ((x2 - x1) % 32719))), (3, .int (iI un)), (0, .ref (a 0)), (1, .int (iI x1)), (2, .int (iI x2))]) hx hb dX0_join_21 hl (by decide) rfl (fun ls hl => ?_)
  refine lv_aload_n hx hb dX0_join_23 rfl (lv_at hl 2 rfl) ?_
  refine lv_iload hx hb dX0_join_24 (lv_at hl 0 rfl) ?_
  refine lv_iload_n hx hb dX0_join_26 rfl (lv_at hl 1 rfl) ?_
  refine c0_i (As := [.int (iI ((x2 - x1) % 32719)), .int (iI un)]) C hA hI (met0_times l ((x2 - x1) % 32719) un z 32719 w v q u (by omega) (em_in (by omega)) ⟨hun.1, hun.2.1⟩) (cw0_times C.2.2.2.2 ⟨Nat.le_of_ble_eq_true rfl, Nat.le_of_ble_eq_true rfl⟩) rfl hl.1 rfl (Nat.le_of_ble_eq_true rfl) dX0_join_27 ⟨Nat.le_refl _, Nat.le_refl _⟩ (fun r_3 z_3 pr_3 w_3 v_3 q_3 u_3 H locs hp_3 hI => ?_)
  obtain ⟨rfl, rfl, rfl, rfl, rfl, rfl, rfl⟩ := hp_3
  refine lv_istore (lv' := [(5, .int (iI ((x2 - x1) % 32719 * un % 32719))), (4, .int (iI ((x2 - x1) % 32719))), (3, .int (iI un)), (0, .ref (a 0)), (1, .int (iI x1)), (2, .int (iI x2))]) hx hb dX0_join_30 hl (by decide) rfl (fun ls hl => ?_)
  have hst := em_in (y := (x2 - x1) % 32719 * un) (p := 32719) (by omega)
  have hkk : ∀ d : Int, d % 32749 = x1 → d % 32719 = x2 → ∃ K, x1 + 32749 * ((x2 - x1) % 32719 * un % 32719) = d + 1071514531 * K := fun d g1 g2 => crt_k g1 g2 (hun.2.2 (by omega))
  generalize (x2 - x1) % 32719 * un % 32719 = sx at hst hkk hl ⊢
  refine lv_iload_n hx hb dX0_join_32 rfl (lv_at hl 4 rfl) ?_
  refine z_sipush hx hb dX0_join_33 (by decide +kernel) ?_
  refine lv_iload hx hb dX0_join_36 (lv_at hl 0 rfl) ?_
  refine z_imul hx hb dX0_join_38 ?_
  refine z_iadd hx hb dX0_join_39 ?_
  refine lv_istore (lv' := [(6, .int (iI (x1 + (32749 * sx)))), (5, .int (iI sx)), (4, .int (iI ((x2 - x1) % 32719))), (3, .int (iI un)), (0, .ref (a 0)), (1, .int (iI x1)), (2, .int (iI x2))]) hx hb dX0_join_40 hl (by decide) rfl (fun ls hl => ?_)
  refine lv_iload hx hb dX0_join_42 (lv_at hl 0 rfl) ?_
  refine z_ldc hx hb 535740906 C.2.2.2.1 (C.2.2.2.2 _ q125) (by decide +kernel) dX0_join_44 ?_
  refine z_icmp_le hx hb 57 dX0_join_46 (by decide) (by omega) (by omega) (fun c_4 => ?_) (fun c_4 => ?_)
  · refine lv_iload hx hb dX0_join_57 (lv_at hl 0 rfl) ?_
    exact r0_i C hr hlocks hI (⟨fun d g1 g2 g3 g4 => by obtain ⟨K, e⟩ := hkk d g3 g4; omega, rfl, rfl, rfl, rfl, rfl, rfl⟩) dX0_join_59
  · refine lv_iload hx hb dX0_join_49 (lv_at hl 0 rfl) ?_
    refine z_ldc hx hb 1071514531 C.2.2.2.1 (C.2.2.2.2 _ q126) (by decide +kernel) dX0_join_51 ?_
    refine z_isub hx hb dX0_join_53 ?_
    refine lv_goto (tgt := 59) hx hb dX0_join_54 (by decide) ?_
    exact r0_i C hr hlocks hI (⟨fun d g1 g2 g3 g4 => by obtain ⟨K, e⟩ := hkk d g3 g4; omega, rfl, rfl, rfl, rfl, rfl, rfl⟩) dX0_join_59
end
section
set_option maxRecDepth 100000
/-! the answers as plain numbers: determinants, their congruences and sizes -/
def BAD_ : Int := -1000000000
theorem td_cg {p : Int} {w w' : Nat → Int} {n : Nat} (hn : n ≤ 4) (h : ∀ k, k < 20 → cg p (w k) (w' k)) : cg p (td w 0 n) (td w' 0 n) := by
  have hr : ∀ i, i < 4 → ∀ j, j < 5 → cg p (row w i j) (row w' i j) := fun i hi j hj => h (i * 5 + j) (by omega)
  have : n = 0 ∨ n = 1 ∨ n = 2 ∨ n = 3 ∨ n = 4 := by omega
  rcases this with rfl | rfl | rfl | rfl | rfl
  · exact cg.rf _ _
  · exact hr 0 (by omega) 0 (by omega)
  · exact d2_cg (by omega) (by omega) (hr 0 (by omega)) (hr 1 (by omega))
  · exact d3_cg (by omega) (by omega) (by omega) (hr 0 (by omega)) (hr 1 (by omega)) (hr 2 (by omega))
  · exact d4_cg (by omega) (by omega) (by omega) (by omega) (hr 0 (by omega)) (hr 1 (by omega)) (hr 2 (by omega)) (hr 3 (by omega))
theorem td_eq {w w' : Nat → Int} {n : Nat} (hn : n ≤ 4) (h : ∀ k, k < 20 → w k = w' k) : td w 0 n = td w' 0 n := by
  have hr : ∀ i, i < 4 → ∀ j, j < 5 → row w i j = row w' i j := fun i hi j hj => h (i * 5 + j) (by omega)
  have : n = 0 ∨ n = 1 ∨ n = 2 ∨ n = 3 ∨ n = 4 := by omega
  rcases this with rfl | rfl | rfl | rfl | rfl
  · rfl
  · exact hr 0 (by omega) 0 (by omega)
  · show d2 _ _ _ _ = d2 _ _ _ _
    simp [d2, hr]
  · show d3 _ _ _ _ _ _ = d3 _ _ _ _ _ _
    simp [d3, d2, hr]
  · show d4 _ _ _ _ _ _ _ _ = d4 _ _ _ _ _ _ _ _
    simp [d4, d3, d2, hr]
theorem mb {a b A B : Int} (ha : -A ≤ a ∧ a ≤ A) (hb : -B ≤ b ∧ b ≤ B) : -(A * B) ≤ a * b ∧ a * b ≤ A * B := by
  have h1 := Int.mul_nonneg (show 0 ≤ A - a by omega) (show 0 ≤ B + b by omega)
  have h2 := Int.mul_nonneg (show 0 ≤ A + a by omega) (show 0 ≤ B - b by omega)
  have h3 := Int.mul_nonneg (show 0 ≤ A - a by omega) (show 0 ≤ B - b by omega)
  have h4 := Int.mul_nonneg (show 0 ≤ A + a by omega) (show 0 ≤ B + b by omega)
  constructor
  · have : (A - a) * (B - b) + (A + a) * (B + b) = 2 * (A * B) + 2 * (a * b) := by grind
    omega
  · have : (A - a) * (B + b) + (A + a) * (B - b) = 2 * (A * B) - 2 * (a * b) := by grind
    omega
theorem d2_bd {a b : Nat → Int} {x y : Nat} {A B C D : Int} (h1 : -A ≤ b y ∧ b y ≤ A) (h2 : -B ≤ a x ∧ a x ≤ B) (h3 : -C ≤ b x ∧ b x ≤ C) (h4 : -D ≤ a y ∧ a y ≤ D) : -(A * B + C * D) ≤ d2 a b x y ∧ d2 a b x y ≤ A * B + C * D := by
  have g1 := mb h1 h2
  have g2 := mb h3 h4
  unfold d2
  omega
theorem d3_bd {a b c : Nat → Int} {x y z : Nat} {A B C D E F : Int} (h1 : -A ≤ c z ∧ c z ≤ A) (h2 : -B ≤ d2 a b x y ∧ d2 a b x y ≤ B) (h3 : -C ≤ c y ∧ c y ≤ C) (h4 : -D ≤ d2 a b x z ∧ d2 a b x z ≤ D) (h5 : -E ≤ c x ∧ c x ≤ E) (h6 : -F ≤ d2 a b y z ∧ d2 a b y z ≤ F) : -(A * B + C * D + E * F) ≤ d3 a b c x y z ∧ d3 a b c x y z ≤ A * B + C * D + E * F := by
  have g1 := mb h1 h2
  have g2 := mb h3 h4
  have g3 := mb h5 h6
  unfold d3
  omega
theorem d4_bd {a b c d : Nat → Int} {x y z t : Nat} {A B C D E F G H : Int} (h1 : -A ≤ d t ∧ d t ≤ A) (h2 : -B ≤ d3 a b c x y z ∧ d3 a b c x y z ≤ B) (h3 : -C ≤ d z ∧ d z ≤ C) (h4 : -D ≤ d3 a b c x y t ∧ d3 a b c x y t ≤ D) (h5 : -E ≤ d y ∧ d y ≤ E) (h6 : -F ≤ d3 a b c x z t ∧ d3 a b c x z t ≤ F) (h7 : -G ≤ d x ∧ d x ≤ G) (h8 : -H ≤ d3 a b c y z t ∧ d3 a b c y z t ≤ H) : -(A * B + C * D + E * F + G * H) ≤ d4 a b c d x y z t ∧ d4 a b c d x y z t ≤ A * B + C * D + E * F + G * H := by
  have g1 := mb h1 h2
  have g2 := mb h3 h4
  have g3 := mb h5 h6
  have g4 := mb h7 h8
  unfold d4
  omega
/-- sizes of determinants of numbers of at most 50 -/
theorem d2_50 {a b : Nat → Int} {x y : Nat} (ha : ∀ j, j < 5 → -50 ≤ a j ∧ a j ≤ 50) (hb : ∀ j, j < 5 → -50 ≤ b j ∧ b j ≤ 50) (hx : x < 5) (hy : y < 5) : -5000 ≤ d2 a b x y ∧ d2 a b x y ≤ 5000 := d2_bd (hb y hy) (ha x hx) (hb x hx) (ha y hy)
theorem d3_50 {a b c : Nat → Int} {x y z : Nat} (ha : ∀ j, j < 5 → -50 ≤ a j ∧ a j ≤ 50) (hb : ∀ j, j < 5 → -50 ≤ b j ∧ b j ≤ 50) (hc : ∀ j, j < 5 → -50 ≤ c j ∧ c j ≤ 50) (hx : x < 5) (hy : y < 5) (hz : z < 5) : -750000 ≤ d3 a b c x y z ∧ d3 a b c x y z ≤ 750000 := d3_bd (hc z hz) (d2_50 ha hb hx hy) (hc y hy) (d2_50 ha hb hx hz) (hc x hx) (d2_50 ha hb hy hz)
theorem d4_50 {a b c d : Nat → Int} {x y z t : Nat} (ha : ∀ j, j < 5 → -50 ≤ a j ∧ a j ≤ 50) (hb : ∀ j, j < 5 → -50 ≤ b j ∧ b j ≤ 50) (hc : ∀ j, j < 5 → -50 ≤ c j ∧ c j ≤ 50) (hd : ∀ j, j < 5 → -50 ≤ d j ∧ d j ≤ 50) (hx : x < 5) (hy : y < 5) (hz : z < 5) (ht : t < 5) : -150000000 ≤ d4 a b c d x y z t ∧ d4 a b c d x y z t ≤ 150000000 := d4_bd (hd t ht) (d3_50 ha hb hc hx hy hz) (hd z hz) (d3_50 ha hb hc hx hy ht) (hd y hy) (d3_50 ha hb hc hx hz ht) (hd x hx) (d3_50 ha hb hc hy hz ht)
theorem row_50 {z : Nat → Int} (hz : ∀ k, k < 20 → -50 ≤ z k ∧ z k ≤ 50) {i : Nat} (hi : i < 4) : ∀ j, j < 5 → -50 ≤ row z i j ∧ row z i j ≤ 50 := fun j hj => hz (i * 5 + j) (by omega)
theorem td_50 {z : Nat → Int} (hz : ∀ k, k < 20 → -50 ≤ z k ∧ z k ≤ 50) : -150000000 ≤ td z 0 4 ∧ td z 0 4 ≤ 150000000 := d4_50 (row_50 hz (by omega)) (row_50 hz (by omega)) (row_50 hz (by omega)) (row_50 hz (by omega)) (by omega) (by omega) (by omega) (by omega)
/-- the numbers with v added on the diagonal -/
def shz (z : Nat → Int) (v : Int) : Nat → Int := fun k => if k = 0 ∨ k = 6 ∨ k = 12 ∨ k = 18 then z k + v else z k
theorem shz_bd {z : Nat → Int} {v : Int} (hz : ∀ k, k < 20 → -50 ≤ z k ∧ z k ≤ 50) (hv : -50 ≤ v ∧ v ≤ 50) : -406250000 ≤ td (shz z v) 0 4 ∧ td (shz z v) 0 4 ≤ 406250000 := by
  have ho : ∀ i j, i < 4 → j < 4 → i ≠ j → -50 ≤ row (shz z v) i j ∧ row (shz z v) i j ≤ 50 := by
    intro i j hi hj hij
    have h := hz (i * 5 + j) (by omega)
    unfold row shz
    rw [if_neg (by omega)]
    exact h
  have hd : ∀ i, i < 4 → -100 ≤ row (shz z v) i i ∧ row (shz z v) i i ≤ 100 := by
    intro i hi
    have h := hz (i * 5 + i) (by omega)
    unfold row shz
    rw [if_pos (by omega)]
    omega
  have o := fun i j (hi : i < 4) (hj : j < 4) (hij : i ≠ j) => ho i j hi hj hij
  have e01 := d2_bd (a := row (shz z v) 0) (b := row (shz z v) 1) (x := 0) (y := 1) (hd 1 (by omega)) (hd 0 (by omega)) (o 1 0 (by omega) (by omega) (by omega)) (o 0 1 (by omega) (by omega) (by omega))
  have e02 := d2_bd (a := row (shz z v) 0) (b := row (shz z v) 1) (x := 0) (y := 2) (o 1 2 (by omega) (by omega) (by omega)) (hd 0 (by omega)) (o 1 0 (by omega) (by omega) (by omega)) (o 0 2 (by omega) (by omega) (by omega))
  have e12 := d2_bd (a := row (shz z v) 0) (b := row (shz z v) 1) (x := 1) (y := 2) (o 1 2 (by omega) (by omega) (by omega)) (o 0 1 (by omega) (by omega) (by omega)) (hd 1 (by omega)) (o 0 2 (by omega) (by omega) (by omega))
  have e03 := d2_bd (a := row (shz z v) 0) (b := row (shz z v) 1) (x := 0) (y := 3) (o 1 3 (by omega) (by omega) (by omega)) (hd 0 (by omega)) (o 1 0 (by omega) (by omega) (by omega)) (o 0 3 (by omega) (by omega) (by omega))
  have e13 := d2_bd (a := row (shz z v) 0) (b := row (shz z v) 1) (x := 1) (y := 3) (o 1 3 (by omega) (by omega) (by omega)) (o 0 1 (by omega) (by omega) (by omega)) (hd 1 (by omega)) (o 0 3 (by omega) (by omega) (by omega))
  have e23 := d2_bd (a := row (shz z v) 0) (b := row (shz z v) 1) (x := 2) (y := 3) (o 1 3 (by omega) (by omega) (by omega)) (o 0 2 (by omega) (by omega) (by omega)) (o 1 2 (by omega) (by omega) (by omega)) (o 0 3 (by omega) (by omega) (by omega))
  have f012 := d3_bd (c := row (shz z v) 2) (hd 2 (by omega)) e01 (o 2 1 (by omega) (by omega) (by omega)) e02 (o 2 0 (by omega) (by omega) (by omega)) e12
  have f013 := d3_bd (c := row (shz z v) 2) (o 2 3 (by omega) (by omega) (by omega)) e01 (o 2 1 (by omega) (by omega) (by omega)) e03 (o 2 0 (by omega) (by omega) (by omega)) e13
  have f023 := d3_bd (c := row (shz z v) 2) (o 2 3 (by omega) (by omega) (by omega)) e02 (hd 2 (by omega)) e03 (o 2 0 (by omega) (by omega) (by omega)) e23
  have f123 := d3_bd (c := row (shz z v) 2) (o 2 3 (by omega) (by omega) (by omega)) e12 (hd 2 (by omega)) e13 (o 2 1 (by omega) (by omega) (by omega)) e23
  have g := d4_bd (d := row (shz z v) 3) (hd 3 (by omega)) f012 (o 3 2 (by omega) (by omega) (by omega)) f013 (o 3 1 (by omega) (by omega) (by omega)) f023 (o 3 0 (by omega) (by omega) (by omega)) f123
  exact g
/-- the numbers of the column in the place of column j -/
def repz (z : Nat → Int) (j : Nat) : Nat → Int := fun k => if k % 5 = j then z (k / 5 * 5 + 4) else z k
theorem repz_50 {z : Nat → Int} {j : Nat} (hz : ∀ k, k < 20 → -50 ≤ z k ∧ z k ≤ 50) : ∀ k, k < 20 → -50 ≤ repz z j k ∧ repz z j k ≤ 50 := by
  intro k hk
  unfold repz
  split
  · exact hz _ (by omega)
  · exact hz k hk
theorem up_50 {z : Nat → Int} {j : Nat} {v : Int} (hz : ∀ k, k < 20 → -50 ≤ z k ∧ z k ≤ 50) (hv : -50 ≤ v ∧ v ≤ 50) : ∀ k, k < 20 → -50 ≤ up z j v k ∧ up z j v k ≤ 50 := by
  intro k hk
  unfold up
  split
  · exact hv
  · exact hz k hk
/-- the a-th row or column when number i is left out -/
def sk (i a : Nat) : Nat := if a < i then a else a + 1
theorem sk_lt {i a : Nat} (h : a < 3) : sk i a < 4 := by unfold sk; split <;> omega
def mnz (z : Nat → Int) (i j : Nat) : Int := d3 (row z (sk i 0)) (row z (sk i 1)) (row z (sk i 2)) (sk j 0) (sk j 1) (sk j 2)
theorem mnz_50 {z : Nat → Int} (hz : ∀ k, k < 20 → -50 ≤ z k ∧ z k ≤ 50) (i j : Nat) : -750000 ≤ mnz z i j ∧ mnz z i j ≤ 750000 := by
  have s0 := sk_lt (i := i) (a := 0) (by omega)
  have s1 := sk_lt (i := i) (a := 1) (by omega)
  have s2 := sk_lt (i := i) (a := 2) (by omega)
  have t0 := sk_lt (i := j) (a := 0) (by omega)
  have t1 := sk_lt (i := j) (a := 1) (by omega)
  have t2 := sk_lt (i := j) (a := 2) (by omega)
  exact d3_50 (row_50 hz s0) (row_50 hz s1) (row_50 hz s2) (by omega) (by omega) (by omega)
theorem mnz_cg {p : Int} {z z' : Nat → Int} (h : ∀ k, k < 20 → cg p (z k) (z' k)) (i j : Nat) : cg p (mnz z i j) (mnz z' i j) := by
  have s0 := sk_lt (i := i) (a := 0) (by omega)
  have s1 := sk_lt (i := i) (a := 1) (by omega)
  have s2 := sk_lt (i := i) (a := 2) (by omega)
  have t0 := sk_lt (i := j) (a := 0) (by omega)
  have t1 := sk_lt (i := j) (a := 1) (by omega)
  have t2 := sk_lt (i := j) (a := 2) (by omega)
  exact d3_cg (by omega) (by omega) (by omega) (fun j hj => h _ (by omega)) (fun j hj => h _ (by omega)) (fun j hj => h _ (by omega))
end
section
set_option maxRecDepth 100000
abbrev ps0_determinant  (z : Nat → Int) (pr : Int) (w : Nat → Int) (v : Nat → Int) (q : Nat → Int) (u : Nat → Int) : Int → (Nat → Int) → Int → (Nat → Int) → (Nat → Int) → (Nat → Int) → (Nat → Int) → Prop := fun r z1 pr1 w1 v1 q1 u1 => td z 0 4 = r ∧ z = z1
set_option maxHeartbeats 4000000 in
set_option maxRecDepth 100000 in
theorem met0_determinant (l : Launch) (z : Nat → Int) (pr : Int) (w : Nat → Int) (v : Nat → Int) (q : Nat → Int) (u : Nat → Int) (hz : ∀ k, k < 20 → -50 ≤ z k ∧ z k ≤ 50) : M0i l yX0_determinant cX0_determinant 3 (some .int) rm0_determinant [] z pr w v q u (ps0_determinant z pr w v q u) := by
  refine M0i.of (by decide) rfl (fun _ => Nat.le_of_ble_eq_true rfl) ?_
  intro p e s m args below meth c D a ca A ls C hr hlocks hA hl hI
  have hx := C.1
  have hb := C.2.1
  have hl : lv_has ls 3 [(0, .ref (a 0))] := hl
  have hbd := td_50 hz
  refine lv_aload_n hx hb dX0_determinant_0 rfl (lv_at hl 0 rfl) ?_
  refine z_sipush hx hb dX0_determinant_1 (by decide +kernel) ?_
  refine c0_v (As := [.int (iI 32749)]) C hA hI (met0_load l 32749 z pr w v q u (by omega) hz) (cw0_load C.2.2.2.2 ⟨Nat.le_of_ble_eq_true rfl, Nat.le_of_ble_eq_true rfl⟩) rfl hl.1 rfl (Nat.le_of_ble_eq_true rfl) dX0_determinant_4 ⟨Nat.le_refl _, Nat.le_refl _⟩ (fun z_1 pr_1 w_1 v_1 q_1 u_1 H locs hp_1 hI => ?_)
  obtain ⟨rfl, rfl, rfl, rfl, rfl, rfl⟩ := hp_1
  refine lv_aload_n hx hb dX0_determinant_7 rfl (lv_at hl 0 rfl) ?_
  refine z_iconst hx hb dX0_determinant_8 ?_
  refine c0_i (As := [.int (iI 4)]) C hA hI (met0_determinantOf l 4 z 32749 (fun k => z k % 32749) v q u (by omega) (by omega) (fun k _ => em_in (by omega))) (cw0_determinantOf C.2.2.2.2 ⟨Nat.le_of_ble_eq_true rfl, Nat.le_of_ble_eq_true rfl⟩) rfl hl.1 rfl (Nat.le_of_ble_eq_true rfl) dX0_determinant_9 ⟨Nat.le_refl _, Nat.le_refl _⟩ (fun f1 z_2 pr_2 w_2 v_2 q_2 u_2 H locs hp_2 hI => ?_)
  obtain ⟨e1, rfl, rfl, rfl, rfl, rfl⟩ := hp_2
  refine lv_istore_n (lv' := [(1, .int (iI f1)), (0, .ref (a 0))]) hx hb dX0_determinant_12 rfl hl (by decide) rfl (fun ls hl => ?_)
  refine lv_aload_n hx hb dX0_determinant_13 rfl (lv_at hl 1 rfl) ?_
  refine z_sipush hx hb dX0_determinant_14 (by decide +kernel) ?_
  refine c0_v (As := [.int (iI 32719)]) C hA hI (met0_load l 32719 z 32749 w_2 v q u (by omega) hz) (cw0_load C.2.2.2.2 ⟨Nat.le_of_ble_eq_true rfl, Nat.le_of_ble_eq_true rfl⟩) rfl hl.1 rfl (Nat.le_of_ble_eq_true rfl) dX0_determinant_17 ⟨Nat.le_refl _, Nat.le_refl _⟩ (fun z_3 pr_3 w_3 v_3 q_3 u_3 H locs hp_3 hI => ?_)
  obtain ⟨rfl, rfl, rfl, rfl, rfl, rfl⟩ := hp_3
  refine lv_aload_n hx hb dX0_determinant_20 rfl (lv_at hl 1 rfl) ?_
  refine z_iconst hx hb dX0_determinant_21 ?_
  refine c0_i (As := [.int (iI 4)]) C hA hI (met0_determinantOf l 4 z 32719 (fun k => z k % 32719) v q u (by omega) (by omega) (fun k _ => em_in (by omega))) (cw0_determinantOf C.2.2.2.2 ⟨Nat.le_of_ble_eq_true rfl, Nat.le_of_ble_eq_true rfl⟩) rfl hl.1 rfl (Nat.le_of_ble_eq_true rfl) dX0_determinant_22 ⟨Nat.le_refl _, Nat.le_refl _⟩ (fun f2 z_4 pr_4 w_4 v_4 q_4 u_4 H locs hp_4 hI => ?_)
  obtain ⟨e2, rfl, rfl, rfl, rfl, rfl⟩ := hp_4
  refine lv_istore_n (lv' := [(2, .int (iI f2)), (1, .int (iI f1)), (0, .ref (a 0))]) hx hb dX0_determinant_25 rfl hl (by decide) rfl (fun ls hl => ?_)
  refine lv_aload_n hx hb dX0_determinant_26 rfl (lv_at hl 2 rfl) ?_
  refine lv_iload_n hx hb dX0_determinant_27 rfl (lv_at hl 1 rfl) ?_
  refine lv_iload_n hx hb dX0_determinant_28 rfl (lv_at hl 0 rfl) ?_
  refine c0_i (As := [.int (iI f1), .int (iI f2)]) C hA hI (met0_join l f1 f2 z 32719 w_4 v q u (by rw [← e1]; exact em_in (by omega)) (by rw [← e2]; exact em_in (by omega))) (cw0_join C.2.2.2.2 ⟨Nat.le_of_ble_eq_true rfl, Nat.le_of_ble_eq_true rfl⟩) rfl hl.1 rfl (Nat.le_of_ble_eq_true rfl) dX0_determinant_29 ⟨Nat.le_refl _, Nat.le_refl _⟩ (fun rj z_5 pr_5 w_5 v_5 q_5 u_5 H locs hp_5 hI => ?_)
  obtain ⟨hj, rfl, rfl, rfl, rfl, rfl, rfl⟩ := hp_5
  exact r0_i C hr hlocks hI (⟨(hj _ (by omega) (by omega) (((td_cg (by omega) (fun k _ => (cg.em _ _).sy)).eq).trans e1) (((td_cg (by omega) (fun k _ => (cg.em _ _).sy)).eq).trans e2)).symm, rfl⟩) dX0_determinant_32
/-- the work space while row r and column c are left out: m of the sixteen places looked at -/
def lvo (w : Nat → Int) (r c m : Nat) : Nat → Int := fun x => if x / 5 < 3 ∧ x % 5 < 3 ∧ sk r (x / 5) * 4 + sk c (x % 5) < m then w (sk r (x / 5) * 5 + sk c (x % 5)) else w x
theorem lvo_0 (w : Nat → Int) (r c : Nat) : lvo w r c 0 = w := by
  funext x
  unfold lvo
  rw [if_neg (by omega)]
theorem lvo_at {w : Nat → Int} {r c i j : Nat} (hi : i < 4) (hj : j < 4) : lvo w r c (i * 4 + j) (i * 5 + j) = w (i * 5 + j) := by
  unfold lvo
  have e1 : (i * 5 + j) / 5 = i := by omega
  have e2 : (i * 5 + j) % 5 = j := by omega
  rw [e1, e2]
  have g1 : i ≤ sk r i := by unfold sk; split <;> omega
  have g2 : j ≤ sk c j := by unfold sk; split <;> omega
  rw [if_neg (by omega)]
theorem sk_ne {r a : Nat} : sk r a ≠ r := by unfold sk; split <;> omega
theorem sk_inj {r a b : Nat} (h : sk r a = sk r b) : a = b := by
  unfold sk at h
  split at h <;> split at h <;> omega
theorem lvo_skip {w : Nat → Int} {r c i j : Nat} (hi : i < 4) (hj : j < 4) (h : i = r ∨ j = c) : lvo w r c (i * 4 + j) = lvo w r c (i * 4 + (j + 1)) := by
  funext x
  unfold lvo
  have g1 : sk r (x / 5) ≠ r := sk_ne
  have g2 : sk c (x % 5) ≠ c := sk_ne
  by_cases q : x / 5 < 3 ∧ x % 5 < 3
  · have s1 := sk_lt (i := r) q.1
    have s2 := sk_lt (i := c) q.2
    by_cases q2 : sk r (x / 5) * 4 + sk c (x % 5) < i * 4 + j
    · rw [if_pos (by omega), if_pos (by omega)]
    · rw [if_neg (by omega), if_neg (by omega)]
  · rw [if_neg (by omega), if_neg (by omega)]
theorem lvo_s {w : Nat → Int} {r c i j a b : Nat} (hi : i < 4) (hj : j < 4) (ha : sk r a = i) (hb : sk c b = j) (ha3 : a < 3) (hb3 : b < 3) : up (lvo w r c (i * 4 + j)) (a * 5 + b) (w (i * 5 + j)) = lvo w r c (i * 4 + (j + 1)) := by
  funext x
  by_cases hx : x = a * 5 + b
  · subst hx
    rw [up_s]
    unfold lvo
    have e1 : (a * 5 + b) / 5 = a := by omega
    have e2 : (a * 5 + b) % 5 = b := by omega
    rw [e1, e2, ha, hb, if_pos (by omega)]
  · rw [up_n hx]
    unfold lvo
    by_cases q : x / 5 < 3 ∧ x % 5 < 3
    · have s1 := sk_lt (i := r) q.1
      have s2 := sk_lt (i := c) q.2
      have ne : sk r (x / 5) * 4 + sk c (x % 5) ≠ i * 4 + j := by
        intro e
        have k1 : sk r (x / 5) = i := by omega
        have k2 : sk c (x % 5) = j := by omega
        have k3 := sk_inj (k1.trans ha.symm)
        have k4 := sk_inj (k2.trans hb.symm)
        omega
      by_cases q2 : sk r (x / 5) * 4 + sk c (x % 5) < i * 4 + j
      · rw [if_pos (by omega), if_pos (by omega)]
      · rw [if_neg (by omega), if_neg (by omega)]
    · rw [if_neg (by omega), if_neg (by omega)]
theorem lvo_in {p : Int} {w : Nat → Int} {r c m : Nat} (hw : ∀ k, k < 20 → 0 ≤ w k ∧ w k < p) : ∀ k, k < 20 → 0 ≤ lvo w r c m k ∧ lvo w r c m k < p := by
  intro k hk
  unfold lvo
  by_cases h : k / 5 < 3 ∧ k % 5 < 3 ∧ sk r (k / 5) * 4 + sk c (k % 5) < m
  · have s1 := sk_lt (i := r) h.1
    have s2 := sk_lt (i := c) h.2.1
    rw [if_pos h]
    exact hw _ (by omega)
  · rw [if_neg h]
    exact hw k hk
theorem lvo_td (w : Nat → Int) (r c : Nat) : td (lvo w r c 16) 0 3 = mnz w r c := by
  have h : ∀ a b, a < 3 → b < 3 → row (lvo w r c 16) a b = row w (sk r a) (sk c b) := by
    intro a b ha hb
    have s1 := sk_lt (i := r) ha
    have s2 := sk_lt (i := c) hb
    unfold row lvo
    have e1 : (a * 5 + b) / 5 = a := by omega
    have e2 : (a * 5 + b) % 5 = b := by omega
    rw [e1, e2, if_pos (by omega)]
  show d3 _ _ _ _ _ _ = d3 _ _ _ _ _ _
  simp [d3, d2, h]
abbrev ps0_leaveOut (x1 : Nat) (x2 : Nat) (z : Nat → Int) (pr : Int) (w : Nat → Int) (v : Nat → Int) (q : Nat → Int) (u : Nat → Int) : (Nat → Int) → Int → (Nat → Int) → (Nat → Int) → (Nat → Int) → (Nat → Int) → Prop := fun z1 pr1 w1 v1 q1 u1 => z = z1 ∧ pr = pr1 ∧ lvo w x1 x2 16 = w1 ∧ v = v1 ∧ q = q1 ∧ u = u1
set_option maxHeartbeats 4000000 in
set_option maxRecDepth 100000 in
theorem met0_leaveOut (l : Launch) (x1 : Nat) (x2 : Nat) (z : Nat → Int) (pr : Int) (w : Nat → Int) (v : Nat → Int) (q : Nat → Int) (u : Nat → Int) (h1 : x1 < 4 ∧ x2 < 4) : M0v l yX0_leaveOut cX0_leaveOut 6 none rm0_leaveOut [.int (iI (x1 : Int)), .int (iI (x2 : Int))] z pr w v q u (ps0_leaveOut x1 x2 z pr w v q u) := by
  refine M0v.of (by decide) rfl (fun _ => Nat.le_of_ble_eq_true rfl) ?_
  intro p e s m args below meth c D a ca A ls C hr hlocks hA hl hI
  have hx := C.1
  have hb := C.2.1
  have hl : lv_has ls 6 [(0, .ref (a 0)), (1, .int (iI (x1 : Int))), (2, .int (iI (x2 : Int)))] := hl
  refine z_iconst hx hb dX0_leaveOut_0 ?_
  refine lv_istore_n (lv' := [(3, .int (iI 0)), (0, .ref (a 0)), (1, .int (iI (x1 : Int))), (2, .int (iI (x2 : Int)))]) hx hb dX0_leaveOut_1 rfl hl (by decide) rfl (fun ls hl => ?_)
  have lp_2 : ∀ (n_2 : Nat) (i : Nat), (hf_2 : 4 < i + n_2) → (hi : i ≤ 4) → ∀ (H : Heap) (locs : List Loc), I0 D A s a ca z pr (lvo w x1 x2 (i * 4 + 0)) v q u H locs → ∀ (ls : Array Slot), lv_has ls 6 [(0, .ref (a 0)), (1, .int (iI (x1 : Int))), (2, .int (iI (x2 : Int))), (3, .int (iI (i : Int)))] → W p l e rm0_leaveOut s m args below meth c H locs 0 0 (E0v D a ca A (ps0_leaveOut x1 x2 z pr w v q u) below args s) (F0 m 2 ls []) := by
    intro n_2
    induction n_2 with
    | zero =>
      intro i hf_2 hi H locs hI ls hl
      exfalso; omega
    | succ n_2 ih_2 =>
      intro i hf_2 hi H locs hI ls hl
      refine lv_iload_n hx hb dX0_leaveOut_2 rfl (lv_at hl 3 rfl) ?_
      refine z_iconst hx hb dX0_leaveOut_3 ?_
      refine z_icmp_ge hx hb 89 dX0_leaveOut_4 (by decide) (by omega) (by omega) (fun c_1 => ?_) (fun c_1 => ?_)
      · have hi4 : i * 4 + 0 = 16 := by omega
        rw [hi4] at hI
        exact r0_v C hr hlocks hI (⟨rfl, rfl, rfl, rfl, rfl, rfl⟩) dX0_leaveOut_89
      · refine z_iconst hx hb dX0_leaveOut_7 ?_
        refine lv_istore (lv' := [(4, .int (iI 0)), (0, .ref (a 0)), (1, .int (iI (x1 : Int))), (2, .int (iI (x2 : Int))), (3, .int (iI (i : Int)))]) hx hb dX0_leaveOut_8 hl (by decide) rfl (fun ls hl => ?_)
        have lp_10 : ∀ (n_10 : Nat) (j : Nat), (hf_10 : 4 < j + n_10) → (hj : j ≤ 4) → ∀ (H : Heap) (locs : List Loc), I0 D A s a ca z pr (lvo w x1 x2 (i * 4 + j)) v q u H locs → ∀ (ls : Array Slot), lv_has ls 6 [(0, .ref (a 0)), (1, .int (iI (x1 : Int))), (2, .int (iI (x2 : Int))), (3, .int (iI (i : Int))), (4, .int (iI (j : Int)))] → W p l e rm0_leaveOut s m args below meth c H locs 0 0 (E0v D a ca A (ps0_leaveOut x1 x2 z pr w v q u) below args s) (F0 m 10 ls []) := by
          intro n_10
          induction n_10 with
          | zero =>
            intro j hf_10 hj H locs hI ls hl
            exfalso; omega
          | succ n_10 ih_10 =>
            intro j hf_10 hj H locs hI ls hl
            refine lv_iload hx hb dX0_leaveOut_10 (lv_at hl 4 rfl) ?_
            refine z_iconst hx hb dX0_leaveOut_12 ?_
            refine z_icmp_ge hx hb 83 dX0_leaveOut_13 (by decide) (by omega) (by omega) (fun c_2 => ?_) (fun c_2 => ?_)
            · refine lv_iinc (v := iI ((i + 1 : Nat) : Int)) (lv' := [(3, .int (iI ((i + 1 : Nat) : Int))), (0, .ref (a 0)), (1, .int (iI (x1 : Int))), (2, .int (iI (x2 : Int))), (4, .int (iI (j : Int)))]) hx hb dX0_leaveOut_83 hl (k := 3) rfl (iI_inc1 _) (by decide) rfl (fun ls hl => ?_)
              refine lv_goto (tgt := 2) hx hb dX0_leaveOut_86 (by decide) ?_
              have hj4 : i * 4 + j = (i + 1) * 4 + 0 := by omega
              rw [hj4] at hI
              exact ih_2 (i + 1) (by omega) (by omega) _ _ hI ls (lv_sub hl [1, 2, 3, 0] rfl)
            · refine lv_iload_n hx hb dX0_leaveOut_16 rfl (lv_at hl 3 rfl) ?_
              refine lv_iload_n hx hb dX0_leaveOut_17 rfl (lv_at hl 1 rfl) ?_
              refine z_icmp_le hx hb 27 dX0_leaveOut_18 (by decide) (by omega) (by omega) (fun c_3 => ?_) (fun c_3 => ?_)
              · refine lv_iload_n hx hb dX0_leaveOut_27 rfl (lv_at hl 3 rfl) ?_
                refine z_iconst hx hb dX0_leaveOut_28 ?_
                refine z_imul hx hb dX0_leaveOut_29 ?_
                refine lv_iload hx hb dX0_leaveOut_30 (lv_at hl 4 rfl) ?_
                refine lv_iload_n hx hb dX0_leaveOut_32 rfl (lv_at hl 2 rfl) ?_
                refine z_icmp_le hx hb 43 dX0_leaveOut_33 (by decide) (by omega) (by omega) (fun c_4 => ?_) (fun c_4 => ?_)
                · refine lv_iload hx hb dX0_leaveOut_43 (lv_at hl 4 rfl) ?_
                  refine z_iadd hx hb dX0_leaveOut_45 ?_
                  refine lv_istore (lv' := [(5, .int (iI (((i : Int) * 5) + (j : Int)))), (0, .ref (a 0)), (1, .int (iI (x1 : Int))), (2, .int (iI (x2 : Int))), (3, .int (iI (i : Int))), (4, .int (iI (j : Int)))]) hx hb dX0_leaveOut_46 hl (by decide) rfl (fun ls hl => ?_)
                  refine lv_iload_n hx hb dX0_leaveOut_48 rfl (lv_at hl 4 rfl) ?_
                  refine lv_iload_n hx hb dX0_leaveOut_49 rfl (lv_at hl 2 rfl) ?_
                  refine z_icmp_eq hx hb 77 dX0_leaveOut_50 (by decide) (by omega) (by omega) (fun c_5 => ?_) (fun c_5 => ?_)
                  · refine lv_iinc (v := iI ((j + 1 : Nat) : Int)) (lv' := [(4, .int (iI ((j + 1 : Nat) : Int))), (5, .int (iI (((i : Int) * 5) + (j : Int)))), (0, .ref (a 0)), (1, .int (iI (x1 : Int))), (2, .int (iI (x2 : Int))), (3, .int (iI (i : Int)))]) hx hb dX0_leaveOut_77 hl (k := 5) rfl (iI_inc1 _) (by decide) rfl (fun ls hl => ?_)
                    refine lv_goto (tgt := 10) hx hb dX0_leaveOut_80 (by decide) ?_
                    skip
                    exact ih_10 (j + 1) (by omega) (by omega) _ _ (by rw [← lvo_skip (by omega) (by omega) (by omega)]; exact hI) ls (lv_sub hl [2, 3, 4, 5, 0] rfl)
                  · refine lv_iload hx hb dX0_leaveOut_53 (lv_at hl 5 rfl) ?_
                    refine lv_iload_n hx hb dX0_leaveOut_55 rfl (lv_at hl 3 rfl) ?_
                    refine z_icmp_eq hx hb 77 dX0_leaveOut_56 (by decide) (by omega) (by omega) (fun c_6 => ?_) (fun c_6 => ?_)
                    · refine lv_iinc (v := iI ((j + 1 : Nat) : Int)) (lv' := [(4, .int (iI ((j + 1 : Nat) : Int))), (5, .int (iI (((i : Int) * 5) + (j : Int)))), (0, .ref (a 0)), (1, .int (iI (x1 : Int))), (2, .int (iI (x2 : Int))), (3, .int (iI (i : Int)))]) hx hb dX0_leaveOut_77 hl (k := 5) rfl (iI_inc1 _) (by decide) rfl (fun ls hl => ?_)
                      refine lv_goto (tgt := 10) hx hb dX0_leaveOut_80 (by decide) ?_
                      skip
                      exact ih_10 (j + 1) (by omega) (by omega) _ _ (by rw [← lvo_skip (by omega) (by omega) (by omega)]; exact hI) ls (lv_sub hl [2, 3, 4, 5, 0] rfl)
                    · refine lv_aload_n hx hb dX0_leaveOut_59 rfl (lv_at hl 1 rfl) ?_
                      refine g0_work C hI dX0_leaveOut_60 ?_
                      refine lv_iload hx hb dX0_leaveOut_63 (lv_at hl 0 rfl) ?_
                      refine lv_aload_n hx hb dX0_leaveOut_65 rfl (lv_at hl 1 rfl) ?_
                      refine g0_work C hI dX0_leaveOut_66 ?_
                      refine lv_iload_n hx hb dX0_leaveOut_69 rfl (lv_at hl 4 rfl) ?_
                      refine z_iconst hx hb dX0_leaveOut_70 ?_
                      refine z_imul hx hb dX0_leaveOut_71 ?_
                      refine lv_iload hx hb dX0_leaveOut_72 (lv_at hl 5 rfl) ?_
                      refine z_iadd hx hb dX0_leaveOut_74 ?_
                      refine l0_w C hI ((i * 5) + j) (by omega) (by omega) dX0_leaveOut_75 ?_
                      refine s0_w C hI ((i * 5) + j) (by omega) (by omega) dX0_leaveOut_76 (fun H locs hI => ?_)
                      refine lv_iinc (v := iI ((j + 1 : Nat) : Int)) (lv' := [(4, .int (iI ((j + 1 : Nat) : Int))), (5, .int (iI (((i : Int) * 5) + (j : Int)))), (0, .ref (a 0)), (1, .int (iI (x1 : Int))), (2, .int (iI (x2 : Int))), (3, .int (iI (i : Int)))]) hx hb dX0_leaveOut_77 hl (k := 5) rfl (iI_inc1 _) (by decide) rfl (fun ls hl => ?_)
                      refine lv_goto (tgt := 10) hx hb dX0_leaveOut_80 (by decide) ?_
                      rw [lvo_at (by omega) (by omega), lvo_s (by omega) (by omega) (show sk x1 i = i by unfold sk; split <;> omega) (show sk x2 j = j by unfold sk; split <;> omega) (by omega) (by omega)] at hI
                      exact ih_10 (j + 1) (by omega) (by omega) _ _ hI ls (lv_sub hl [2, 3, 4, 5, 0] rfl)
                · refine lv_iload hx hb dX0_leaveOut_36 (lv_at hl 4 rfl) ?_
                  refine z_iconst hx hb dX0_leaveOut_38 ?_
                  refine z_isub hx hb dX0_leaveOut_39 ?_
                  refine lv_goto (tgt := 45) hx hb dX0_leaveOut_40 (by decide) ?_
                  refine z_iadd hx hb dX0_leaveOut_45 ?_
                  refine lv_istore (lv' := [(5, .int (iI (((i : Int) * 5) + ((j : Int) - 1)))), (0, .ref (a 0)), (1, .int (iI (x1 : Int))), (2, .int (iI (x2 : Int))), (3, .int (iI (i : Int))), (4, .int (iI (j : Int)))]) hx hb dX0_leaveOut_46 hl (by decide) rfl (fun ls hl => ?_)
                  refine lv_iload_n hx hb dX0_leaveOut_48 rfl (lv_at hl 4 rfl) ?_
                  refine lv_iload_n hx hb dX0_leaveOut_49 rfl (lv_at hl 2 rfl) ?_
                  refine z_icmp_eq hx hb 77 dX0_leaveOut_50 (by decide) (by omega) (by omega) (fun c_7 => ?_) (fun c_7 => ?_)
                  · refine lv_iinc (v := iI ((j + 1 : Nat) : Int)) (lv' := [(4, .int (iI ((j + 1 : Nat) : Int))), (5, .int (iI (((i : Int) * 5) + ((j : Int) - 1)))), (0, .ref (a 0)), (1, .int (iI (x1 : Int))), (2, .int (iI (x2 : Int))), (3, .int (iI (i : Int)))]) hx hb dX0_leaveOut_77 hl (k := 5) rfl (iI_inc1 _) (by decide) rfl (fun ls hl => ?_)
                    refine lv_goto (tgt := 10) hx hb dX0_leaveOut_80 (by decide) ?_
                    skip
                    exact ih_10 (j + 1) (by omega) (by omega) _ _ (by rw [← lvo_skip (by omega) (by omega) (by omega)]; exact hI) ls (lv_sub hl [2, 3, 4, 5, 0] rfl)
                  · refine lv_iload hx hb dX0_leaveOut_53 (lv_at hl 5 rfl) ?_
                    refine lv_iload_n hx hb dX0_leaveOut_55 rfl (lv_at hl 3 rfl) ?_
                    refine z_icmp_eq hx hb 77 dX0_leaveOut_56 (by decide) (by omega) (by omega) (fun c_8 => ?_) (fun c_8 => ?_)
                    · refine lv_iinc (v := iI ((j + 1 : Nat) : Int)) (lv' := [(4, .int (iI ((j + 1 : Nat) : Int))), (5, .int (iI (((i : Int) * 5) + ((j : Int) - 1)))), (0, .ref (a 0)), (1, .int (iI (x1 : Int))), (2, .int (iI (x2 : Int))), (3, .int (iI (i : Int)))]) hx hb dX0_leaveOut_77 hl (k := 5) rfl (iI_inc1 _) (by decide) rfl (fun ls hl => ?_)
                      refine lv_goto (tgt := 10) hx hb dX0_leaveOut_80 (by decide) ?_
                      skip
                      exact ih_10 (j + 1) (by omega) (by omega) _ _ (by rw [← lvo_skip (by omega) (by omega) (by omega)]; exact hI) ls (lv_sub hl [2, 3, 4, 5, 0] rfl)
                    · refine lv_aload_n hx hb dX0_leaveOut_59 rfl (lv_at hl 1 rfl) ?_
                      refine g0_work C hI dX0_leaveOut_60 ?_
                      refine lv_iload hx hb dX0_leaveOut_63 (lv_at hl 0 rfl) ?_
                      refine lv_aload_n hx hb dX0_leaveOut_65 rfl (lv_at hl 1 rfl) ?_
                      refine g0_work C hI dX0_leaveOut_66 ?_
                      refine lv_iload_n hx hb dX0_leaveOut_69 rfl (lv_at hl 4 rfl) ?_
                      refine z_iconst hx hb dX0_leaveOut_70 ?_
                      refine z_imul hx hb dX0_leaveOut_71 ?_
                      refine lv_iload hx hb dX0_leaveOut_72 (lv_at hl 5 rfl) ?_
                      refine z_iadd hx hb dX0_leaveOut_74 ?_
                      refine l0_w C hI ((i * 5) + j) (by omega) (by omega) dX0_leaveOut_75 ?_
                      refine s0_w C hI ((i * 5) + (j - 1)) (by omega) (by omega) dX0_leaveOut_76 (fun H locs hI => ?_)
                      refine lv_iinc (v := iI ((j + 1 : Nat) : Int)) (lv' := [(4, .int (iI ((j + 1 : Nat) : Int))), (5, .int (iI (((i : Int) * 5) + ((j : Int) - 1)))), (0, .ref (a 0)), (1, .int (iI (x1 : Int))), (2, .int (iI (x2 : Int))), (3, .int (iI (i : Int)))]) hx hb dX0_leaveOut_77 hl (k := 5) rfl (iI_inc1 _) (by decide) rfl (fun ls hl => ?_)
                      refine lv_goto (tgt := 10) hx hb dX0_leaveOut_80 (by decide) ?_
                      rw [lvo_at (by omega) (by omega), lvo_s (by omega) (by omega) (show sk x1 i = i by unfold sk; split <;> omega) (show sk x2 (j - 1) = j by unfold sk; split <;> omega) (by omega) (by omega)] at hI
                      exact ih_10 (j + 1) (by omega) (by omega) _ _ hI ls (lv_sub hl [2, 3, 4, 5, 0] rfl)
              · refine lv_iload_n hx hb dX0_leaveOut_21 rfl (lv_at hl 3 rfl) ?_
                refine z_iconst hx hb dX0_leaveOut_22 ?_
                refine z_isub hx hb dX0_leaveOut_23 ?_
                refine lv_goto (tgt := 28) hx hb dX0_leaveOut_24 (by decide) ?_
                refine z_iconst hx hb dX0_leaveOut_28 ?_
                refine z_imul hx hb dX0_leaveOut_29 ?_
                refine lv_iload hx hb dX0_leaveOut_30 (lv_at hl 4 rfl) ?_
                refine lv_iload_n hx hb dX0_leaveOut_32 rfl (lv_at hl 2 rfl) ?_
                refine z_icmp_le hx hb 43 dX0_leaveOut_33 (by decide) (by omega) (by omega) (fun c_9 => ?_) (fun c_9 => ?_)
                · refine lv_iload hx hb dX0_leaveOut_43 (lv_at hl 4 rfl) ?_
                  refine z_iadd hx hb dX0_leaveOut_45 ?_
                  refine lv_istore (lv' := [(5, .int (iI ((((i : Int) - 1) * 5) + (j : Int)))), (0, .ref (a 0)), (1, .int (iI (x1 : Int))), (2, .int (iI (x2 : Int))), (3, .int (iI (i : Int))), (4, .int (iI (j : Int)))]) hx hb dX0_leaveOut_46 hl (by decide) rfl (fun ls hl => ?_)
                  refine lv_iload_n hx hb dX0_leaveOut_48 rfl (lv_at hl 4 rfl) ?_
                  refine lv_iload_n hx hb dX0_leaveOut_49 rfl (lv_at hl 2 rfl) ?_
                  refine z_icmp_eq hx hb 77 dX0_leaveOut_50 (by decide) (by omega) (by omega) (fun c_10 => ?_) (fun c_10 => ?_)
                  · refine lv_iinc (v := iI ((j + 1 : Nat) : Int)) (lv' := [(4, .int (iI ((j + 1 : Nat) : Int))), (5, .int (iI ((((i : Int) - 1) * 5) + (j : Int)))), (0, .ref (a 0)), (1, .int (iI (x1 : Int))), (2, .int (iI (x2 : Int))), (3, .int (iI (i : Int)))]) hx hb dX0_leaveOut_77 hl (k := 5) rfl (iI_inc1 _) (by decide) rfl (fun ls hl => ?_)
                    refine lv_goto (tgt := 10) hx hb dX0_leaveOut_80 (by decide) ?_
                    skip
                    exact ih_10 (j + 1) (by omega) (by omega) _ _ (by rw [← lvo_skip (by omega) (by omega) (by omega)]; exact hI) ls (lv_sub hl [2, 3, 4, 5, 0] rfl)
                  · refine lv_iload hx hb dX0_leaveOut_53 (lv_at hl 5 rfl) ?_
                    refine lv_iload_n hx hb dX0_leaveOut_55 rfl (lv_at hl 3 rfl) ?_
                    refine z_icmp_eq hx hb 77 dX0_leaveOut_56 (by decide) (by omega) (by omega) (fun c_11 => ?_) (fun c_11 => ?_)
                    · refine lv_iinc (v := iI ((j + 1 : Nat) : Int)) (lv' := [(4, .int (iI ((j + 1 : Nat) : Int))), (5, .int (iI ((((i : Int) - 1) * 5) + (j : Int)))), (0, .ref (a 0)), (1, .int (iI (x1 : Int))), (2, .int (iI (x2 : Int))), (3, .int (iI (i : Int)))]) hx hb dX0_leaveOut_77 hl (k := 5) rfl (iI_inc1 _) (by decide) rfl (fun ls hl => ?_)
                      refine lv_goto (tgt := 10) hx hb dX0_leaveOut_80 (by decide) ?_
                      skip
                      exact ih_10 (j + 1) (by omega) (by omega) _ _ (by rw [← lvo_skip (by omega) (by omega) (by omega)]; exact hI) ls (lv_sub hl [2, 3, 4, 5, 0] rfl)
                    · refine lv_aload_n hx hb dX0_leaveOut_59 rfl (lv_at hl 1 rfl) ?_
                      refine g0_work C hI dX0_leaveOut_60 ?_
                      refine lv_iload hx hb dX0_leaveOut_63 (lv_at hl 0 rfl) ?_
                      refine lv_aload_n hx hb dX0_leaveOut_65 rfl (lv_at hl 1 rfl) ?_
                      refine g0_work C hI dX0_leaveOut_66 ?_
                      refine lv_iload_n hx hb dX0_leaveOut_69 rfl (lv_at hl 4 rfl) ?_
                      refine z_iconst hx hb dX0_leaveOut_70 ?_
                      refine z_imul hx hb dX0_leaveOut_71 ?_
                      refine lv_iload hx hb dX0_leaveOut_72 (lv_at hl 5 rfl) ?_
                      refine z_iadd hx hb dX0_leaveOut_74 ?_
                      refine l0_w C hI ((i * 5) + j) (by omega) (by omega) dX0_leaveOut_75 ?_
                      refine s0_w C hI (((i - 1) * 5) + j) (by omega) (by omega) dX0_leaveOut_76 (fun H locs hI => ?_)
                      refine lv_iinc (v := iI ((j + 1 : Nat) : Int)) (lv' := [(4, .int (iI ((j + 1 : Nat) : Int))), (5, .int (iI ((((i : Int) - 1) * 5) + (j : Int)))), (0, .ref (a 0)), (1, .int (iI (x1 : Int))), (2, .int (iI (x2 : Int))), (3, .int (iI (i : Int)))]) hx hb dX0_leaveOut_77 hl (k := 5) rfl (iI_inc1 _) (by decide) rfl (fun ls hl => ?_)
                      refine lv_goto (tgt := 10) hx hb dX0_leaveOut_80 (by decide) ?_
                      rw [lvo_at (by omega) (by omega), lvo_s (by omega) (by omega) (show sk x1 (i - 1) = i by unfold sk; split <;> omega) (show sk x2 j = j by unfold sk; split <;> omega) (by omega) (by omega)] at hI
                      exact ih_10 (j + 1) (by omega) (by omega) _ _ hI ls (lv_sub hl [2, 3, 4, 5, 0] rfl)
                · refine lv_iload hx hb dX0_leaveOut_36 (lv_at hl 4 rfl) ?_
                  refine z_iconst hx hb dX0_leaveOut_38 ?_
                  refine z_isub hx hb dX0_leaveOut_39 ?_
                  refine lv_goto (tgt := 45) hx hb dX0_leaveOut_40 (by decide) ?_
                  refine z_iadd hx hb dX0_leaveOut_45 ?_
                  refine lv_istore (lv' := [(5, .int (iI ((((i : Int) - 1) * 5) + ((j : Int) - 1)))), (0, .ref (a 0)), (1, .int (iI (x1 : Int))), (2, .int (iI (x2 : Int))), (3, .int (iI (i : Int))), (4, .int (iI (j : Int)))]) hx hb dX0_leaveOut_46 hl (by decide) rfl (fun ls hl => ?_)
                  refine lv_iload_n hx hb dX0_leaveOut_48 rfl (lv_at hl 4 rfl) ?_
                  refine lv_iload_n hx hb dX0_leaveOut_49 rfl (lv_at hl 2 rfl) ?_
                  refine z_icmp_eq hx hb 77 dX0_leaveOut_50 (by decide) (by omega) (by omega) (fun c_12 => ?_) (fun c_12 => ?_)
                  · refine lv_iinc (v := iI ((j + 1 : Nat) : Int)) (lv' := [(4, .int (iI ((j + 1 : Nat) : Int))), (5, .int (iI ((((i : Int) - 1) * 5) + ((j : Int) - 1)))), (0, .ref (a 0)), (1, .int (iI (x1 : Int))), (2, .int (iI (x2 : Int))), (3, .int (iI (i : Int)))]) hx hb dX0_leaveOut_77 hl (k := 5) rfl (iI_inc1 _) (by decide) rfl (fun ls hl => ?_)
                    refine lv_goto (tgt := 10) hx hb dX0_leaveOut_80 (by decide) ?_
                    skip
                    exact ih_10 (j + 1) (by omega) (by omega) _ _ (by rw [← lvo_skip (by omega) (by omega) (by omega)]; exact hI) ls (lv_sub hl [2, 3, 4, 5, 0] rfl)
                  · refine lv_iload hx hb dX0_leaveOut_53 (lv_at hl 5 rfl) ?_
                    refine lv_iload_n hx hb dX0_leaveOut_55 rfl (lv_at hl 3 rfl) ?_
                    refine z_icmp_eq hx hb 77 dX0_leaveOut_56 (by decide) (by omega) (by omega) (fun c_13 => ?_) (fun c_13 => ?_)
                    · refine lv_iinc (v := iI ((j + 1 : Nat) : Int)) (lv' := [(4, .int (iI ((j + 1 : Nat) : Int))), (5, .int (iI ((((i : Int) - 1) * 5) + ((j : Int) - 1)))), (0, .ref (a 0)), (1, .int (iI (x1 : Int))), (2, .int (iI (x2 : Int))), (3, .int (iI (i : Int)))]) hx hb dX0_leaveOut_77 hl (k := 5) rfl (iI_inc1 _) (by decide) rfl (fun ls hl => ?_)
                      refine lv_goto (tgt := 10) hx hb dX0_leaveOut_80 (by decide) ?_
                      skip
                      exact ih_10 (j + 1) (by omega) (by omega) _ _ (by rw [← lvo_skip (by omega) (by omega) (by omega)]; exact hI) ls (lv_sub hl [2, 3, 4, 5, 0] rfl)
                    · refine lv_aload_n hx hb dX0_leaveOut_59 rfl (lv_at hl 1 rfl) ?_
                      refine g0_work C hI dX0_leaveOut_60 ?_
                      refine lv_iload hx hb dX0_leaveOut_63 (lv_at hl 0 rfl) ?_
                      refine lv_aload_n hx hb dX0_leaveOut_65 rfl (lv_at hl 1 rfl) ?_
                      refine g0_work C hI dX0_leaveOut_66 ?_
                      refine lv_iload_n hx hb dX0_leaveOut_69 rfl (lv_at hl 4 rfl) ?_
                      refine z_iconst hx hb dX0_leaveOut_70 ?_
                      refine z_imul hx hb dX0_leaveOut_71 ?_
                      refine lv_iload hx hb dX0_leaveOut_72 (lv_at hl 5 rfl) ?_
                      refine z_iadd hx hb dX0_leaveOut_74 ?_
                      refine l0_w C hI ((i * 5) + j) (by omega) (by omega) dX0_leaveOut_75 ?_
                      refine s0_w C hI (((i - 1) * 5) + (j - 1)) (by omega) (by omega) dX0_leaveOut_76 (fun H locs hI => ?_)
                      refine lv_iinc (v := iI ((j + 1 : Nat) : Int)) (lv' := [(4, .int (iI ((j + 1 : Nat) : Int))), (5, .int (iI ((((i : Int) - 1) * 5) + ((j : Int) - 1)))), (0, .ref (a 0)), (1, .int (iI (x1 : Int))), (2, .int (iI (x2 : Int))), (3, .int (iI (i : Int)))]) hx hb dX0_leaveOut_77 hl (k := 5) rfl (iI_inc1 _) (by decide) rfl (fun ls hl => ?_)
                      refine lv_goto (tgt := 10) hx hb dX0_leaveOut_80 (by decide) ?_
                      rw [lvo_at (by omega) (by omega), lvo_s (by omega) (by omega) (show sk x1 (i - 1) = i by unfold sk; split <;> omega) (show sk x2 (j - 1) = j by unfold sk; split <;> omega) (by omega) (by omega)] at hI
                      exact ih_10 (j + 1) (by omega) (by omega) _ _ hI ls (lv_sub hl [2, 3, 4, 5, 0] rfl)
        exact lp_10 5 0 (by omega) (by omega) _ _ hI ls (lv_sub hl [1, 2, 3, 4, 0] rfl)
  exact lp_2 5 0 (by omega) (by omega) _ _ (by rw [show 0 * 4 + 0 = 0 from rfl, lvo_0]; exact hI) ls (lv_sub hl [1, 2, 3, 0] rfl)
def an_minor (z : Nat → Int) (i j : Int) : Int := if 0 ≤ i ∧ i < 4 ∧ 0 ≤ j ∧ j < 4 then mnz z i.toNat j.toNat else BAD_
abbrev ps0_minor (i : Int) (j : Int) (z : Nat → Int) (pr : Int) (w : Nat → Int) (v : Nat → Int) (q : Nat → Int) (u : Nat → Int) : Int → (Nat → Int) → Int → (Nat → Int) → (Nat → Int) → (Nat → Int) → (Nat → Int) → Prop := fun r z1 pr1 w1 v1 q1 u1 => an_minor z i j = r ∧ z = z1
set_option maxHeartbeats 4000000 in
set_option maxRecDepth 100000 in
theorem met0_minor (l : Launch) (i : Int) (j : Int) (z : Nat → Int) (pr : Int) (w : Nat → Int) (v : Nat → Int) (q : Nat → Int) (u : Nat → Int) (hi : -2147483648 ≤ i ∧ i < 2147483648) (hj0 : -2147483648 ≤ j ∧ j < 2147483648) (hz : ∀ k, k < 20 → -50 ≤ z k ∧ z k ≤ 50) : M0i l yX0_minor cX0_minor 5 (some .int) rm0_minor [.int (iI i), .int (iI j)] z pr w v q u (ps0_minor i j z pr w v q u) := by
  refine M0i.of (by decide) rfl (fun _ => Nat.le_of_ble_eq_true rfl) ?_
  intro p e s m args below meth c D a ca A ls C hr hlocks hA hl hI
  have hx := C.1
  have hb := C.2.1
  have hl : lv_has ls 5 [(0, .ref (a 0)), (1, .int (iI i)), (2, .int (iI j))] := hl
  refine lv_iload_n hx hb dX0_minor_0 rfl (lv_at hl 1 rfl) ?_
  refine cS_i (As := [.int (iI i)]) C (met0_isRow l i (by omega)) (cw0_isRow C.2.2.2.2 ⟨Nat.le_of_ble_eq_true rfl, Nat.le_of_ble_eq_true rfl⟩) rfl hl.1 rfl (Nat.le_of_ble_eq_true rfl) dX0_minor_1 ⟨Nat.le_refl _, Nat.le_refl _⟩ (fun r_1 hp_1 => ?_)
  refine z_if_eq hx hb 14 dX0_minor_4 (by decide) (by omega) (fun c_2 => ?_) (fun c_2 => ?_)
  · refine z_ldc hx hb (-1000000000) C.2.2.2.1 (C.2.2.2.2 _ q72) (by decide +kernel) dX0_minor_14 ?_
    exact r0_i C hr hlocks hI (⟨by unfold an_minor; rw [if_neg (by omega)]; rfl, rfl⟩) dX0_minor_16
  · refine lv_iload_n hx hb dX0_minor_7 rfl (lv_at hl 2 rfl) ?_
    refine cS_i (As := [.int (iI j)]) C (met0_isRow l j (by omega)) (cw0_isRow C.2.2.2.2 ⟨Nat.le_of_ble_eq_true rfl, Nat.le_of_ble_eq_true rfl⟩) rfl hl.1 rfl (Nat.le_of_ble_eq_true rfl) dX0_minor_8 ⟨Nat.le_refl _, Nat.le_refl _⟩ (fun r_3 hp_3 => ?_)
    refine z_if_ne hx hb 17 dX0_minor_11 (by decide) (by omega) (fun c_4 => ?_) (fun c_4 => ?_)
    · obtain ⟨n1, rfl⟩ := Int.eq_ofNat_of_zero_le (show 0 ≤ i by omega)
      obtain ⟨n2, rfl⟩ := Int.eq_ofNat_of_zero_le (show 0 ≤ j by omega)
      refine lv_aload_n hx hb dX0_minor_17 rfl (lv_at hl 0 rfl) ?_
      refine z_sipush hx hb dX0_minor_18 (by decide +kernel) ?_
      refine c0_v (As := [.int (iI 32749)]) C hA hI (met0_load l 32749 z pr w v q u (by omega) hz) (cw0_load C.2.2.2.2 ⟨Nat.le_of_ble_eq_true rfl, Nat.le_of_ble_eq_true rfl⟩) rfl hl.1 rfl (Nat.le_of_ble_eq_true rfl) dX0_minor_21 ⟨Nat.le_refl _, Nat.le_refl _⟩ (fun z_5 pr_5 w_5 v_5 q_5 u_5 H locs hp_5 hI => ?_)
      obtain ⟨rfl, rfl, rfl, rfl, rfl, rfl⟩ := hp_5
      refine lv_aload_n hx hb dX0_minor_24 rfl (lv_at hl 0 rfl) ?_
      refine lv_iload_n hx hb dX0_minor_25 rfl (lv_at hl 1 rfl) ?_
      refine lv_iload_n hx hb dX0_minor_26 rfl (lv_at hl 2 rfl) ?_
      refine c0_v (As := [.int (iI (n1 : Int)), .int (iI (n2 : Int))]) C hA hI (met0_leaveOut l n1 n2 z 32749 (fun k => z k % 32749) v q u (by omega)) (cw0_leaveOut C.2.2.2.2 ⟨Nat.le_of_ble_eq_true rfl, Nat.le_of_ble_eq_true rfl⟩) rfl hl.1 rfl (Nat.le_of_ble_eq_true rfl) dX0_minor_27 ⟨Nat.le_refl _, Nat.le_refl _⟩ (fun z_6 pr_6 w_6 v_6 q_6 u_6 H locs hp_6 hI => ?_)
      obtain ⟨rfl, rfl, rfl, rfl, rfl, rfl⟩ := hp_6
      refine lv_aload_n hx hb dX0_minor_30 rfl (lv_at hl 0 rfl) ?_
      refine z_iconst hx hb dX0_minor_31 ?_
      refine c0_i (As := [.int (iI 3)]) C hA hI (met0_determinantOf l 3 z 32749 (lvo (fun k => z k % 32749) n1 n2 16) v q u (by omega) (by omega) (lvo_in (fun k _ => em_in (by omega)))) (cw0_determinantOf C.2.2.2.2 ⟨Nat.le_of_ble_eq_true rfl, Nat.le_of_ble_eq_true rfl⟩) rfl hl.1 rfl (Nat.le_of_ble_eq_true rfl) dX0_minor_32 ⟨Nat.le_refl _, Nat.le_refl _⟩ (fun f1 z_7 pr_7 w_7 v_7 q_7 u_7 H locs hp_7 hI => ?_)
      obtain ⟨e1, rfl, rfl, rfl, rfl, rfl⟩ := hp_7
      refine lv_istore_n (lv' := [(3, .int (iI f1)), (0, .ref (a 0)), (1, .int (iI (n1 : Int))), (2, .int (iI (n2 : Int)))]) hx hb dX0_minor_35 rfl hl (by decide) rfl (fun ls hl => ?_)
      refine lv_aload_n hx hb dX0_minor_36 rfl (lv_at hl 1 rfl) ?_
      refine z_sipush hx hb dX0_minor_37 (by decide +kernel) ?_
      refine c0_v (As := [.int (iI 32719)]) C hA hI (met0_load l 32719 z 32749 w_7 v q u (by omega) hz) (cw0_load C.2.2.2.2 ⟨Nat.le_of_ble_eq_true rfl, Nat.le_of_ble_eq_true rfl⟩) rfl hl.1 rfl (Nat.le_of_ble_eq_true rfl) dX0_minor_40 ⟨Nat.le_refl _, Nat.le_refl _⟩ (fun z_8 pr_8 w_8 v_8 q_8 u_8 H locs hp_8 hI => ?_)
      obtain ⟨rfl, rfl, rfl, rfl, rfl, rfl⟩ := hp_8
      refine lv_aload_n hx hb dX0_minor_43 rfl (lv_at hl 1 rfl) ?_
      refine lv_iload_n hx hb dX0_minor_44 rfl (lv_at hl 2 rfl) ?_
      refine lv_iload_n hx hb dX0_minor_45 rfl (lv_at hl 3 rfl) ?_
      refine c0_v (As := [.int (iI (n1 : Int)), .int (iI (n2 : Int))]) C hA hI (met0_leaveOut l n1 n2 z 32719 (fun k => z k % 32719) v q u (by omega)) (cw0_leaveOut C.2.2.2.2 ⟨Nat.le_of_ble_eq_true rfl, Nat.le_of_ble_eq_true rfl⟩) rfl hl.1 rfl (Nat.le_of_ble_eq_true rfl) dX0_minor_46 ⟨Nat.le_refl _, Nat.le_refl _⟩ (fun z_9 pr_9 w_9 v_9 q_9 u_9 H locs hp_9 hI => ?_)
      obtain ⟨rfl, rfl, rfl, rfl, rfl, rfl⟩ := hp_9
      refine lv_aload_n hx hb dX0_minor_49 rfl (lv_at hl 1 rfl) ?_
      refine z_iconst hx hb dX0_minor_50 ?_
      refine c0_i (As := [.int (iI 3)]) C hA hI (met0_determinantOf l 3 z 32719 (lvo (fun k => z k % 32719) n1 n2 16) v q u (by omega) (by omega) (lvo_in (fun k _ => em_in (by omega)))) (cw0_determinantOf C.2.2.2.2 ⟨Nat.le_of_ble_eq_true rfl, Nat.le_of_ble_eq_true rfl⟩) rfl hl.1 rfl (Nat.le_of_ble_eq_true rfl) dX0_minor_51 ⟨Nat.le_refl _, Nat.le_refl _⟩ (fun f2 z_10 pr_10 w_10 v_10 q_10 u_10 H locs hp_10 hI => ?_)
      obtain ⟨e2, rfl, rfl, rfl, rfl, rfl⟩ := hp_10
      refine lv_istore (lv' := [(4, .int (iI f2)), (3, .int (iI f1)), (0, .ref (a 0)), (1, .int (iI (n1 : Int))), (2, .int (iI (n2 : Int)))]) hx hb dX0_minor_54 hl (by decide) rfl (fun ls hl => ?_)
      refine lv_aload_n hx hb dX0_minor_56 rfl (lv_at hl 2 rfl) ?_
      refine lv_iload_n hx hb dX0_minor_57 rfl (lv_at hl 1 rfl) ?_
      refine lv_iload hx hb dX0_minor_58 (lv_at hl 0 rfl) ?_
      refine c0_i (As := [.int (iI f1), .int (iI f2)]) C hA hI (met0_join l f1 f2 z 32719 w_10 v q u (by rw [← e1]; exact em_in (by omega)) (by rw [← e2]; exact em_in (by omega))) (cw0_join C.2.2.2.2 ⟨Nat.le_of_ble_eq_true rfl, Nat.le_of_ble_eq_true rfl⟩) rfl hl.1 rfl (Nat.le_of_ble_eq_true rfl) dX0_minor_60 ⟨Nat.le_refl _, Nat.le_refl _⟩ (fun rj z_11 pr_11 w_11 v_11 q_11 u_11 H locs hp_11 hI => ?_)
      obtain ⟨hj, rfl, rfl, rfl, rfl, rfl, rfl⟩ := hp_11
      have hmb := mnz_50 hz n1 n2
      exact r0_i C hr hlocks hI (⟨by unfold an_minor; rw [if_pos (by omega), Int.toNat_natCast, Int.toNat_natCast]; exact (hj _ (by omega) (by omega) ((mnz_cg (fun k _ => (cg.em 32749 _).sy) n1 n2).eq.trans (by rw [← lvo_td]; exact e1)) ((mnz_cg (fun k _ => (cg.em 32719 _).sy) n1 n2).eq.trans (by rw [← lvo_td]; exact e2))).symm, rfl⟩) dX0_minor_63
    · refine z_ldc hx hb (-1000000000) C.2.2.2.1 (C.2.2.2.2 _ q72) (by decide +kernel) dX0_minor_14 ?_
      exact r0_i C hr hlocks hI (⟨by unfold an_minor; rw [if_neg (by omega)]; rfl, rfl⟩) dX0_minor_16
def rpc (w : Nat → Int) (j i : Nat) : Nat → Int := fun k => if k / 5 < i ∧ k % 5 = j then w (k / 5 * 5 + 4) else w k
theorem rpc_0 (w : Nat → Int) (j : Nat) : rpc w j 0 = w := by
  funext k
  unfold rpc
  rw [if_neg (by omega)]
theorem rpc_s {w : Nat → Int} {j i : Nat} (hj : j < 4) : up (rpc w j i) (i * 5 + j) (rpc w j i (i * 5 + 4)) = rpc w j (i + 1) := by
  have e : rpc w j i (i * 5 + 4) = w (i * 5 + 4) := by unfold rpc; rw [if_neg (by omega)]
  rw [e]
  funext k
  by_cases h : k = i * 5 + j
  · subst h
    rw [up_s]
    unfold rpc
    have e1 : (i * 5 + j) / 5 = i := by omega
    rw [if_pos (by omega), e1]
  · rw [up_n h]
    unfold rpc
    by_cases h2 : k / 5 < i ∧ k % 5 = j
    · rw [if_pos h2, if_pos (by omega)]
    · rw [if_neg h2, if_neg (by omega)]
theorem rpc_4 (w : Nat → Int) (j : Nat) : ∀ k, k < 20 → rpc w j 4 k = repz w j k := by
  intro k hk
  unfold rpc repz
  by_cases h : k % 5 = j
  · rw [if_pos h, if_pos (by omega)]
  · rw [if_neg h, if_neg (by omega)]
abbrev ps0_replaceColumn (x1 : Nat) (z : Nat → Int) (pr : Int) (w : Nat → Int) (v : Nat → Int) (q : Nat → Int) (u : Nat → Int) : (Nat → Int) → Int → (Nat → Int) → (Nat → Int) → (Nat → Int) → (Nat → Int) → Prop := fun z1 pr1 w1 v1 q1 u1 => z = z1 ∧ pr = pr1 ∧ repz w x1 = w1 ∧ v = v1 ∧ q = q1 ∧ u = u1
set_option maxHeartbeats 4000000 in
set_option maxRecDepth 100000 in
theorem met0_replaceColumn (l : Launch) (x1 : Nat) (z : Nat → Int) (pr : Int) (w : Nat → Int) (v : Nat → Int) (q : Nat → Int) (u : Nat → Int) (h1 : x1 < 4) : M0v l yX0_replaceColumn cX0_replaceColumn 3 none rm0_replaceColumn [.int (iI (x1 : Int))] z pr w v q u (ps0_replaceColumn x1 z pr w v q u) := by
  refine M0v.of (by decide) rfl (fun _ => Nat.le_of_ble_eq_true rfl) ?_
  intro p e s m args below meth c D a ca A ls C hr hlocks hA hl hI
  have hx := C.1
  have hb := C.2.1
  have hl : lv_has ls 3 [(0, .ref (a 0)), (1, .int (iI (x1 : Int)))] := hl
  refine z_iconst hx hb dX0_replaceColumn_0 ?_
  refine lv_istore_n (lv' := [(2, .int (iI 0)), (0, .ref (a 0)), (1, .int (iI (x1 : Int)))]) hx hb dX0_replaceColumn_1 rfl hl (by decide) rfl (fun ls hl => ?_)
  have lp_2 : ∀ (n_2 : Nat) (i : Nat), (hf_2 : 4 < i + n_2) → (hi : i ≤ 4) → ∀ (H : Heap) (locs : List Loc), I0 D A s a ca z pr (rpc w x1 i) v q u H locs → ∀ (ls : Array Slot), lv_has ls 3 [(0, .ref (a 0)), (1, .int (iI (x1 : Int))), (2, .int (iI (i : Int)))] → W p l e rm0_replaceColumn s m args below meth c H locs 0 0 (E0v D a ca A (ps0_replaceColumn x1 z pr w v q u) below args s) (F0 m 2 ls []) := by
    intro n_2
    induction n_2 with
    | zero =>
      intro i hf_2 hi H locs hI ls hl
      exfalso; omega
    | succ n_2 ih_2 =>
      intro i hf_2 hi H locs hI ls hl
      refine lv_iload_n hx hb dX0_replaceColumn_2 rfl (lv_at hl 2 rfl) ?_
      refine z_iconst hx hb dX0_replaceColumn_3 ?_
      refine z_icmp_ge hx hb 33 dX0_replaceColumn_4 (by decide) (by omega) (by omega) (fun c_1 => ?_) (fun c_1 => ?_)
      · have hi4 : i = 4 := by omega
        rw [hi4] at hI
        have hI := hI.cw (repz w x1) (rpc_4 w x1)
        exact r0_v C hr hlocks hI (⟨rfl, rfl, rfl, rfl, rfl, rfl⟩) dX0_replaceColumn_33
      · refine lv_aload_n hx hb dX0_replaceColumn_7 rfl (lv_at hl 0 rfl) ?_
        refine g0_work C hI dX0_replaceColumn_8 ?_
        refine lv_iload_n hx hb dX0_replaceColumn_11 rfl (lv_at hl 2 rfl) ?_
        refine z_iconst hx hb dX0_replaceColumn_12 ?_
        refine z_imul hx hb dX0_replaceColumn_13 ?_
        refine lv_iload_n hx hb dX0_replaceColumn_14 rfl (lv_at hl 1 rfl) ?_
        refine z_iadd hx hb dX0_replaceColumn_15 ?_
        refine lv_aload_n hx hb dX0_replaceColumn_16 rfl (lv_at hl 0 rfl) ?_
        refine g0_work C hI dX0_replaceColumn_17 ?_
        refine lv_iload_n hx hb dX0_replaceColumn_20 rfl (lv_at hl 2 rfl) ?_
        refine z_iconst hx hb dX0_replaceColumn_21 ?_
        refine z_imul hx hb dX0_replaceColumn_22 ?_
        refine z_iconst hx hb dX0_replaceColumn_23 ?_
        refine z_iadd hx hb dX0_replaceColumn_24 ?_
        refine l0_w C hI ((i * 5) + 4) (by omega) (by omega) dX0_replaceColumn_25 ?_
        refine s0_w C hI ((i * 5) + x1) (by omega) (by omega) dX0_replaceColumn_26 (fun H locs hI => ?_)
        refine lv_iinc (v := iI ((i + 1 : Nat) : Int)) (lv' := [(2, .int (iI ((i + 1 : Nat) : Int))), (0, .ref (a 0)), (1, .int (iI (x1 : Int)))]) hx hb dX0_replaceColumn_27 hl (k := 2) rfl (iI_inc1 _) (by decide) rfl (fun ls hl => ?_)
        refine lv_goto (tgt := 2) hx hb dX0_replaceColumn_30 (by decide) ?_
        rw [rpc_s (by omega)] at hI
        exact ih_2 (i + 1) (by omega) (by omega) _ _ hI ls (lv_sub hl [1, 2, 0] rfl)
  exact lp_2 5 0 (by omega) (by omega) _ _ (by rw [rpc_0]; exact hI) ls (lv_sub hl [1, 2, 0] rfl)
def an_repl (z : Nat → Int) (j : Int) : Int := if 0 ≤ j ∧ j < 4 then td (repz z j.toNat) 0 4 else BAD_
theorem repz_cg {p : Int} {w w' : Nat → Int} {j : Nat} (h : ∀ k, k < 20 → cg p (w k) (w' k)) : ∀ k, k < 20 → cg p (repz w j k) (repz w' j k) := by
  intro k hk
  unfold repz
  split
  · exact h _ (by omega)
  · exact h k hk
theorem repz_in {p : Int} {w : Nat → Int} {j : Nat} (h : ∀ k, k < 20 → 0 ≤ w k ∧ w k < p) : ∀ k, k < 20 → 0 ≤ repz w j k ∧ repz w j k < p := by
  intro k hk
  unfold repz
  split
  · exact h _ (by omega)
  · exact h k hk
abbrev ps0_replaced (i : Int) (z : Nat → Int) (pr : Int) (w : Nat → Int) (v : Nat → Int) (q : Nat → Int) (u : Nat → Int) : Int → (Nat → Int) → Int → (Nat → Int) → (Nat → Int) → (Nat → Int) → (Nat → Int) → Prop := fun r z1 pr1 w1 v1 q1 u1 => an_repl z i = r ∧ z = z1
set_option maxHeartbeats 4000000 in
set_option maxRecDepth 100000 in
theorem met0_replaced (l : Launch) (i : Int) (z : Nat → Int) (pr : Int) (w : Nat → Int) (v : Nat → Int) (q : Nat → Int) (u : Nat → Int) (hi : -2147483648 ≤ i ∧ i < 2147483648) (hz : ∀ k, k < 20 → -50 ≤ z k ∧ z k ≤ 50) : M0i l yX0_replaced cX0_replaced 4 (some .int) rm0_replaced [.int (iI i)] z pr w v q u (ps0_replaced i z pr w v q u) := by
  refine M0i.of (by decide) rfl (fun _ => Nat.le_of_ble_eq_true rfl) ?_
  intro p e s m args below meth c D a ca A ls C hr hlocks hA hl hI
  have hx := C.1
  have hb := C.2.1
  have hl : lv_has ls 4 [(0, .ref (a 0)), (1, .int (iI i))] := hl
  refine lv_iload_n hx hb dX0_replaced_0 rfl (lv_at hl 1 rfl) ?_
  refine cS_i (As := [.int (iI i)]) C (met0_isRow l i (by omega)) (cw0_isRow C.2.2.2.2 ⟨Nat.le_of_ble_eq_true rfl, Nat.le_of_ble_eq_true rfl⟩) rfl hl.1 rfl (Nat.le_of_ble_eq_true rfl) dX0_replaced_1 ⟨Nat.le_refl _, Nat.le_refl _⟩ (fun r_1 hp_1 => ?_)
  refine z_if_ne hx hb 10 dX0_replaced_4 (by decide) (by omega) (fun c_2 => ?_) (fun c_2 => ?_)
  · obtain ⟨n1, rfl⟩ := Int.eq_ofNat_of_zero_le (show 0 ≤ i by omega)
    refine lv_aload_n hx hb dX0_replaced_10 rfl (lv_at hl 0 rfl) ?_
    refine z_sipush hx hb dX0_replaced_11 (by decide +kernel) ?_
    refine c0_v (As := [.int (iI 32749)]) C hA hI (met0_load l 32749 z pr w v q u (by omega) hz) (cw0_load C.2.2.2.2 ⟨Nat.le_of_ble_eq_true rfl, Nat.le_of_ble_eq_true rfl⟩) rfl hl.1 rfl (Nat.le_of_ble_eq_true rfl) dX0_replaced_14 ⟨Nat.le_refl _, Nat.le_refl _⟩ (fun z_3 pr_3 w_3 v_3 q_3 u_3 H locs hp_3 hI => ?_)
    obtain ⟨rfl, rfl, rfl, rfl, rfl, rfl⟩ := hp_3
    refine lv_aload_n hx hb dX0_replaced_17 rfl (lv_at hl 0 rfl) ?_
    refine lv_iload_n hx hb dX0_replaced_18 rfl (lv_at hl 1 rfl) ?_
    refine c0_v (As := [.int (iI (n1 : Int))]) C hA hI (met0_replaceColumn l n1 z 32749 (fun k => z k % 32749) v q u (by omega)) (cw0_replaceColumn C.2.2.2.2 ⟨Nat.le_of_ble_eq_true rfl, Nat.le_of_ble_eq_true rfl⟩) rfl hl.1 rfl (Nat.le_of_ble_eq_true rfl) dX0_replaced_19 ⟨Nat.le_refl _, Nat.le_refl _⟩ (fun z_4 pr_4 w_4 v_4 q_4 u_4 H locs hp_4 hI => ?_)
    obtain ⟨rfl, rfl, rfl, rfl, rfl, rfl⟩ := hp_4
    refine lv_aload_n hx hb dX0_replaced_22 rfl (lv_at hl 0 rfl) ?_
    refine z_iconst hx hb dX0_replaced_23 ?_
    refine c0_i (As := [.int (iI 4)]) C hA hI (met0_determinantOf l 4 z 32749 (repz (fun k => z k % 32749) n1) v q u (by omega) (by omega) (repz_in (fun k _ => em_in (by omega)))) (cw0_determinantOf C.2.2.2.2 ⟨Nat.le_of_ble_eq_true rfl, Nat.le_of_ble_eq_true rfl⟩) rfl hl.1 rfl (Nat.le_of_ble_eq_true rfl) dX0_replaced_24 ⟨Nat.le_refl _, Nat.le_refl _⟩ (fun f1 z_5 pr_5 w_5 v_5 q_5 u_5 H locs hp_5 hI => ?_)
    obtain ⟨e1, rfl, rfl, rfl, rfl, rfl⟩ := hp_5
    refine lv_istore_n (lv' := [(2, .int (iI f1)), (0, .ref (a 0)), (1, .int (iI (n1 : Int)))]) hx hb dX0_replaced_27 rfl hl (by decide) rfl (fun ls hl => ?_)
    refine lv_aload_n hx hb dX0_replaced_28 rfl (lv_at hl 1 rfl) ?_
    refine z_sipush hx hb dX0_replaced_29 (by decide +kernel) ?_
    refine c0_v (As := [.int (iI 32719)]) C hA hI (met0_load l 32719 z 32749 w_5 v q u (by omega) hz) (cw0_load C.2.2.2.2 ⟨Nat.le_of_ble_eq_true rfl, Nat.le_of_ble_eq_true rfl⟩) rfl hl.1 rfl (Nat.le_of_ble_eq_true rfl) dX0_replaced_32 ⟨Nat.le_refl _, Nat.le_refl _⟩ (fun z_6 pr_6 w_6 v_6 q_6 u_6 H locs hp_6 hI => ?_)
    obtain ⟨rfl, rfl, rfl, rfl, rfl, rfl⟩ := hp_6
    refine lv_aload_n hx hb dX0_replaced_35 rfl (lv_at hl 1 rfl) ?_
    refine lv_iload_n hx hb dX0_replaced_36 rfl (lv_at hl 2 rfl) ?_
    refine c0_v (As := [.int (iI (n1 : Int))]) C hA hI (met0_replaceColumn l n1 z 32719 (fun k => z k % 32719) v q u (by omega)) (cw0_replaceColumn C.2.2.2.2 ⟨Nat.le_of_ble_eq_true rfl, Nat.le_of_ble_eq_true rfl⟩) rfl hl.1 rfl (Nat.le_of_ble_eq_true rfl) dX0_replaced_37 ⟨Nat.le_refl _, Nat.le_refl _⟩ (fun z_7 pr_7 w_7 v_7 q_7 u_7 H locs hp_7 hI => ?_)
    obtain ⟨rfl, rfl, rfl, rfl, rfl, rfl⟩ := hp_7
    refine lv_aload_n hx hb dX0_replaced_40 rfl (lv_at hl 1 rfl) ?_
    refine z_iconst hx hb dX0_replaced_41 ?_
    refine c0_i (As := [.int (iI 4)]) C hA hI (met0_determinantOf l 4 z 32719 (repz (fun k => z k % 32719) n1) v q u (by omega) (by omega) (repz_in (fun k _ => em_in (by omega)))) (cw0_determinantOf C.2.2.2.2 ⟨Nat.le_of_ble_eq_true rfl, Nat.le_of_ble_eq_true rfl⟩) rfl hl.1 rfl (Nat.le_of_ble_eq_true rfl) dX0_replaced_42 ⟨Nat.le_refl _, Nat.le_refl _⟩ (fun f2 z_8 pr_8 w_8 v_8 q_8 u_8 H locs hp_8 hI => ?_)
    obtain ⟨e2, rfl, rfl, rfl, rfl, rfl⟩ := hp_8
    refine lv_istore_n (lv' := [(3, .int (iI f2)), (2, .int (iI f1)), (0, .ref (a 0)), (1, .int (iI (n1 : Int)))]) hx hb dX0_replaced_45 rfl hl (by decide) rfl (fun ls hl => ?_)
    refine lv_aload_n hx hb dX0_replaced_46 rfl (lv_at hl 2 rfl) ?_
    refine lv_iload_n hx hb dX0_replaced_47 rfl (lv_at hl 1 rfl) ?_
    refine lv_iload_n hx hb dX0_replaced_48 rfl (lv_at hl 0 rfl) ?_
    refine c0_i (As := [.int (iI f1), .int (iI f2)]) C hA hI (met0_join l f1 f2 z 32719 w_8 v q u (by rw [← e1]; exact em_in (by omega)) (by rw [← e2]; exact em_in (by omega))) (cw0_join C.2.2.2.2 ⟨Nat.le_of_ble_eq_true rfl, Nat.le_of_ble_eq_true rfl⟩) rfl hl.1 rfl (Nat.le_of_ble_eq_true rfl) dX0_replaced_49 ⟨Nat.le_refl _, Nat.le_refl _⟩ (fun rj z_9 pr_9 w_9 v_9 q_9 u_9 H locs hp_9 hI => ?_)
    obtain ⟨hj, rfl, rfl, rfl, rfl, rfl, rfl⟩ := hp_9
    have hmb := td_50 (repz_50 (j := n1) hz)
    exact r0_i C hr hlocks hI (⟨by unfold an_repl; rw [if_pos (by omega), Int.toNat_natCast]; exact (hj _ (by omega) (by omega) ((td_cg (by omega) (repz_cg (fun k _ => (cg.em 32749 _).sy))).eq.trans e1) ((td_cg (by omega) (repz_cg (fun k _ => (cg.em 32719 _).sy))).eq.trans e2)).symm, rfl⟩) dX0_replaced_52
  · refine z_ldc hx hb (-1000000000) C.2.2.2.1 (C.2.2.2.2 _ q72) (by decide +kernel) dX0_replaced_7 ?_
    exact r0_i C hr hlocks hI (⟨by unfold an_repl; rw [if_neg (by omega)]; rfl, rfl⟩) dX0_replaced_9
def sfw (p : Int) (w : Nat → Int) (v : Int) (i : Nat) : Nat → Int := fun k => if k / 5 < i ∧ k / 5 = k % 5 then (w k + v) % p else w k
theorem sfw_0 (p : Int) (w : Nat → Int) (v : Int) : sfw p w v 0 = w := by
  funext k
  unfold sfw
  rw [if_neg (by omega)]
theorem sfw_at {p : Int} {w : Nat → Int} {v : Int} {i : Nat} (hi : i < 4) : sfw p w v i (i * 5 + i) = w (i * 5 + i) := by
  unfold sfw
  rw [if_neg (by omega)]
theorem sfw_s {p : Int} {w : Nat → Int} {v : Int} {i : Nat} (hi : i < 4) : up (sfw p w v i) (i * 5 + i) ((w (i * 5 + i) + v) % p) = sfw p w v (i + 1) := by
  funext k
  by_cases h : k = i * 5 + i
  · subst h
    rw [up_s]
    unfold sfw
    rw [if_pos (by omega)]
  · rw [up_n h]
    unfold sfw
    by_cases h2 : k / 5 < i ∧ k / 5 = k % 5
    · rw [if_pos h2, if_pos (by omega)]
    · rw [if_neg h2, if_neg (by omega)]
theorem sfw_in {p : Int} {w : Nat → Int} {v : Int} {i : Nat} (hp : 0 < p) (h : ∀ k, k < 20 → 0 ≤ w k ∧ w k < p) : ∀ k, k < 20 → 0 ≤ sfw p w v i k ∧ sfw p w v i k < p := by
  intro k hk
  unfold sfw
  split
  · exact em_in hp
  · exact h k hk
theorem sfw_cg {p : Int} {w z : Nat → Int} {v : Int} (h : ∀ k, k < 20 → cg p (w k) (z k)) : ∀ k, k < 20 → cg p (sfw p w v 4 k) (shz z v k) := by
  intro k hk
  unfold sfw shz
  by_cases h2 : k / 5 < 4 ∧ k / 5 = k % 5
  · rw [if_pos h2, if_pos (by omega)]
    exact (cg.em _ _).tr ((h k hk).ad (cg.rf _ _))
  · rw [if_neg h2, if_neg (by omega)]
    exact h k hk
abbrev ps0_shift (x1 : Int) (z : Nat → Int) (pr : Int) (w : Nat → Int) (v : Nat → Int) (q : Nat → Int) (u : Nat → Int) : (Nat → Int) → Int → (Nat → Int) → (Nat → Int) → (Nat → Int) → (Nat → Int) → Prop := fun z1 pr1 w1 v1 q1 u1 => z = z1 ∧ pr = pr1 ∧ sfw pr w x1 4 = w1 ∧ v = v1 ∧ q = q1 ∧ u = u1
set_option maxHeartbeats 4000000 in
set_option maxRecDepth 100000 in
theorem met0_shift (l : Launch) (x1 : Int) (z : Nat → Int) (pr : Int) (w : Nat → Int) (v : Nat → Int) (q : Nat → Int) (u : Nat → Int) (hp : pr = 32749 ∨ pr = 32719) (h1 : -50 ≤ x1 ∧ x1 ≤ 50) (hw : ∀ k, k < 20 → 0 ≤ w k ∧ w k < pr) : M0v l yX0_shift cX0_shift 3 none rm0_shift [.int (iI x1)] z pr w v q u (ps0_shift x1 z pr w v q u) := by
  refine M0v.of (by decide) rfl (fun _ => Nat.le_of_ble_eq_true rfl) ?_
  intro p e s m args below meth c D a ca A ls C hr hlocks hA hl hI
  have hx := C.1
  have hb := C.2.1
  have hl : lv_has ls 3 [(0, .ref (a 0)), (1, .int (iI x1))] := hl
  refine z_iconst hx hb dX0_shift_0 ?_
  refine lv_istore_n (lv' := [(2, .int (iI 0)), (0, .ref (a 0)), (1, .int (iI x1))]) hx hb dX0_shift_1 rfl hl (by decide) rfl (fun ls hl => ?_)
  have lp_2 : ∀ (n_2 : Nat) (i : Nat), (hf_2 : 4 < i + n_2) → (hi : i ≤ 4) → ∀ (H : Heap) (locs : List Loc), I0 D A s a ca z pr (sfw pr w x1 i) v q u H locs → ∀ (ls : Array Slot), lv_has ls 3 [(0, .ref (a 0)), (1, .int (iI x1)), (2, .int (iI (i : Int)))] → W p l e rm0_shift s m args below meth c H locs 0 0 (E0v D a ca A (ps0_shift x1 z pr w v q u) below args s) (F0 m 2 ls []) := by
    intro n_2
    induction n_2 with
    | zero =>
      intro i hf_2 hi H locs hI ls hl
      exfalso; omega
    | succ n_2 ih_2 =>
      intro i hf_2 hi H locs hI ls hl
      refine lv_iload_n hx hb dX0_shift_2 rfl (lv_at hl 2 rfl) ?_
      refine z_iconst hx hb dX0_shift_3 ?_
      refine z_icmp_ge hx hb 39 dX0_shift_4 (by decide) (by omega) (by omega) (fun c_1 => ?_) (fun c_1 => ?_)
      · have hi4 : i = 4 := by omega
        rw [hi4] at hI
        exact r0_v C hr hlocks hI (⟨rfl, rfl, rfl, rfl, rfl, rfl⟩) dX0_shift_39
      · refine lv_aload_n hx hb dX0_shift_7 rfl (lv_at hl 0 rfl) ?_
        refine g0_work C hI dX0_shift_8 ?_
        refine lv_iload_n hx hb dX0_shift_11 rfl (lv_at hl 2 rfl) ?_
        refine z_iconst hx hb dX0_shift_12 ?_
        refine z_imul hx hb dX0_shift_13 ?_
        refine lv_iload_n hx hb dX0_shift_14 rfl (lv_at hl 2 rfl) ?_
        refine z_iadd hx hb dX0_shift_15 ?_
        refine lv_aload_n hx hb dX0_shift_16 rfl (lv_at hl 0 rfl) ?_
        refine lv_aload_n hx hb dX0_shift_17 rfl (lv_at hl 0 rfl) ?_
        refine g0_work C hI dX0_shift_18 ?_
        refine lv_iload_n hx hb dX0_shift_21 rfl (lv_at hl 2 rfl) ?_
        refine z_iconst hx hb dX0_shift_22 ?_
        refine z_imul hx hb dX0_shift_23 ?_
        refine lv_iload_n hx hb dX0_shift_24 rfl (lv_at hl 2 rfl) ?_
        refine z_iadd hx hb dX0_shift_25 ?_
        refine l0_w C hI ((i * 5) + i) (by omega) (by omega) dX0_shift_26 ?_
        rw [sfw_at (by omega)]
        have hwi := hw (i * 5 + i) (by omega)
        refine lv_iload_n hx hb dX0_shift_27 rfl (lv_at hl 1 rfl) ?_
        refine z_iadd hx hb dX0_shift_28 ?_
        refine c0_i (As := [.int (iI ((w (i * 5 + i)) + x1))]) C hA hI (met0_reduce l ((w (i * 5 + i)) + x1) z pr (sfw pr w x1 i) v q u hp (by omega)) (cw0_reduce C.2.2.2.2 ⟨Nat.le_of_ble_eq_true rfl, Nat.le_of_ble_eq_true rfl⟩) rfl hl.1 rfl (Nat.le_of_ble_eq_true rfl) dX0_shift_29 ⟨Nat.le_refl _, Nat.le_refl _⟩ (fun r_2 z_2 pr_2 w_2 v_2 q_2 u_2 H locs hp_2 hI => ?_)
        obtain ⟨rfl, rfl, rfl, rfl, rfl, rfl, rfl⟩ := hp_2
        refine s0_w C hI ((i * 5) + i) (by omega) (by omega) dX0_shift_32 (fun H locs hI => ?_)
        refine lv_iinc (v := iI ((i + 1 : Nat) : Int)) (lv' := [(2, .int (iI ((i + 1 : Nat) : Int))), (0, .ref (a 0)), (1, .int (iI x1))]) hx hb dX0_shift_33 hl (k := 2) rfl (iI_inc1 _) (by decide) rfl (fun ls hl => ?_)
        refine lv_goto (tgt := 2) hx hb dX0_shift_36 (by decide) ?_
        rw [sfw_s (by omega)] at hI
        exact ih_2 (i + 1) (by omega) (by omega) _ _ hI ls (lv_sub hl [1, 2, 0] rfl)
  exact lp_2 5 0 (by omega) (by omega) _ _ (by rw [sfw_0]; exact hI) ls (lv_sub hl [1, 2, 0] rfl)
def an_shift (z : Nat → Int) (v : Int) : Int := if -50 ≤ v ∧ v ≤ 50 then td (shz z v) 0 4 else BAD_
abbrev ps0_shifted (i : Int) (z : Nat → Int) (pr : Int) (w : Nat → Int) (v : Nat → Int) (q : Nat → Int) (u : Nat → Int) : Int → (Nat → Int) → Int → (Nat → Int) → (Nat → Int) → (Nat → Int) → (Nat → Int) → Prop := fun r z1 pr1 w1 v1 q1 u1 => an_shift z i = r ∧ z = z1
set_option maxHeartbeats 4000000 in
set_option maxRecDepth 100000 in
theorem met0_shifted (l : Launch) (i : Int) (z : Nat → Int) (pr : Int) (w : Nat → Int) (v : Nat → Int) (q : Nat → Int) (u : Nat → Int) (hi : -2147483648 ≤ i ∧ i < 2147483648) (hz : ∀ k, k < 20 → -50 ≤ z k ∧ z k ≤ 50) : M0i l yX0_shifted cX0_shifted 4 (some .int) rm0_shifted [.int (iI i)] z pr w v q u (ps0_shifted i z pr w v q u) := by
  refine M0i.of (by decide) rfl (fun _ => Nat.le_of_ble_eq_true rfl) ?_
  intro p e s m args below meth c D a ca A ls C hr hlocks hA hl hI
  have hx := C.1
  have hb := C.2.1
  have hl : lv_has ls 4 [(0, .ref (a 0)), (1, .int (iI i))] := hl
  refine lv_iload_n hx hb dX0_shifted_0 rfl (lv_at hl 1 rfl) ?_
  refine cS_i (As := [.int (iI i)]) C (met0_isNumber l i (by omega)) (cw0_isNumber C.2.2.2.2 ⟨Nat.le_of_ble_eq_true rfl, Nat.le_of_ble_eq_true rfl⟩) rfl hl.1 rfl (Nat.le_of_ble_eq_true rfl) dX0_shifted_1 ⟨Nat.le_refl _, Nat.le_refl _⟩ (fun r_1 hp_1 => ?_)
  refine z_if_ne hx hb 10 dX0_shifted_4 (by decide) (by omega) (fun c_2 => ?_) (fun c_2 => ?_)
  · refine lv_aload_n hx hb dX0_shifted_10 rfl (lv_at hl 0 rfl) ?_
    refine z_sipush hx hb dX0_shifted_11 (by decide +kernel) ?_
    refine c0_v (As := [.int (iI 32749)]) C hA hI (met0_load l 32749 z pr w v q u (by omega) hz) (cw0_load C.2.2.2.2 ⟨Nat.le_of_ble_eq_true rfl, Nat.le_of_ble_eq_true rfl⟩) rfl hl.1 rfl (Nat.le_of_ble_eq_true rfl) dX0_shifted_14 ⟨Nat.le_refl _, Nat.le_refl _⟩ (fun z_3 pr_3 w_3 v_3 q_3 u_3 H locs hp_3 hI => ?_)
    obtain ⟨rfl, rfl, rfl, rfl, rfl, rfl⟩ := hp_3
    refine lv_aload_n hx hb dX0_shifted_17 rfl (lv_at hl 0 rfl) ?_
    refine lv_iload_n hx hb dX0_shifted_18 rfl (lv_at hl 1 rfl) ?_
    refine c0_v (As := [.int (iI i)]) C hA hI (met0_shift l i z 32749 (fun k => z k % 32749) v q u (by omega) (by omega) (fun k _ => em_in (by omega))) (cw0_shift C.2.2.2.2 ⟨Nat.le_of_ble_eq_true rfl, Nat.le_of_ble_eq_true rfl⟩) rfl hl.1 rfl (Nat.le_of_ble_eq_true rfl) dX0_shifted_19 ⟨Nat.le_refl _, Nat.le_refl _⟩ (fun z_4 pr_4 w_4 v_4 q_4 u_4 H locs hp_4 hI => ?_)
    obtain ⟨rfl, rfl, rfl, rfl, rfl, rfl⟩ := hp_4
    refine lv_aload_n hx hb dX0_shifted_22 rfl (lv_at hl 0 rfl) ?_
    refine z_iconst hx hb dX0_shifted_23 ?_
    refine c0_i (As := [.int (iI 4)]) C hA hI (met0_determinantOf l 4 z 32749 (sfw 32749 (fun k => z k % 32749) i 4) v q u (by omega) (by omega) (sfw_in (by omega) (fun k _ => em_in (by omega)))) (cw0_determinantOf C.2.2.2.2 ⟨Nat.le_of_ble_eq_true rfl, Nat.le_of_ble_eq_true rfl⟩) rfl hl.1 rfl (Nat.le_of_ble_eq_true rfl) dX0_shifted_24 ⟨Nat.le_refl _, Nat.le_refl _⟩ (fun f1 z_5 pr_5 w_5 v_5 q_5 u_5 H locs hp_5 hI => ?_)
    obtain ⟨e1, rfl, rfl, rfl, rfl, rfl⟩ := hp_5
    refine lv_istore_n (lv' := [(2, .int (iI f1)), (0, .ref (a 0)), (1, .int (iI i))]) hx hb dX0_shifted_27 rfl hl (by decide) rfl (fun ls hl => ?_)
    refine lv_aload_n hx hb dX0_shifted_28 rfl (lv_at hl 1 rfl) ?_
    refine z_sipush hx hb dX0_shifted_29 (by decide +kernel) ?_
    refine c0_v (As := [.int (iI 32719)]) C hA hI (met0_load l 32719 z 32749 w_5 v q u (by omega) hz) (cw0_load C.2.2.2.2 ⟨Nat.le_of_ble_eq_true rfl, Nat.le_of_ble_eq_true rfl⟩) rfl hl.1 rfl (Nat.le_of_ble_eq_true rfl) dX0_shifted_32 ⟨Nat.le_refl _, Nat.le_refl _⟩ (fun z_6 pr_6 w_6 v_6 q_6 u_6 H locs hp_6 hI => ?_)
    obtain ⟨rfl, rfl, rfl, rfl, rfl, rfl⟩ := hp_6
    refine lv_aload_n hx hb dX0_shifted_35 rfl (lv_at hl 1 rfl) ?_
    refine lv_iload_n hx hb dX0_shifted_36 rfl (lv_at hl 2 rfl) ?_
    refine c0_v (As := [.int (iI i)]) C hA hI (met0_shift l i z 32719 (fun k => z k % 32719) v q u (by omega) (by omega) (fun k _ => em_in (by omega))) (cw0_shift C.2.2.2.2 ⟨Nat.le_of_ble_eq_true rfl, Nat.le_of_ble_eq_true rfl⟩) rfl hl.1 rfl (Nat.le_of_ble_eq_true rfl) dX0_shifted_37 ⟨Nat.le_refl _, Nat.le_refl _⟩ (fun z_7 pr_7 w_7 v_7 q_7 u_7 H locs hp_7 hI => ?_)
    obtain ⟨rfl, rfl, rfl, rfl, rfl, rfl⟩ := hp_7
    refine lv_aload_n hx hb dX0_shifted_40 rfl (lv_at hl 1 rfl) ?_
    refine z_iconst hx hb dX0_shifted_41 ?_
    refine c0_i (As := [.int (iI 4)]) C hA hI (met0_determinantOf l 4 z 32719 (sfw 32719 (fun k => z k % 32719) i 4) v q u (by omega) (by omega) (sfw_in (by omega) (fun k _ => em_in (by omega)))) (cw0_determinantOf C.2.2.2.2 ⟨Nat.le_of_ble_eq_true rfl, Nat.le_of_ble_eq_true rfl⟩) rfl hl.1 rfl (Nat.le_of_ble_eq_true rfl) dX0_shifted_42 ⟨Nat.le_refl _, Nat.le_refl _⟩ (fun f2 z_8 pr_8 w_8 v_8 q_8 u_8 H locs hp_8 hI => ?_)
    obtain ⟨e2, rfl, rfl, rfl, rfl, rfl⟩ := hp_8
    refine lv_istore_n (lv' := [(3, .int (iI f2)), (2, .int (iI f1)), (0, .ref (a 0)), (1, .int (iI i))]) hx hb dX0_shifted_45 rfl hl (by decide) rfl (fun ls hl => ?_)
    refine lv_aload_n hx hb dX0_shifted_46 rfl (lv_at hl 2 rfl) ?_
    refine lv_iload_n hx hb dX0_shifted_47 rfl (lv_at hl 1 rfl) ?_
    refine lv_iload_n hx hb dX0_shifted_48 rfl (lv_at hl 0 rfl) ?_
    refine c0_i (As := [.int (iI f1), .int (iI f2)]) C hA hI (met0_join l f1 f2 z 32719 w_8 v q u (by rw [← e1]; exact em_in (by omega)) (by rw [← e2]; exact em_in (by omega))) (cw0_join C.2.2.2.2 ⟨Nat.le_of_ble_eq_true rfl, Nat.le_of_ble_eq_true rfl⟩) rfl hl.1 rfl (Nat.le_of_ble_eq_true rfl) dX0_shifted_49 ⟨Nat.le_refl _, Nat.le_refl _⟩ (fun rj z_9 pr_9 w_9 v_9 q_9 u_9 H locs hp_9 hI => ?_)
    obtain ⟨hj, rfl, rfl, rfl, rfl, rfl, rfl⟩ := hp_9
    have hmb := shz_bd (v := i) hz (by omega)
    exact r0_i C hr hlocks hI (⟨by unfold an_shift; rw [if_pos (by omega)]; exact (hj (td (shz z i) 0 4) (by omega) (by omega) ((td_cg (by omega) (fun k hk => (sfw_cg (fun k _ => cg.em 32749 _) k hk).sy)).eq.trans e1) ((td_cg (by omega) (fun k hk => (sfw_cg (fun k _ => cg.em 32719 _) k hk).sy)).eq.trans e2)).symm, rfl⟩) dX0_shifted_52
  · refine z_ldc hx hb (-1000000000) C.2.2.2.1 (C.2.2.2.2 _ q72) (by decide +kernel) dX0_shifted_7 ?_
    exact r0_i C hr hlocks hI (⟨by unfold an_shift; rw [if_neg (by omega)]; rfl, rfl⟩) dX0_shifted_9
def an_with (z : Nat → Int) (i j v : Int) : Int := if 0 ≤ i ∧ i < 4 ∧ 0 ≤ j ∧ j < 4 ∧ -50 ≤ v ∧ v ≤ 50 then td (up z (i.toNat * 5 + j.toNat) v) 0 4 else BAD_
abbrev ps0_determinantWith (i : Int) (j : Int) (y : Int) (z : Nat → Int) (pr : Int) (w : Nat → Int) (v : Nat → Int) (q : Nat → Int) (u : Nat → Int) : Int → (Nat → Int) → Int → (Nat → Int) → (Nat → Int) → (Nat → Int) → (Nat → Int) → Prop := fun r z1 pr1 w1 v1 q1 u1 => an_with z i j y = r ∧ z = z1
set_option maxHeartbeats 4000000 in
set_option maxRecDepth 100000 in
theorem met0_determinantWith (l : Launch) (i : Int) (j : Int) (y : Int) (z : Nat → Int) (pr : Int) (w : Nat → Int) (v : Nat → Int) (q : Nat → Int) (u : Nat → Int) (hi : -2147483648 ≤ i ∧ i < 2147483648) (hj0 : -2147483648 ≤ j ∧ j < 2147483648) (hy : -2147483648 ≤ y ∧ y < 2147483648) (hz : ∀ k, k < 20 → -50 ≤ z k ∧ z k ≤ 50) : M0i l yX0_determinantWith cX0_determinantWith 6 (some .int) rm0_determinantWith [.int (iI i), .int (iI j), .int (iI y)] z pr w v q u (ps0_determinantWith i j y z pr w v q u) := by
  refine M0i.of (by decide) rfl (fun _ => Nat.le_of_ble_eq_true rfl) ?_
  intro p e s m args below meth c D a ca A ls C hr hlocks hA hl hI
  have hx := C.1
  have hb := C.2.1
  have hl : lv_has ls 6 [(0, .ref (a 0)), (1, .int (iI i)), (2, .int (iI j)), (3, .int (iI y))] := hl
  refine lv_iload_n hx hb dX0_determinantWith_0 rfl (lv_at hl 1 rfl) ?_
  refine cS_i (As := [.int (iI i)]) C (met0_isRow l i (by omega)) (cw0_isRow C.2.2.2.2 ⟨Nat.le_of_ble_eq_true rfl, Nat.le_of_ble_eq_true rfl⟩) rfl hl.1 rfl (Nat.le_of_ble_eq_true rfl) dX0_determinantWith_1 ⟨Nat.le_refl _, Nat.le_refl _⟩ (fun r_1 hp_1 => ?_)
  refine z_if_eq hx hb 21 dX0_determinantWith_4 (by decide) (by omega) (fun c_2 => ?_) (fun c_2 => ?_)
  · refine z_ldc hx hb (-1000000000) C.2.2.2.1 (C.2.2.2.2 _ q72) (by decide +kernel) dX0_determinantWith_21 ?_
    exact r0_i C hr hlocks hI (⟨by unfold an_with; rw [if_neg (by omega)]; rfl, rfl⟩) dX0_determinantWith_23
  · refine lv_iload_n hx hb dX0_determinantWith_7 rfl (lv_at hl 2 rfl) ?_
    refine cS_i (As := [.int (iI j)]) C (met0_isRow l j (by omega)) (cw0_isRow C.2.2.2.2 ⟨Nat.le_of_ble_eq_true rfl, Nat.le_of_ble_eq_true rfl⟩) rfl hl.1 rfl (Nat.le_of_ble_eq_true rfl) dX0_determinantWith_8 ⟨Nat.le_refl _, Nat.le_refl _⟩ (fun r_3 hp_3 => ?_)
    refine z_if_eq hx hb 21 dX0_determinantWith_11 (by decide) (by omega) (fun c_4 => ?_) (fun c_4 => ?_)
    · refine z_ldc hx hb (-1000000000) C.2.2.2.1 (C.2.2.2.2 _ q72) (by decide +kernel) dX0_determinantWith_21 ?_
      exact r0_i C hr hlocks hI (⟨by unfold an_with; rw [if_neg (by omega)]; rfl, rfl⟩) dX0_determinantWith_23
    · refine lv_iload_n hx hb dX0_determinantWith_14 rfl (lv_at hl 3 rfl) ?_
      refine cS_i (As := [.int (iI y)]) C (met0_isNumber l y (by omega)) (cw0_isNumber C.2.2.2.2 ⟨Nat.le_of_ble_eq_true rfl, Nat.le_of_ble_eq_true rfl⟩) rfl hl.1 rfl (Nat.le_of_ble_eq_true rfl) dX0_determinantWith_15 ⟨Nat.le_refl _, Nat.le_refl _⟩ (fun r_5 hp_5 => ?_)
      refine z_if_ne hx hb 24 dX0_determinantWith_18 (by decide) (by omega) (fun c_6 => ?_) (fun c_6 => ?_)
      · obtain ⟨n1, rfl⟩ := Int.eq_ofNat_of_zero_le (show 0 ≤ i by omega)
        obtain ⟨n2, rfl⟩ := Int.eq_ofNat_of_zero_le (show 0 ≤ j by omega)
        have hzn := hz (n1 * 5 + n2) (by omega)
        refine lv_aload_n hx hb dX0_determinantWith_24 rfl (lv_at hl 0 rfl) ?_
        refine g0_num C hI dX0_determinantWith_25 ?_
        refine lv_iload_n hx hb dX0_determinantWith_28 rfl (lv_at hl 1 rfl) ?_
        refine z_iconst hx hb dX0_determinantWith_29 ?_
        refine z_imul hx hb dX0_determinantWith_30 ?_
        refine lv_iload_n hx hb dX0_determinantWith_31 rfl (lv_at hl 2 rfl) ?_
        refine z_iadd hx hb dX0_determinantWith_32 ?_
        refine l0_z C hI ((n1 * 5) + n2) (by omega) (by omega) dX0_determinantWith_33 ?_
        refine lv_istore (lv' := [(4, .int (iI (z ((n1 * 5) + n2)))), (0, .ref (a 0)), (1, .int (iI (n1 : Int))), (2, .int (iI (n2 : Int))), (3, .int (iI y))]) hx hb dX0_determinantWith_34 hl (by decide) rfl (fun ls hl => ?_)
        refine lv_aload_n hx hb dX0_determinantWith_36 rfl (lv_at hl 1 rfl) ?_
        refine g0_num C hI dX0_determinantWith_37 ?_
        refine lv_iload_n hx hb dX0_determinantWith_40 rfl (lv_at hl 2 rfl) ?_
        refine z_iconst hx hb dX0_determinantWith_41 ?_
        refine z_imul hx hb dX0_determinantWith_42 ?_
        refine lv_iload_n hx hb dX0_determinantWith_43 rfl (lv_at hl 3 rfl) ?_
        refine z_iadd hx hb dX0_determinantWith_44 ?_
        refine lv_iload_n hx hb dX0_determinantWith_45 rfl (lv_at hl 4 rfl) ?_
        refine z_i2b hx hb dX0_determinantWith_46 (by omega) ?_
        refine s0_z C hI ((n1 * 5) + n2) (by omega) (by omega) (by omega) dX0_determinantWith_47 (fun H locs hI => ?_)
        refine lv_aload_n hx hb dX0_determinantWith_48 rfl (lv_at hl 1 rfl) ?_
        refine c0_i (As := []) C hA hI (met0_determinant l (up z ((n1 * 5) + n2) y) pr w v q u (up_50 hz (by omega))) (cw0_determinant C.2.2.2.2 ⟨Nat.le_of_ble_eq_true rfl, Nat.le_of_ble_eq_true rfl⟩) rfl hl.1 rfl (Nat.le_of_ble_eq_true rfl) dX0_determinantWith_49 ⟨Nat.le_refl _, Nat.le_refl _⟩ (fun dd z_7 pr_7 w_7 v_7 q_7 u_7 H locs hp_7 hI => ?_)
        obtain ⟨hdd, rfl⟩ := hp_7
        refine lv_istore (lv' := [(5, .int (iI dd)), (4, .int (iI (z ((n1 * 5) + n2)))), (0, .ref (a 0)), (1, .int (iI (n1 : Int))), (2, .int (iI (n2 : Int))), (3, .int (iI y))]) hx hb dX0_determinantWith_52 hl (by decide) rfl (fun ls hl => ?_)
        refine lv_aload_n hx hb dX0_determinantWith_54 rfl (lv_at hl 2 rfl) ?_
        refine g0_num C hI dX0_determinantWith_55 ?_
        refine lv_iload_n hx hb dX0_determinantWith_58 rfl (lv_at hl 3 rfl) ?_
        refine z_iconst hx hb dX0_determinantWith_59 ?_
        refine z_imul hx hb dX0_determinantWith_60 ?_
        refine lv_iload_n hx hb dX0_determinantWith_61 rfl (lv_at hl 4 rfl) ?_
        refine z_iadd hx hb dX0_determinantWith_62 ?_
        refine lv_iload hx hb dX0_determinantWith_63 (lv_at hl 1 rfl) ?_
        refine s0_z C hI ((n1 * 5) + n2) (by omega) (by omega) (by omega) dX0_determinantWith_65 (fun H locs hI => ?_)
        refine lv_iload hx hb dX0_determinantWith_66 (lv_at hl 0 rfl) ?_
        have hI := hI.cz z (fun k _ => by by_cases e : k = n1 * 5 + n2 <;> simp [up, e])
        exact r0_i C hr hlocks hI (⟨by unfold an_with; rw [if_pos (by omega), Int.toNat_natCast, Int.toNat_natCast]; exact hdd, rfl⟩) dX0_determinantWith_68
      · refine z_ldc hx hb (-1000000000) C.2.2.2.1 (C.2.2.2.2 _ q72) (by decide +kernel) dX0_determinantWith_21 ?_
        exact r0_i C hr hlocks hI (⟨by unfold an_with; rw [if_neg (by omega)]; rfl, rfl⟩) dX0_determinantWith_23
end
section
set_option maxRecDepth 100000
/-! the answers and the new numbers of set, at, swapRows, addRow, transpose -/
def ar_set (i j y : Int) : Int := if 0 ≤ i ∧ i < 4 ∧ 0 ≤ j ∧ j ≤ 4 ∧ -50 ≤ y ∧ y ≤ 50 then 1 else 0
def st_set (z : Nat → Int) (i j y : Int) : Nat → Int := if 0 ≤ i ∧ i < 4 ∧ 0 ≤ j ∧ j ≤ 4 ∧ -50 ≤ y ∧ y ≤ 50 then up z (i.toNat * 5 + j.toNat) y else z
def an_at (z : Nat → Int) (i j : Int) : Int := if 0 ≤ i ∧ i < 4 ∧ 0 ≤ j ∧ j ≤ 4 then z (i.toNat * 5 + j.toNat) else BAD_
def ar_swap (i k : Int) : Int := if 0 ≤ i ∧ i < 4 ∧ 0 ≤ k ∧ k < 4 then 1 else 0
def st_swap (z : Nat → Int) (i k : Int) : Nat → Int := if 0 ≤ i ∧ i < 4 ∧ 0 ≤ k ∧ k < 4 then exch z i.toNat k.toNat 4 else z
def fitz (z : Nat → Int) (i k : Nat) (f : Int) (n : Nat) : Prop := ∀ j, j < n → -50 ≤ z (i * 5 + j) + f * z (k * 5 + j) ∧ z (i * 5 + j) + f * z (k * 5 + j) ≤ 50
def okadd (z : Nat → Int) (i k f : Int) : Prop := 0 ≤ i ∧ i < 4 ∧ 0 ≤ k ∧ k < 4 ∧ i ≠ k ∧ -9 ≤ f ∧ f ≤ 9 ∧ fitz z i.toNat k.toNat f 4
def addz (z : Nat → Int) (i k : Nat) (f : Int) (n : Nat) : Nat → Int := fun x => if x / 5 = i ∧ x % 5 < n then z x + f * z (k * 5 + x % 5) else z x
/-- what addRow answers and leaves -/
def rl_add (z : Nat → Int) (i k f r : Int) (z1 : Nat → Int) : Prop := (okadd z i k f ∧ r = 1 ∧ z1 = addz z i.toNat k.toNat f 4) ∨ (¬ okadd z i k f ∧ r = 0 ∧ z1 = z)
theorem rl_add_fun {z : Nat → Int} {i k f r r' : Int} {z1 z1' : Nat → Int} (h : rl_add z i k f r z1) (h' : rl_add z i k f r' z1') : r = r' ∧ z1 = z1' := by
  rcases h with ⟨a, b, c⟩ | ⟨a, b, c⟩ <;> rcases h' with ⟨a', b', c'⟩ | ⟨a', b', c'⟩
  · exact ⟨b.trans b'.symm, c.trans c'.symm⟩
  · exact absurd a a'
  · exact absurd a' a
  · exact ⟨b.trans b'.symm, c.trans c'.symm⟩
def trz (z : Nat → Int) : Nat → Int := fun k => if k % 5 < 4 then z (k % 5 * 5 + k / 5) else z k
section A2
variable {z : Nat → Int}
theorem exch_50 {i k n : Nat} (hi : i < 4 ∧ k < 4) (hz : ∀ k, k < 20 → -50 ≤ z k ∧ z k ≤ 50) : ∀ x, x < 20 → -50 ≤ exch z i k n x ∧ exch z i k n x ≤ 50 := by
  intro x hx
  unfold exch
  split
  · split
    · exact hz _ (by omega)
    · split
      · exact hz _ (by omega)
      · exact hz _ hx
  · exact hz _ hx
theorem addz_0 (i k : Nat) (f : Int) : addz z i k f 0 = z := by
  funext x
  unfold addz
  rw [if_neg (by omega)]
theorem addz_i {i k j : Nat} {f : Int} (hj : j < 5) : addz z i k f j (i * 5 + j) = z (i * 5 + j) := by
  unfold addz
  rw [if_neg (by omega)]
theorem addz_k {i k j : Nat} {f : Int} (hj : j < 5) (h : i ≠ k) : addz z i k f j (k * 5 + j) = z (k * 5 + j) := by
  unfold addz
  rw [if_neg (by omega)]
theorem addz_s {i k j : Nat} {f : Int} (hj : j < 5) : up (addz z i k f j) (i * 5 + j) (z (i * 5 + j) + f * z (k * 5 + j)) = addz z i k f (j + 1) := by
  funext x
  by_cases h : x = i * 5 + j
  · subst h
    rw [up_s]
    unfold addz
    have e2 : (i * 5 + j) % 5 = j := by omega
    rw [if_pos (by omega), e2]
  · rw [up_n h]
    unfold addz
    by_cases h2 : x / 5 = i ∧ x % 5 < j
    · rw [if_pos h2, if_pos (by omega)]
    · rw [if_neg h2, if_neg (by omega)]
theorem addz_50 {i k : Nat} {f : Int} (hf : fitz z i k f 4) (hz : ∀ k, k < 20 → -50 ≤ z k ∧ z k ≤ 50) : ∀ x, x < 20 → -50 ≤ addz z i k f 4 x ∧ addz z i k f 4 x ≤ 50 := by
  intro x hx
  unfold addz
  by_cases h : x / 5 = i ∧ x % 5 < 4
  · rw [if_pos h]
    have e := hf (x % 5) h.2
    have e2 : i * 5 + x % 5 = x := by omega
    rw [e2] at e
    exact e
  · rw [if_neg h]
    exact hz x hx
theorem add_bd {i k : Nat} {f : Int} (hz : ∀ k, k < 20 → -50 ≤ z k ∧ z k ≤ 50) (hf : -9 ≤ f ∧ f ≤ 9) (hi : i < 20) (hk : k < 20) : -500 ≤ z i + f * z k ∧ z i + f * z k ≤ 500 := by
  have h1 := mb (A := 9) (B := 50) hf (hz k hk)
  have h2 := hz i hi
  omega
theorem trz_50 (hz : ∀ k, k < 20 → -50 ≤ z k ∧ z k ≤ 50) : ∀ x, x < 20 → -50 ≤ trz z x ∧ trz z x ≤ 50 := by
  intro x hx
  unfold trz
  split
  · exact hz _ (by omega)
  · exact hz _ hx
/-- the numbers while they are turned about the diagonal -/
def trs (z : Nat → Int) (i j : Nat) : Nat → Int := fun k => if (k / 5 < i ∧ k % 5 < i) ∨ (k / 5 = i ∧ k % 5 < j) ∨ (k % 5 = i ∧ k / 5 < j) then z (k % 5 * 5 + k / 5) else z k
theorem trs_0 : trs z 0 0 = z := by
  funext k
  unfold trs
  rw [if_neg (by omega)]
theorem trs_e {i : Nat} : trs z i i = trs z (i + 1) 0 := by
  funext k
  unfold trs
  by_cases h : (k / 5 < i ∧ k % 5 < i) ∨ (k / 5 = i ∧ k % 5 < i) ∨ (k % 5 = i ∧ k / 5 < i)
  · rw [if_pos h, if_pos (by omega)]
  · rw [if_neg h]
    by_cases h2 : k / 5 = i ∧ k % 5 = i
    · rw [if_pos (by omega), show k % 5 * 5 + k / 5 = k by omega]
    · rw [if_neg (by omega)]
theorem trs_s {i j : Nat} (hi : i < 4) (hj : j < i) : up (up (trs z i j) (i * 5 + j) (trs z i j (j * 5 + i))) (j * 5 + i) (trs z i j (i * 5 + j)) = trs z i (j + 1) := by
  have e1 : trs z i j (j * 5 + i) = z (j * 5 + i) := by unfold trs; rw [if_neg (by omega)]
  have e2 : trs z i j (i * 5 + j) = z (i * 5 + j) := by unfold trs; rw [if_neg (by omega)]
  rw [e1, e2]
  funext k
  by_cases h1 : k = j * 5 + i
  · subst h1
    rw [up_s]
    unfold trs
    rw [if_pos (by omega), show (j * 5 + i) % 5 * 5 + (j * 5 + i) / 5 = i * 5 + j by omega]
  · rw [up_n h1]
    by_cases h2 : k = i * 5 + j
    · subst h2
      rw [up_s]
      unfold trs
      rw [if_pos (by omega), show (i * 5 + j) % 5 * 5 + (i * 5 + j) / 5 = j * 5 + i by omega]
    · rw [up_n h2]
      unfold trs
      by_cases h : (k / 5 < i ∧ k % 5 < i) ∨ (k / 5 = i ∧ k % 5 < j) ∨ (k % 5 = i ∧ k / 5 < j)
      · rw [if_pos h, if_pos (by omega)]
      · rw [if_neg h, if_neg (by omega)]
theorem trs_4 : ∀ k, k < 20 → trs z 4 0 k = trz z k := by
  intro k hk
  unfold trs trz
  by_cases h : k % 5 < 4
  · rw [if_pos h, if_pos (by omega)]
  · rw [if_neg h, if_neg (by omega)]
theorem trs_50 {i j : Nat} (hi : i ≤ 4) (hj : j ≤ i) (h2 : i = 4 → j = 0) (hz : ∀ k, k < 20 → -50 ≤ z k ∧ z k ≤ 50) : ∀ x, x < 20 → -50 ≤ trs z i j x ∧ trs z i j x ≤ 50 := by
  intro x hx
  unfold trs
  split
  · exact hz _ (by omega)
  · exact hz _ hx
/-- the same, as the model does it -/
def trm (z : Nat → Int) (c : Nat) : Nat → Int := fun k => if k % 5 < 4 ∧ k / 5 * 4 + k % 5 < c then z (k % 5 * 5 + k / 5) else z k
theorem trm_0 : trm z 0 = z := by
  funext k
  unfold trm
  rw [if_neg (by omega)]
theorem trm_s {c : Nat} : up (trm z c) (5 * (c / 4) + c % 4) (z (5 * (c % 4) + c / 4)) = trm z (c + 1) := by
  funext k
  by_cases h : k = 5 * (c / 4) + c % 4
  · subst h
    rw [up_s]
    unfold trm
    rw [if_pos (by omega), show (5 * (c / 4) + c % 4) % 5 * 5 + (5 * (c / 4) + c % 4) / 5 = 5 * (c % 4) + c / 4 by omega]
  · rw [up_n h]
    unfold trm
    by_cases h2 : k % 5 < 4 ∧ k / 5 * 4 + k % 5 < c
    · rw [if_pos h2, if_pos (by omega)]
    · rw [if_neg h2, if_neg (by omega)]
theorem trm_16 : ∀ k, k < 20 → trm z 16 k = trz z k := by
  intro k hk
  unfold trm trz
  by_cases h : k % 5 < 4
  · rw [if_pos h, if_pos (by omega)]
  · rw [if_neg h, if_neg (by omega)]
end A2
end
section
set_option maxRecDepth 100000
abbrev ps0_set (i : Int) (j : Int) (y : Int) (z : Nat → Int) (pr : Int) (w : Nat → Int) (v : Nat → Int) (q : Nat → Int) (u : Nat → Int) : Int → (Nat → Int) → Int → (Nat → Int) → (Nat → Int) → (Nat → Int) → (Nat → Int) → Prop := fun r z1 pr1 w1 v1 q1 u1 => ar_set i j y = r ∧ st_set z i j y = z1
set_option maxHeartbeats 4000000 in
set_option maxRecDepth 100000 in
theorem met0_set (l : Launch) (i : Int) (j : Int) (y : Int) (z : Nat → Int) (pr : Int) (w : Nat → Int) (v : Nat → Int) (q : Nat → Int) (u : Nat → Int) (hi : -2147483648 ≤ i ∧ i < 2147483648) (hj : -2147483648 ≤ j ∧ j < 2147483648) (hy : -2147483648 ≤ y ∧ y < 2147483648) : M0i l yX0_set cX0_set 4 (some .boolean) rm0_set [.int (iI i), .int (iI j), .int (iI y)] z pr w v q u (ps0_set i j y z pr w v q u) := by
  refine M0i.of (by decide) rfl (fun _ => Nat.le_of_ble_eq_true rfl) ?_
  intro p e s m args below meth c D a ca A ls C hr hlocks hA hl hI
  have hx := C.1
  have hb := C.2.1
  have hl : lv_has ls 4 [(0, .ref (a 0)), (1, .int (iI i)), (2, .int (iI j)), (3, .int (iI y))] := hl
  refine lv_iload_n hx hb dX0_set_0 rfl (lv_at hl 1 rfl) ?_
  refine cS_i (As := [.int (iI i)]) C (met0_isRow l i (by omega)) (cw0_isRow C.2.2.2.2 ⟨Nat.le_of_ble_eq_true rfl, Nat.le_of_ble_eq_true rfl⟩) rfl hl.1 rfl (Nat.le_of_ble_eq_true rfl) dX0_set_1 ⟨Nat.le_refl _, Nat.le_refl _⟩ (fun r_1 hp_1 => ?_)
  refine z_if_eq hx hb 23 dX0_set_4 (by decide) (by omega) (fun c_2 => ?_) (fun c_2 => ?_)
  · refine z_iconst hx hb dX0_set_23 ?_
    exact r0_z C hr hlocks hI (by omega) (⟨by unfold ar_set; rw [if_neg (by omega)], by unfold st_set; rw [if_neg (by omega)]⟩) dX0_set_24
  · refine lv_iload_n hx hb dX0_set_7 rfl (lv_at hl 2 rfl) ?_
    refine z_if_lt hx hb 23 dX0_set_8 (by decide) (by omega) (fun c_3 => ?_) (fun c_3 => ?_)
    · refine z_iconst hx hb dX0_set_23 ?_
      exact r0_z C hr hlocks hI (by omega) (⟨by unfold ar_set; rw [if_neg (by omega)], by unfold st_set; rw [if_neg (by omega)]⟩) dX0_set_24
    · refine lv_iload_n hx hb dX0_set_11 rfl (lv_at hl 2 rfl) ?_
      refine z_iconst hx hb dX0_set_12 ?_
      refine z_icmp_gt hx hb 23 dX0_set_13 (by decide) (by omega) (by omega) (fun c_4 => ?_) (fun c_4 => ?_)
      · refine z_iconst hx hb dX0_set_23 ?_
        exact r0_z C hr hlocks hI (by omega) (⟨by unfold ar_set; rw [if_neg (by omega)], by unfold st_set; rw [if_neg (by omega)]⟩) dX0_set_24
      · refine lv_iload_n hx hb dX0_set_16 rfl (lv_at hl 3 rfl) ?_
        refine cS_i (As := [.int (iI y)]) C (met0_isNumber l y (by omega)) (cw0_isNumber C.2.2.2.2 ⟨Nat.le_of_ble_eq_true rfl, Nat.le_of_ble_eq_true rfl⟩) rfl hl.1 rfl (Nat.le_of_ble_eq_true rfl) dX0_set_17 ⟨Nat.le_refl _, Nat.le_refl _⟩ (fun r_5 hp_5 => ?_)
        refine z_if_ne hx hb 25 dX0_set_20 (by decide) (by omega) (fun c_6 => ?_) (fun c_6 => ?_)
        · obtain ⟨n1, rfl⟩ := Int.eq_ofNat_of_zero_le (show 0 ≤ i by omega)
          obtain ⟨n2, rfl⟩ := Int.eq_ofNat_of_zero_le (show 0 ≤ j by omega)
          refine lv_aload_n hx hb dX0_set_25 rfl (lv_at hl 0 rfl) ?_
          refine g0_num C hI dX0_set_26 ?_
          refine lv_iload_n hx hb dX0_set_29 rfl (lv_at hl 1 rfl) ?_
          refine z_iconst hx hb dX0_set_30 ?_
          refine z_imul hx hb dX0_set_31 ?_
          refine lv_iload_n hx hb dX0_set_32 rfl (lv_at hl 2 rfl) ?_
          refine z_iadd hx hb dX0_set_33 ?_
          refine lv_iload_n hx hb dX0_set_34 rfl (lv_at hl 3 rfl) ?_
          refine z_i2b hx hb dX0_set_35 (by omega) ?_
          refine s0_z C hI ((n1 * 5) + n2) (by omega) (by omega) (by omega) dX0_set_36 (fun H locs hI => ?_)
          refine z_iconst hx hb dX0_set_37 ?_
          exact r0_z C hr hlocks hI (by omega) (⟨by unfold ar_set; rw [if_pos (by omega)], by unfold st_set; rw [if_pos (by omega), Int.toNat_natCast, Int.toNat_natCast]⟩) dX0_set_38
        · refine z_iconst hx hb dX0_set_23 ?_
          exact r0_z C hr hlocks hI (by omega) (⟨by unfold ar_set; rw [if_neg (by omega)], by unfold st_set; rw [if_neg (by omega)]⟩) dX0_set_24
abbrev ps0_at (i : Int) (j : Int) (z : Nat → Int) (pr : Int) (w : Nat → Int) (v : Nat → Int) (q : Nat → Int) (u : Nat → Int) : Int → (Nat → Int) → Int → (Nat → Int) → (Nat → Int) → (Nat → Int) → (Nat → Int) → Prop := fun r z1 pr1 w1 v1 q1 u1 => an_at z i j = r ∧ z = z1
set_option maxHeartbeats 4000000 in
set_option maxRecDepth 100000 in
theorem met0_at (l : Launch) (i : Int) (j : Int) (z : Nat → Int) (pr : Int) (w : Nat → Int) (v : Nat → Int) (q : Nat → Int) (u : Nat → Int) (hi : -2147483648 ≤ i ∧ i < 2147483648) (hj : -2147483648 ≤ j ∧ j < 2147483648) : M0i l yX0_at cX0_at 3 (some .int) rm0_at [.int (iI i), .int (iI j)] z pr w v q u (ps0_at i j z pr w v q u) := by
  refine M0i.of (by decide) rfl (fun _ => Nat.le_of_ble_eq_true rfl) ?_
  intro p e s m args below meth c D a ca A ls C hr hlocks hA hl hI
  have hx := C.1
  have hb := C.2.1
  have hl : lv_has ls 3 [(0, .ref (a 0)), (1, .int (iI i)), (2, .int (iI j))] := hl
  refine lv_iload_n hx hb dX0_at_0 rfl (lv_at hl 1 rfl) ?_
  refine cS_i (As := [.int (iI i)]) C (met0_isRow l i (by omega)) (cw0_isRow C.2.2.2.2 ⟨Nat.le_of_ble_eq_true rfl, Nat.le_of_ble_eq_true rfl⟩) rfl hl.1 rfl (Nat.le_of_ble_eq_true rfl) dX0_at_1 ⟨Nat.le_refl _, Nat.le_refl _⟩ (fun r_1 hp_1 => ?_)
  refine z_if_eq hx hb 29 dX0_at_4 (by decide) (by omega) (fun c_2 => ?_) (fun c_2 => ?_)
  · refine z_ldc hx hb (-1000000000) C.2.2.2.1 (C.2.2.2.2 _ q72) (by decide +kernel) dX0_at_29 ?_
    exact r0_i C hr hlocks hI (⟨by unfold an_at; rw [if_neg (by omega)]; rfl, rfl⟩) dX0_at_31
  · refine lv_iload_n hx hb dX0_at_7 rfl (lv_at hl 2 rfl) ?_
    refine z_if_lt hx hb 29 dX0_at_8 (by decide) (by omega) (fun c_3 => ?_) (fun c_3 => ?_)
    · refine z_ldc hx hb (-1000000000) C.2.2.2.1 (C.2.2.2.2 _ q72) (by decide +kernel) dX0_at_29 ?_
      exact r0_i C hr hlocks hI (⟨by unfold an_at; rw [if_neg (by omega)]; rfl, rfl⟩) dX0_at_31
    · refine lv_iload_n hx hb dX0_at_11 rfl (lv_at hl 2 rfl) ?_
      refine z_iconst hx hb dX0_at_12 ?_
      refine z_icmp_gt hx hb 29 dX0_at_13 (by decide) (by omega) (by omega) (fun c_4 => ?_) (fun c_4 => ?_)
      · refine z_ldc hx hb (-1000000000) C.2.2.2.1 (C.2.2.2.2 _ q72) (by decide +kernel) dX0_at_29 ?_
        exact r0_i C hr hlocks hI (⟨by unfold an_at; rw [if_neg (by omega)]; rfl, rfl⟩) dX0_at_31
      · obtain ⟨n1, rfl⟩ := Int.eq_ofNat_of_zero_le (show 0 ≤ i by omega)
        obtain ⟨n2, rfl⟩ := Int.eq_ofNat_of_zero_le (show 0 ≤ j by omega)
        refine lv_aload_n hx hb dX0_at_16 rfl (lv_at hl 0 rfl) ?_
        refine g0_num C hI dX0_at_17 ?_
        refine lv_iload_n hx hb dX0_at_20 rfl (lv_at hl 1 rfl) ?_
        refine z_iconst hx hb dX0_at_21 ?_
        refine z_imul hx hb dX0_at_22 ?_
        refine lv_iload_n hx hb dX0_at_23 rfl (lv_at hl 2 rfl) ?_
        refine z_iadd hx hb dX0_at_24 ?_
        refine l0_z C hI ((n1 * 5) + n2) (by omega) (by omega) dX0_at_25 ?_
        refine lv_goto (tgt := 31) hx hb dX0_at_26 (by decide) ?_
        exact r0_i C hr hlocks hI (⟨by unfold an_at; rw [if_pos (by omega), Int.toNat_natCast, Int.toNat_natCast], rfl⟩) dX0_at_31
abbrev ps0_swapRows (i : Int) (k : Int) (z : Nat → Int) (pr : Int) (w : Nat → Int) (v : Nat → Int) (q : Nat → Int) (u : Nat → Int) : Int → (Nat → Int) → Int → (Nat → Int) → (Nat → Int) → (Nat → Int) → (Nat → Int) → Prop := fun r z1 pr1 w1 v1 q1 u1 => ar_swap i k = r ∧ st_swap z i k = z1
set_option maxHeartbeats 4000000 in
set_option maxRecDepth 100000 in
theorem met0_swapRows (l : Launch) (i : Int) (k : Int) (z : Nat → Int) (pr : Int) (w : Nat → Int) (v : Nat → Int) (q : Nat → Int) (u : Nat → Int) (hi : -2147483648 ≤ i ∧ i < 2147483648) (hk : -2147483648 ≤ k ∧ k < 2147483648) (hz : ∀ k, k < 20 → -50 ≤ z k ∧ z k ≤ 50) : M0i l yX0_swapRows cX0_swapRows 5 (some .boolean) rm0_swapRows [.int (iI i), .int (iI k)] z pr w v q u (ps0_swapRows i k z pr w v q u) := by
  refine M0i.of (by decide) rfl (fun _ => Nat.le_of_ble_eq_true rfl) ?_
  intro p e s m args below meth c D a ca A ls C hr hlocks hA hl hI
  have hx := C.1
  have hb := C.2.1
  have hl : lv_has ls 5 [(0, .ref (a 0)), (1, .int (iI i)), (2, .int (iI k))] := hl
  refine lv_iload_n hx hb dX0_swapRows_0 rfl (lv_at hl 1 rfl) ?_
  refine cS_i (As := [.int (iI i)]) C (met0_isRow l i (by omega)) (cw0_isRow C.2.2.2.2 ⟨Nat.le_of_ble_eq_true rfl, Nat.le_of_ble_eq_true rfl⟩) rfl hl.1 rfl (Nat.le_of_ble_eq_true rfl) dX0_swapRows_1 ⟨Nat.le_refl _, Nat.le_refl _⟩ (fun r_1 hp_1 => ?_)
  refine z_if_eq hx hb 14 dX0_swapRows_4 (by decide) (by omega) (fun c_2 => ?_) (fun c_2 => ?_)
  · refine z_iconst hx hb dX0_swapRows_14 ?_
    exact r0_z C hr hlocks hI (by omega) (⟨by unfold ar_swap; rw [if_neg (by omega)], by unfold st_swap; rw [if_neg (by omega)]⟩) dX0_swapRows_15
  · refine lv_iload_n hx hb dX0_swapRows_7 rfl (lv_at hl 2 rfl) ?_
    refine cS_i (As := [.int (iI k)]) C (met0_isRow l k (by omega)) (cw0_isRow C.2.2.2.2 ⟨Nat.le_of_ble_eq_true rfl, Nat.le_of_ble_eq_true rfl⟩) rfl hl.1 rfl (Nat.le_of_ble_eq_true rfl) dX0_swapRows_8 ⟨Nat.le_refl _, Nat.le_refl _⟩ (fun r_3 hp_3 => ?_)
    refine z_if_ne hx hb 16 dX0_swapRows_11 (by decide) (by omega) (fun c_4 => ?_) (fun c_4 => ?_)
    · obtain ⟨n1, rfl⟩ := Int.eq_ofNat_of_zero_le (show 0 ≤ i by omega)
      obtain ⟨n2, rfl⟩ := Int.eq_ofNat_of_zero_le (show 0 ≤ k by omega)
      refine z_iconst hx hb dX0_swapRows_16 ?_
      refine lv_istore_n (lv' := [(3, .int (iI 0)), (0, .ref (a 0)), (1, .int (iI (n1 : Int))), (2, .int (iI (n2 : Int)))]) hx hb dX0_swapRows_17 rfl hl (by decide) rfl (fun ls hl => ?_)
      have lp_18 : ∀ (n_18 : Nat) (j : Nat), (hf_18 : 4 < j + n_18) → (hj : j ≤ 4) → ∀ (H : Heap) (locs : List Loc), I0 D A s a ca (exch z n1 n2 j) pr w v q u H locs → ∀ (ls : Array Slot), lv_has ls 5 [(0, .ref (a 0)), (1, .int (iI (n1 : Int))), (2, .int (iI (n2 : Int))), (3, .int (iI (j : Int)))] → W p l e rm0_swapRows s m args below meth c H locs 0 0 (E0i D a ca A (ps0_swapRows n1 n2 z pr w v q u) below args s) (F0 m 18 ls []) := by
        intro n_18
        induction n_18 with
        | zero =>
          intro j hf_18 hj H locs hI ls hl
          exfalso; omega
        | succ n_18 ih_18 =>
          intro j hf_18 hj H locs hI ls hl
          have hz2 := exch_50 (z := z) (i := n1) (k := n2) (n := j) (by omega) hz
          refine lv_iload_n hx hb dX0_swapRows_18 rfl (lv_at hl 3 rfl) ?_
          refine z_iconst hx hb dX0_swapRows_19 ?_
          refine z_icmp_ge hx hb 73 dX0_swapRows_20 (by decide) (by omega) (by omega) (fun c_5 => ?_) (fun c_5 => ?_)
          · refine z_iconst hx hb dX0_swapRows_73 ?_
            have hj4 : j = 4 := by omega
            rw [hj4] at hI
            exact r0_z C hr hlocks hI (by omega) (⟨by unfold ar_swap; rw [if_pos (by omega)], by unfold st_swap; rw [if_pos (by omega), Int.toNat_natCast, Int.toNat_natCast]⟩) dX0_swapRows_74
          · refine lv_aload_n hx hb dX0_swapRows_23 rfl (lv_at hl 0 rfl) ?_
            refine g0_num C hI dX0_swapRows_24 ?_
            refine lv_iload_n hx hb dX0_swapRows_27 rfl (lv_at hl 1 rfl) ?_
            refine z_iconst hx hb dX0_swapRows_28 ?_
            refine z_imul hx hb dX0_swapRows_29 ?_
            refine lv_iload_n hx hb dX0_swapRows_30 rfl (lv_at hl 3 rfl) ?_
            refine z_iadd hx hb dX0_swapRows_31 ?_
            refine l0_z C hI ((n1 * 5) + j) (by omega) (by omega) dX0_swapRows_32 ?_
            refine lv_istore (lv' := [(4, .int (iI ((exch z n1 n2 j) ((n1 * 5) + j)))), (0, .ref (a 0)), (1, .int (iI (n1 : Int))), (2, .int (iI (n2 : Int))), (3, .int (iI (j : Int)))]) hx hb dX0_swapRows_33 hl (by decide) rfl (fun ls hl => ?_)
            refine lv_aload_n hx hb dX0_swapRows_35 rfl (lv_at hl 1 rfl) ?_
            refine g0_num C hI dX0_swapRows_36 ?_
            refine lv_iload_n hx hb dX0_swapRows_39 rfl (lv_at hl 2 rfl) ?_
            refine z_iconst hx hb dX0_swapRows_40 ?_
            refine z_imul hx hb dX0_swapRows_41 ?_
            refine lv_iload_n hx hb dX0_swapRows_42 rfl (lv_at hl 4 rfl) ?_
            refine z_iadd hx hb dX0_swapRows_43 ?_
            refine lv_aload_n hx hb dX0_swapRows_44 rfl (lv_at hl 1 rfl) ?_
            refine g0_num C hI dX0_swapRows_45 ?_
            refine lv_iload_n hx hb dX0_swapRows_48 rfl (lv_at hl 3 rfl) ?_
            refine z_iconst hx hb dX0_swapRows_49 ?_
            refine z_imul hx hb dX0_swapRows_50 ?_
            refine lv_iload_n hx hb dX0_swapRows_51 rfl (lv_at hl 4 rfl) ?_
            refine z_iadd hx hb dX0_swapRows_52 ?_
            refine l0_z C hI ((n2 * 5) + j) (by omega) (by omega) dX0_swapRows_53 ?_
            refine s0_z C hI ((n1 * 5) + j) (by omega) (by omega) (by have := hz2 (n2 * 5 + j) (by omega); omega) dX0_swapRows_54 (fun H locs hI => ?_)
            refine lv_aload_n hx hb dX0_swapRows_55 rfl (lv_at hl 1 rfl) ?_
            refine g0_num C hI dX0_swapRows_56 ?_
            refine lv_iload_n hx hb dX0_swapRows_59 rfl (lv_at hl 3 rfl) ?_
            refine z_iconst hx hb dX0_swapRows_60 ?_
            refine z_imul hx hb dX0_swapRows_61 ?_
            refine lv_iload_n hx hb dX0_swapRows_62 rfl (lv_at hl 4 rfl) ?_
            refine z_iadd hx hb dX0_swapRows_63 ?_
            refine lv_iload hx hb dX0_swapRows_64 (lv_at hl 0 rfl) ?_
            refine s0_z C hI ((n2 * 5) + j) (by omega) (by omega) (by have := hz2 (n1 * 5 + j) (by omega); omega) dX0_swapRows_66 (fun H locs hI => ?_)
            refine lv_iinc (v := iI ((j + 1 : Nat) : Int)) (lv' := [(3, .int (iI ((j + 1 : Nat) : Int))), (4, .int (iI ((exch z n1 n2 j) ((n1 * 5) + j)))), (0, .ref (a 0)), (1, .int (iI (n1 : Int))), (2, .int (iI (n2 : Int)))]) hx hb dX0_swapRows_67 hl (k := 4) rfl (iI_inc1 _) (by decide) rfl (fun ls hl => ?_)
            refine lv_goto (tgt := 18) hx hb dX0_swapRows_70 (by decide) ?_
            rw [exch_s (by omega)] at hI
            exact ih_18 (j + 1) (by omega) (by omega) _ _ hI ls (lv_sub hl [2, 3, 4, 0] rfl)
      exact lp_18 5 0 (by omega) (by omega) _ _ (by rw [exch_0]; exact hI) ls (lv_sub hl [1, 2, 3, 0] rfl)
    · refine z_iconst hx hb dX0_swapRows_14 ?_
      exact r0_z C hr hlocks hI (by omega) (⟨by unfold ar_swap; rw [if_neg (by omega)], by unfold st_swap; rw [if_neg (by omega)]⟩) dX0_swapRows_15
abbrev ps0_addRow (i : Int) (k : Int) (f : Int) (z : Nat → Int) (pr : Int) (w : Nat → Int) (v : Nat → Int) (q : Nat → Int) (u : Nat → Int) : Int → (Nat → Int) → Int → (Nat → Int) → (Nat → Int) → (Nat → Int) → (Nat → Int) → Prop := fun r z1 pr1 w1 v1 q1 u1 => rl_add z i k f r z1 ∧ True
set_option maxHeartbeats 4000000 in
set_option maxRecDepth 100000 in
theorem met0_addRow (l : Launch) (i : Int) (k : Int) (f : Int) (z : Nat → Int) (pr : Int) (w : Nat → Int) (v : Nat → Int) (q : Nat → Int) (u : Nat → Int) (hi : -2147483648 ≤ i ∧ i < 2147483648) (hk : -2147483648 ≤ k ∧ k < 2147483648) (hf : -2147483648 ≤ f ∧ f < 2147483648) (hz : ∀ k, k < 20 → -50 ≤ z k ∧ z k ≤ 50) : M0i l yX0_addRow cX0_addRow 6 (some .boolean) rm0_addRow [.int (iI i), .int (iI k), .int (iI f)] z pr w v q u (ps0_addRow i k f z pr w v q u) := by
  refine M0i.of (by decide) rfl (fun _ => Nat.le_of_ble_eq_true rfl) ?_
  intro p e s m args below meth c D a ca A ls C hr hlocks hA hl hI
  have hx := C.1
  have hb := C.2.1
  have hl : lv_has ls 6 [(0, .ref (a 0)), (1, .int (iI i)), (2, .int (iI k)), (3, .int (iI f))] := hl
  refine lv_iload_n hx hb dX0_addRow_0 rfl (lv_at hl 1 rfl) ?_
  refine cS_i (As := [.int (iI i)]) C (met0_isRow l i (by omega)) (cw0_isRow C.2.2.2.2 ⟨Nat.le_of_ble_eq_true rfl, Nat.le_of_ble_eq_true rfl⟩) rfl hl.1 rfl (Nat.le_of_ble_eq_true rfl) dX0_addRow_1 ⟨Nat.le_refl _, Nat.le_refl _⟩ (fun r_1 hp_1 => ?_)
  refine z_if_eq hx hb 31 dX0_addRow_4 (by decide) (by omega) (fun c_2 => ?_) (fun c_2 => ?_)
  · refine z_iconst hx hb dX0_addRow_31 ?_
    exact r0_z C hr hlocks hI (by omega) (⟨Or.inr ⟨fun h => by unfold okadd at h; omega, rfl, rfl⟩, trivial⟩) dX0_addRow_32
  · refine lv_iload_n hx hb dX0_addRow_7 rfl (lv_at hl 2 rfl) ?_
    refine cS_i (As := [.int (iI k)]) C (met0_isRow l k (by omega)) (cw0_isRow C.2.2.2.2 ⟨Nat.le_of_ble_eq_true rfl, Nat.le_of_ble_eq_true rfl⟩) rfl hl.1 rfl (Nat.le_of_ble_eq_true rfl) dX0_addRow_8 ⟨Nat.le_refl _, Nat.le_refl _⟩ (fun r_3 hp_3 => ?_)
    refine z_if_eq hx hb 31 dX0_addRow_11 (by decide) (by omega) (fun c_4 => ?_) (fun c_4 => ?_)
    · refine z_iconst hx hb dX0_addRow_31 ?_
      exact r0_z C hr hlocks hI (by omega) (⟨Or.inr ⟨fun h => by unfold okadd at h; omega, rfl, rfl⟩, trivial⟩) dX0_addRow_32
    · refine lv_iload_n hx hb dX0_addRow_14 rfl (lv_at hl 1 rfl) ?_
      refine lv_iload_n hx hb dX0_addRow_15 rfl (lv_at hl 2 rfl) ?_
      refine z_icmp_eq hx hb 31 dX0_addRow_16 (by decide) (by omega) (by omega) (fun c_5 => ?_) (fun c_5 => ?_)
      · refine z_iconst hx hb dX0_addRow_31 ?_
        exact r0_z C hr hlocks hI (by omega) (⟨Or.inr ⟨fun h => by unfold okadd at h; omega, rfl, rfl⟩, trivial⟩) dX0_addRow_32
      · refine lv_iload_n hx hb dX0_addRow_19 rfl (lv_at hl 3 rfl) ?_
        refine z_bipush hx hb dX0_addRow_20 (by decide +kernel) ?_
        refine z_icmp_lt hx hb 31 dX0_addRow_22 (by decide) (by omega) (by omega) (fun c_6 => ?_) (fun c_6 => ?_)
        · refine z_iconst hx hb dX0_addRow_31 ?_
          exact r0_z C hr hlocks hI (by omega) (⟨Or.inr ⟨fun h => by unfold okadd at h; omega, rfl, rfl⟩, trivial⟩) dX0_addRow_32
        · refine lv_iload_n hx hb dX0_addRow_25 rfl (lv_at hl 3 rfl) ?_
          refine z_bipush hx hb dX0_addRow_26 (by decide +kernel) ?_
          refine z_icmp_le hx hb 33 dX0_addRow_28 (by decide) (by omega) (by omega) (fun c_7 => ?_) (fun c_7 => ?_)
          · obtain ⟨n1, rfl⟩ := Int.eq_ofNat_of_zero_le (show 0 ≤ i by omega)
            obtain ⟨n2, rfl⟩ := Int.eq_ofNat_of_zero_le (show 0 ≤ k by omega)
            refine z_iconst hx hb dX0_addRow_33 ?_
            refine lv_istore (lv' := [(4, .int (iI 0)), (0, .ref (a 0)), (1, .int (iI (n1 : Int))), (2, .int (iI (n2 : Int))), (3, .int (iI f))]) hx hb dX0_addRow_34 hl (by decide) rfl (fun ls hl => ?_)
            have lp_36 : ∀ (n_36 : Nat) (j : Nat), (hf_36 : 4 < j + n_36) → (hj : j ≤ 4) → (hft : fitz z n1 n2 f j) → ∀ (H : Heap) (locs : List Loc), I0 D A s a ca z pr w v q u H locs → ∀ (ls : Array Slot), lv_has ls 6 [(0, .ref (a 0)), (1, .int (iI (n1 : Int))), (2, .int (iI (n2 : Int))), (3, .int (iI f)), (4, .int (iI (j : Int)))] → W p l e rm0_addRow s m args below meth c H locs 0 0 (E0i D a ca A (ps0_addRow n1 n2 f z pr w v q u) below args s) (F0 m 36 ls []) := by
              intro n_36
              induction n_36 with
              | zero =>
                intro j hf_36 hj hft H locs hI ls hl
                exfalso; omega
              | succ n_36 ih_36 =>
                intro j hf_36 hj hft H locs hI ls hl
                refine lv_iload hx hb dX0_addRow_36 (lv_at hl 4 rfl) ?_
                refine z_iconst hx hb dX0_addRow_38 ?_
                refine z_icmp_ge hx hb 85 dX0_addRow_39 (by decide) (by omega) (by omega) (fun c_8 => ?_) (fun c_8 => ?_)
                · have hj4 : j = 4 := by omega
                  rw [hj4] at hft
                  clear hj4 hj hf_36
                  refine z_iconst hx hb dX0_addRow_85 ?_
                  refine lv_istore (lv' := [(4, .int (iI 0)), (0, .ref (a 0)), (1, .int (iI (n1 : Int))), (2, .int (iI (n2 : Int))), (3, .int (iI f))]) hx hb dX0_addRow_86 hl (by decide) rfl (fun ls hl => ?_)
                  have lp_88 : ∀ (n_88 : Nat) (j : Nat), (hf_88 : 4 < j + n_88) → (hj : j ≤ 4) → ∀ (H : Heap) (locs : List Loc), I0 D A s a ca (addz z n1 n2 f j) pr w v q u H locs → ∀ (ls : Array Slot), lv_has ls 6 [(0, .ref (a 0)), (1, .int (iI (n1 : Int))), (2, .int (iI (n2 : Int))), (3, .int (iI f)), (4, .int (iI (j : Int)))] → W p l e rm0_addRow s m args below meth c H locs 0 0 (E0i D a ca A (ps0_addRow n1 n2 f z pr w v q u) below args s) (F0 m 88 ls []) := by
                    intro n_88
                    induction n_88 with
                    | zero =>
                      intro j hf_88 hj H locs hI ls hl
                      exfalso; omega
                    | succ n_88 ih_88 =>
                      intro j hf_88 hj H locs hI ls hl
                      refine lv_iload hx hb dX0_addRow_88 (lv_at hl 4 rfl) ?_
                      refine z_iconst hx hb dX0_addRow_90 ?_
                      refine z_icmp_ge hx hb 137 dX0_addRow_91 (by decide) (by omega) (by omega) (fun c_9 => ?_) (fun c_9 => ?_)
                      · refine z_iconst hx hb dX0_addRow_137 ?_
                        have hj4 : j = 4 := by omega
                        rw [hj4] at hI
                        exact r0_z C hr hlocks hI (by omega) (⟨Or.inl ⟨⟨by omega, by omega, by omega, by omega, by omega, by omega, by omega, by rw [Int.toNat_natCast, Int.toNat_natCast]; exact hft⟩, rfl, by rw [Int.toNat_natCast, Int.toNat_natCast]⟩, trivial⟩) dX0_addRow_138
                      · refine lv_aload_n hx hb dX0_addRow_94 rfl (lv_at hl 0 rfl) ?_
                        refine g0_num C hI dX0_addRow_95 ?_
                        refine lv_iload_n hx hb dX0_addRow_98 rfl (lv_at hl 1 rfl) ?_
                        refine z_iconst hx hb dX0_addRow_99 ?_
                        refine z_imul hx hb dX0_addRow_100 ?_
                        refine lv_iload hx hb dX0_addRow_101 (lv_at hl 4 rfl) ?_
                        refine z_iadd hx hb dX0_addRow_103 ?_
                        refine lv_aload_n hx hb dX0_addRow_104 rfl (lv_at hl 0 rfl) ?_
                        refine g0_num C hI dX0_addRow_105 ?_
                        refine lv_iload_n hx hb dX0_addRow_108 rfl (lv_at hl 1 rfl) ?_
                        refine z_iconst hx hb dX0_addRow_109 ?_
                        refine z_imul hx hb dX0_addRow_110 ?_
                        refine lv_iload hx hb dX0_addRow_111 (lv_at hl 4 rfl) ?_
                        refine z_iadd hx hb dX0_addRow_113 ?_
                        refine l0_z C hI ((n1 * 5) + j) (by omega) (by omega) dX0_addRow_114 ?_
                        rw [addz_i (by omega)]
                        refine lv_iload_n hx hb dX0_addRow_115 rfl (lv_at hl 3 rfl) ?_
                        refine lv_aload_n hx hb dX0_addRow_116 rfl (lv_at hl 0 rfl) ?_
                        refine g0_num C hI dX0_addRow_117 ?_
                        refine lv_iload_n hx hb dX0_addRow_120 rfl (lv_at hl 2 rfl) ?_
                        refine z_iconst hx hb dX0_addRow_121 ?_
                        refine z_imul hx hb dX0_addRow_122 ?_
                        refine lv_iload hx hb dX0_addRow_123 (lv_at hl 4 rfl) ?_
                        refine z_iadd hx hb dX0_addRow_125 ?_
                        refine l0_z C hI ((n2 * 5) + j) (by omega) (by omega) dX0_addRow_126 ?_
                        rw [addz_k (by omega) (by omega)]
                        have hab := hft j (by omega)
                        refine z_imul hx hb dX0_addRow_127 ?_
                        refine z_iadd hx hb dX0_addRow_128 ?_
                        refine z_i2b hx hb dX0_addRow_129 (by omega) ?_
                        refine s0_z C hI ((n1 * 5) + j) (by omega) (by omega) (by omega) dX0_addRow_130 (fun H locs hI => ?_)
                        refine lv_iinc (v := iI ((j + 1 : Nat) : Int)) (lv' := [(4, .int (iI ((j + 1 : Nat) : Int))), (0, .ref (a 0)), (1, .int (iI (n1 : Int))), (2, .int (iI (n2 : Int))), (3, .int (iI f))]) hx hb dX0_addRow_131 hl (k := 4) rfl (iI_inc1 _) (by decide) rfl (fun ls hl => ?_)
                        refine lv_goto (tgt := 88) hx hb dX0_addRow_134 (by decide) ?_
                        rw [addz_s (by omega)] at hI
                        exact ih_88 (j + 1) (by omega) (by omega) _ _ hI ls (lv_sub hl [1, 2, 3, 4, 0] rfl)
                  exact lp_88 5 0 (by omega) (by omega) _ _ (by rw [addz_0]; exact hI) ls (lv_sub hl [1, 2, 3, 4, 0] rfl)
                · have hab := add_bd (i := n1 * 5 + j) (k := n2 * 5 + j) (f := f) hz (by omega) (by omega) (by omega)
                  refine lv_aload_n hx hb dX0_addRow_42 rfl (lv_at hl 0 rfl) ?_
                  refine g0_num C hI dX0_addRow_43 ?_
                  refine lv_iload_n hx hb dX0_addRow_46 rfl (lv_at hl 1 rfl) ?_
                  refine z_iconst hx hb dX0_addRow_47 ?_
                  refine z_imul hx hb dX0_addRow_48 ?_
                  refine lv_iload hx hb dX0_addRow_49 (lv_at hl 4 rfl) ?_
                  refine z_iadd hx hb dX0_addRow_51 ?_
                  refine l0_z C hI ((n1 * 5) + j) (by omega) (by omega) dX0_addRow_52 ?_
                  refine lv_iload_n hx hb dX0_addRow_53 rfl (lv_at hl 3 rfl) ?_
                  refine lv_aload_n hx hb dX0_addRow_54 rfl (lv_at hl 0 rfl) ?_
                  refine g0_num C hI dX0_addRow_55 ?_
                  refine lv_iload_n hx hb dX0_addRow_58 rfl (lv_at hl 2 rfl) ?_
                  refine z_iconst hx hb dX0_addRow_59 ?_
                  refine z_imul hx hb dX0_addRow_60 ?_
                  refine lv_iload hx hb dX0_addRow_61 (lv_at hl 4 rfl) ?_
                  refine z_iadd hx hb dX0_addRow_63 ?_
                  refine l0_z C hI ((n2 * 5) + j) (by omega) (by omega) dX0_addRow_64 ?_
                  refine z_imul hx hb dX0_addRow_65 ?_
                  refine z_iadd hx hb dX0_addRow_66 ?_
                  refine lv_istore (lv' := [(5, .int (iI ((z ((n1 * 5) + j)) + (f * (z ((n2 * 5) + j)))))), (0, .ref (a 0)), (1, .int (iI (n1 : Int))), (2, .int (iI (n2 : Int))), (3, .int (iI f)), (4, .int (iI (j : Int)))]) hx hb dX0_addRow_67 hl (by decide) rfl (fun ls hl => ?_)
                  refine lv_iload hx hb dX0_addRow_69 (lv_at hl 0 rfl) ?_
                  refine cS_i (As := [.int (iI ((z ((n1 * 5) + j)) + (f * (z ((n2 * 5) + j)))))]) C (met0_isNumber l ((z ((n1 * 5) + j)) + (f * (z ((n2 * 5) + j)))) (by omega)) (cw0_isNumber C.2.2.2.2 ⟨Nat.le_of_ble_eq_true rfl, Nat.le_of_ble_eq_true rfl⟩) rfl hl.1 rfl (Nat.le_of_ble_eq_true rfl) dX0_addRow_71 ⟨Nat.le_refl _, Nat.le_refl _⟩ (fun r_10 hp_10 => ?_)
                  refine z_if_ne hx hb 79 dX0_addRow_74 (by decide) (by omega) (fun c_11 => ?_) (fun c_11 => ?_)
                  · refine lv_iinc (v := iI ((j + 1 : Nat) : Int)) (lv' := [(4, .int (iI ((j + 1 : Nat) : Int))), (5, .int (iI ((z ((n1 * 5) + j)) + (f * (z ((n2 * 5) + j)))))), (0, .ref (a 0)), (1, .int (iI (n1 : Int))), (2, .int (iI (n2 : Int))), (3, .int (iI f))]) hx hb dX0_addRow_79 hl (k := 5) rfl (iI_inc1 _) (by decide) rfl (fun ls hl => ?_)
                    refine lv_goto (tgt := 36) hx hb dX0_addRow_82 (by decide) ?_
                    exact ih_36 (j + 1) (by omega) (by omega) (lt_s hft (by omega)) _ _ hI ls (lv_sub hl [2, 3, 4, 5, 0] rfl)
                  · refine z_iconst hx hb dX0_addRow_77 ?_
                    exact r0_z C hr hlocks hI (by omega) (⟨Or.inr ⟨fun h => by have := h.2.2.2.2.2.2.2 j (by omega); rw [Int.toNat_natCast, Int.toNat_natCast] at this; omega, rfl, rfl⟩, trivial⟩) dX0_addRow_78
            exact lp_36 5 0 (by omega) (by omega) (fun j hj => absurd hj (Nat.not_lt_zero j)) _ _ hI ls (lv_sub hl [1, 2, 3, 4, 0] rfl)
          · refine z_iconst hx hb dX0_addRow_31 ?_
            exact r0_z C hr hlocks hI (by omega) (⟨Or.inr ⟨fun h => by unfold okadd at h; omega, rfl, rfl⟩, trivial⟩) dX0_addRow_32
abbrev ps0_transpose  (z : Nat → Int) (pr : Int) (w : Nat → Int) (v : Nat → Int) (q : Nat → Int) (u : Nat → Int) : (Nat → Int) → Int → (Nat → Int) → (Nat → Int) → (Nat → Int) → (Nat → Int) → Prop := fun z1 pr1 w1 v1 q1 u1 => trz z = z1 ∧ True
set_option maxHeartbeats 4000000 in
set_option maxRecDepth 100000 in
theorem met0_transpose (l : Launch) (z : Nat → Int) (pr : Int) (w : Nat → Int) (v : Nat → Int) (q : Nat → Int) (u : Nat → Int) (hz : ∀ k, k < 20 → -50 ≤ z k ∧ z k ≤ 50) : M0v l yX0_transpose cX0_transpose 4 none rm0_transpose [] z pr w v q u (ps0_transpose z pr w v q u) := by
  refine M0v.of (by decide) rfl (fun _ => Nat.le_of_ble_eq_true rfl) ?_
  intro p e s m args below meth c D a ca A ls C hr hlocks hA hl hI
  have hx := C.1
  have hb := C.2.1
  have hl : lv_has ls 4 [(0, .ref (a 0))] := hl
  refine z_iconst hx hb dX0_transpose_0 ?_
  refine lv_istore_n (lv' := [(1, .int (iI 0)), (0, .ref (a 0))]) hx hb dX0_transpose_1 rfl hl (by decide) rfl (fun ls hl => ?_)
  have lp_2 : ∀ (n_2 : Nat) (i : Nat), (hf_2 : 4 < i + n_2) → (hi : i ≤ 4) → ∀ (H : Heap) (locs : List Loc), I0 D A s a ca (trs z i 0) pr w v q u H locs → ∀ (ls : Array Slot), lv_has ls 4 [(0, .ref (a 0)), (1, .int (iI (i : Int)))] → W p l e rm0_transpose s m args below meth c H locs 0 0 (E0v D a ca A (ps0_transpose z pr w v q u) below args s) (F0 m 2 ls []) := by
    intro n_2
    induction n_2 with
    | zero =>
      intro i hf_2 hi H locs hI ls hl
      exfalso; omega
    | succ n_2 ih_2 =>
      intro i hf_2 hi H locs hI ls hl
      refine lv_iload_n hx hb dX0_transpose_2 rfl (lv_at hl 1 rfl) ?_
      refine z_iconst hx hb dX0_transpose_3 ?_
      refine z_icmp_ge hx hb 68 dX0_transpose_4 (by decide) (by omega) (by omega) (fun c_1 => ?_) (fun c_1 => ?_)
      · have hi4 : i = 4 := by omega
        rw [hi4] at hI
        have hI := hI.cz (trz z) trs_4
        exact r0_v C hr hlocks hI (⟨rfl, trivial⟩) dX0_transpose_68
      · refine z_iconst hx hb dX0_transpose_7 ?_
        refine lv_istore_n (lv' := [(2, .int (iI 0)), (0, .ref (a 0)), (1, .int (iI (i : Int)))]) hx hb dX0_transpose_8 rfl hl (by decide) rfl (fun ls hl => ?_)
        have lp_9 : ∀ (n_9 : Nat) (j : Nat), (hf_9 : i < j + n_9) → (hj : j ≤ i) → ∀ (H : Heap) (locs : List Loc), I0 D A s a ca (trs z i j) pr w v q u H locs → ∀ (ls : Array Slot), lv_has ls 4 [(0, .ref (a 0)), (1, .int (iI (i : Int))), (2, .int (iI (j : Int)))] → W p l e rm0_transpose s m args below meth c H locs 0 0 (E0v D a ca A (ps0_transpose z pr w v q u) below args s) (F0 m 9 ls []) := by
          intro n_9
          induction n_9 with
          | zero =>
            intro j hf_9 hj H locs hI ls hl
            exfalso; omega
          | succ n_9 ih_9 =>
            intro j hf_9 hj H locs hI ls hl
            have hz2 := trs_50 (z := z) (i := i) (j := j) (by omega) (by omega) (by omega) hz
            refine lv_iload_n hx hb dX0_transpose_9 rfl (lv_at hl 2 rfl) ?_
            refine lv_iload_n hx hb dX0_transpose_10 rfl (lv_at hl 1 rfl) ?_
            refine z_icmp_ge hx hb 62 dX0_transpose_11 (by decide) (by omega) (by omega) (fun c_2 => ?_) (fun c_2 => ?_)
            · refine lv_iinc (v := iI ((i + 1 : Nat) : Int)) (lv' := [(1, .int (iI ((i + 1 : Nat) : Int))), (0, .ref (a 0)), (2, .int (iI (j : Int)))]) hx hb dX0_transpose_62 hl (k := 1) rfl (iI_inc1 _) (by decide) rfl (fun ls hl => ?_)
              refine lv_goto (tgt := 2) hx hb dX0_transpose_65 (by decide) ?_
              have hji : j = i := by omega
              rw [hji, trs_e] at hI
              exact ih_2 (i + 1) (by omega) (by omega) _ _ hI ls (lv_sub hl [1, 0] rfl)
            · refine lv_aload_n hx hb dX0_transpose_14 rfl (lv_at hl 0 rfl) ?_
              refine g0_num C hI dX0_transpose_15 ?_
              refine lv_iload_n hx hb dX0_transpose_18 rfl (lv_at hl 1 rfl) ?_
              refine z_iconst hx hb dX0_transpose_19 ?_
              refine z_imul hx hb dX0_transpose_20 ?_
              refine lv_iload_n hx hb dX0_transpose_21 rfl (lv_at hl 2 rfl) ?_
              refine z_iadd hx hb dX0_transpose_22 ?_
              refine l0_z C hI ((i * 5) + j) (by omega) (by omega) dX0_transpose_23 ?_
              refine lv_istore_n (lv' := [(3, .int (iI ((trs z i j) ((i * 5) + j)))), (0, .ref (a 0)), (1, .int (iI (i : Int))), (2, .int (iI (j : Int)))]) hx hb dX0_transpose_24 rfl hl (by decide) rfl (fun ls hl => ?_)
              refine lv_aload_n hx hb dX0_transpose_25 rfl (lv_at hl 1 rfl) ?_
              refine g0_num C hI dX0_transpose_26 ?_
              refine lv_iload_n hx hb dX0_transpose_29 rfl (lv_at hl 2 rfl) ?_
              refine z_iconst hx hb dX0_transpose_30 ?_
              refine z_imul hx hb dX0_transpose_31 ?_
              refine lv_iload_n hx hb dX0_transpose_32 rfl (lv_at hl 3 rfl) ?_
              refine z_iadd hx hb dX0_transpose_33 ?_
              refine lv_aload_n hx hb dX0_transpose_34 rfl (lv_at hl 1 rfl) ?_
              refine g0_num C hI dX0_transpose_35 ?_
              refine lv_iload_n hx hb dX0_transpose_38 rfl (lv_at hl 3 rfl) ?_
              refine z_iconst hx hb dX0_transpose_39 ?_
              refine z_imul hx hb dX0_transpose_40 ?_
              refine lv_iload_n hx hb dX0_transpose_41 rfl (lv_at hl 2 rfl) ?_
              refine z_iadd hx hb dX0_transpose_42 ?_
              refine l0_z C hI ((j * 5) + i) (by omega) (by omega) dX0_transpose_43 ?_
              refine s0_z C hI ((i * 5) + j) (by omega) (by omega) (by have := hz2 (j * 5 + i) (by omega); omega) dX0_transpose_44 (fun H locs hI => ?_)
              refine lv_aload_n hx hb dX0_transpose_45 rfl (lv_at hl 1 rfl) ?_
              refine g0_num C hI dX0_transpose_46 ?_
              refine lv_iload_n hx hb dX0_transpose_49 rfl (lv_at hl 3 rfl) ?_
              refine z_iconst hx hb dX0_transpose_50 ?_
              refine z_imul hx hb dX0_transpose_51 ?_
              refine lv_iload_n hx hb dX0_transpose_52 rfl (lv_at hl 2 rfl) ?_
              refine z_iadd hx hb dX0_transpose_53 ?_
              refine lv_iload_n hx hb dX0_transpose_54 rfl (lv_at hl 0 rfl) ?_
              refine s0_z C hI ((j * 5) + i) (by omega) (by omega) (by have := hz2 (i * 5 + j) (by omega); omega) dX0_transpose_55 (fun H locs hI => ?_)
              refine lv_iinc (v := iI ((j + 1 : Nat) : Int)) (lv' := [(2, .int (iI ((j + 1 : Nat) : Int))), (3, .int (iI ((trs z i j) ((i * 5) + j)))), (0, .ref (a 0)), (1, .int (iI (i : Int)))]) hx hb dX0_transpose_56 hl (k := 3) rfl (iI_inc1 _) (by decide) rfl (fun ls hl => ?_)
              refine lv_goto (tgt := 9) hx hb dX0_transpose_59 (by decide) ?_
              rw [trs_s (by omega) (by omega)] at hI
              exact ih_9 (j + 1) (by omega) (by omega) _ _ hI ls (lv_sub hl [2, 3, 0] rfl)
        exact lp_9 (i + 1) 0 (by omega) (by omega) _ _ hI ls (lv_sub hl [1, 2, 0] rfl)
  exact lp_2 5 0 (by omega) (by omega) _ _ (by rw [trs_0]; exact hI) ls (lv_sub hl [1, 0] rfl)
end
section
set_option maxRecDepth 100000
/-! bits of small sets -/
def bd (x y : Nat) : Nat := x - (x &&& y)
theorem bd_le (x y : Nat) : bd x y ≤ x := Nat.sub_le _ _
theorem p2_lt {j : Nat} (h : j < 5) : 2 ^ j < 32 := Nat.pow_lt_pow_right (by decide) h
theorem iI_shl : ∀ j, j < 5 → iI 1 <<< (iI ((j : Nat) : Int) &&& 31) = iI ((2 ^ j : Nat) : Int) := by decide +kernel
theorem iI_not : ∀ n, n < 32 → iI ((n : Nat) : Int) ^^^ iI (-1) = iI (-((n : Nat) : Int) - 1) := by decide +kernel
theorem iI_cut : ∀ x, x < 32 → ∀ y, y < 32 → iI ((x : Nat) : Int) &&& iI (-((y : Nat) : Int) - 1) = iI ((bd x y : Nat) : Int) := by decide +kernel
/-- how many of the first k columns are in the set -/
def onk (x : Nat) : Nat → Nat
  | 0 => 0
  | k + 1 => onk x k + x / 2 ^ k % 2
abbrev on (x : Nat) : Nat := onk x 5
theorem onk_n {x k : Nat} (h : x / 2 ^ k % 2 ≠ 1) : onk x (k + 1) = onk x k := by
  show onk x k + x / 2 ^ k % 2 = onk x k
  omega
theorem onk_y {x k : Nat} (h : x / 2 ^ k % 2 = 1) : onk x (k + 1) = onk x k + 1 := by
  show onk x k + x / 2 ^ k % 2 = onk x k + 1
  omega
theorem onk_le (x k : Nat) : onk x k ≤ k := by
  induction k with
  | zero => exact Nat.le_refl _
  | succ k ih =>
    have h : onk x (k + 1) = onk x k + x / 2 ^ k % 2 := rfl
    omega
theorem on_16 : ∀ x, x < 16 → on x = onk x 4 := by decide +kernel
theorem on_0 : ∀ S, S < 32 → on S = 0 → S = 0 := by decide +kernel
theorem on_bd : ∀ S, S < 32 → ∀ j, j < 5 → S / 2 ^ j % 2 = 1 → on (bd S (2 ^ j)) + 1 = on S := by decide +kernel
section ZB
variable {p : Program} {l : Launch} {e : Env} {R : Room} {s : State} {m : MethodId} {args : Array Value} {below : List Frame} {meth : Method} {c : Code} {H : Heap} {locs : List Loc} {cells slots : Nat} {Q : State → Prop}
variable {cc : ByteArray} {pc : Nat} {ls : Array Slot} {rest : List Value}
theorem z_iremN (hx : p.tables.exec = Jvm.exec) (hb : c.code = cc) {a b : Int} (n k : Nat) (hdg : decode cc pc = .ok (.irem, 1)) (ha : a = (n : Int)) (hk : b = (k : Int)) (hh : n < 2147483648 ∧ 0 < k ∧ k < 2147483648) (kk : W p l e R s m args below meth c H locs cells slots Q (F0 m (pc + 1) ls (.int (iI ((n % k : Nat) : Int)) :: rest))) : W p l e R s m args below meth c H locs cells slots Q (F0 m pc ls (.int (iI b) :: .int (iI a) :: rest)) := by
  subst ha
  subst hk
  exact z_irem hx hb hdg (by omega) (by omega) kk
theorem z_idivN (hx : p.tables.exec = Jvm.exec) (hb : c.code = cc) {a b : Int} (n k : Nat) (hdg : decode cc pc = .ok (.idiv, 1)) (ha : a = (n : Int)) (hk : b = (k : Int)) (hh : n < 2147483648 ∧ 0 < k ∧ k < 2147483648) (kk : W p l e R s m args below meth c H locs cells slots Q (F0 m (pc + 1) ls (.int (iI ((n / k : Nat) : Int)) :: rest))) : W p l e R s m args below meth c H locs cells slots Q (F0 m pc ls (.int (iI b) :: .int (iI a) :: rest)) := by
  subst ha
  subst hk
  exact z_idiv hx hb hdg (by omega) (by omega) kk
theorem z_ishrN (hx : p.tables.exec = Jvm.exec) (hb : c.code = cc) {a b : Int} (n k : Nat) (hdg : decode cc pc = .ok (.ishr, 1)) (ha : a = (n : Int)) (hk : b = (k : Int)) (hh : n < 2 ^ 31 ∧ k < 32) (kk : W p l e R s m args below meth c H locs cells slots Q (F0 m (pc + 1) ls (.int (iI ((n / 2 ^ k : Nat) : Int)) :: rest))) : W p l e R s m args below meth c H locs cells slots Q (F0 m pc ls (.int (iI b) :: .int (iI a) :: rest)) := by
  subst ha
  subst hk
  exact z_ishr hx hb _ hdg (iI_shr hh.1 hh.2) kk
end ZB
theorem up_id (f : Nat → Int) (k : Nat) : up f k (f k) = f := by
  funext j
  by_cases h : j = k <;> simp [up, h]
end
section
set_option maxRecDepth 100000
/-! ranks by minors: Vk k: all k-rowed minors (rows of R, columns below m, columns in order) are 0 modulo p (p = 0: are 0) -/
def Vk (p : Int) (m : Nat) (R : (Nat → Int) → Prop) : Nat → Prop
  | 0 => False
  | 1 => ∀ a, R a → ∀ x, x < m → cg p (a x) 0
  | 2 => ∀ a b, R a → R b → ∀ x y, x < y → y < m → cg p (d2 a b x y) 0
  | 3 => ∀ a b c, R a → R b → R c → ∀ x y z, x < y → y < z → z < m → cg p (d3 a b c x y z) 0
  | 4 => ∀ a b c d, R a → R b → R c → R d → ∀ x y z t, x < y → y < z → z < t → t < m → cg p (d4 a b c d x y z t) 0
  | _ => True
def isRank (p : Int) (m : Nat) (R : (Nat → Int) → Prop) (r : Nat) : Prop := r ≤ 4 ∧ ¬ Vk p m R r ∧ Vk p m R (r + 1)
theorem cg.z0 {p a b : Int} (h : cg p b 0) : cg p (a * b) 0 := ((cg.rf p a).ml h).tr (cg.of (Int.mul_zero a))
theorem cg.s0 {p a b : Int} (h : cg p a 0) (g : cg p b 0) : cg p (a - b) 0 := (h.sb g).tr (cg.of (Int.sub_self 0))
theorem cg.a0 {p a b : Int} (h : cg p a 0) (g : cg p b 0) : cg p (a + b) 0 := (h.ad g).tr (cg.of (Int.add_zero 0))
theorem cg_0 {a b : Int} : cg 0 a b ↔ a = b := ⟨fun ⟨t, e⟩ => by rw [Int.zero_mul, Int.add_zero] at e; exact e, fun e => cg.of e⟩
theorem Vk_up {p : Int} {m : Nat} {R : (Nat → Int) → Prop} {k : Nat} (h : Vk p m R k) : Vk p m R (k + 1) := by
  match k, h with
  | 0, h => exact h.elim
  | 1, h =>
    intro a b ha hb x y hx hy
    exact (cg.z0 (h a ha x (by omega))).s0 (cg.z0 (h a ha y hy))
  | 2, h =>
    intro a b c ha hb hc x y z hx hy hz
    exact ((cg.z0 (h a b ha hb x y hx (by omega))).s0 (cg.z0 (h a b ha hb x z (by omega) hz))).a0 (cg.z0 (h a b ha hb y z hy hz))
  | 3, h =>
    intro a b c d ha hb hc hd x y z t hx hy hz ht
    exact (((cg.z0 (h a b c ha hb hc x y z hx hy (by omega))).s0 (cg.z0 (h a b c ha hb hc x y t hx (by omega) ht))).a0 (cg.z0 (h a b c ha hb hc x z t (by omega) hz ht))).s0 (cg.z0 (h a b c ha hb hc y z t hy hz ht))
  | 4, h => trivial
  | k + 5, h => trivial
theorem Vk_le {p : Int} {m : Nat} {R : (Nat → Int) → Prop} {k n : Nat} (hkn : k ≤ n) (h : Vk p m R k) : Vk p m R n := by
  induction n with
  | zero => rw [show k = 0 by omega] at h; exact h
  | succ n ih =>
    by_cases q : k = n + 1
    · rw [← q]; exact h
    · exact Vk_up (ih (by omega))
theorem isRank_fun {p : Int} {m : Nat} {R : (Nat → Int) → Prop} {r r' : Nat} (h : isRank p m R r) (h' : isRank p m R r') : r = r' := by
  rcases Nat.lt_trichotomy r r' with q | q | q
  · exact absurd (Vk_le (show r + 1 ≤ r' by omega) h.2.2) h'.2.1
  · exact q
  · exact absurd (Vk_le (show r' + 1 ≤ r by omega) h'.2.2) h.2.1
section RK
variable {p : Int} {a b c d u v : Nat → Int} {x y z t m : Nat} {f g : Int}
theorem ln2a : d2 (fun j => f * u j + g * v j) b x y = f * d2 u b x y + g * d2 v b x y := by unfold d2; grind
theorem ln2b : d2 a (fun j => f * u j + g * v j) x y = f * d2 a u x y + g * d2 a v x y := by unfold d2; grind
theorem ln3a : d3 (fun j => f * u j + g * v j) b c x y z = f * d3 u b c x y z + g * d3 v b c x y z := by unfold d3 d2; grind
theorem ln3b : d3 a (fun j => f * u j + g * v j) c x y z = f * d3 a u c x y z + g * d3 a v c x y z := by unfold d3 d2; grind
theorem ln3c : d3 a b (fun j => f * u j + g * v j) x y z = f * d3 a b u x y z + g * d3 a b v x y z := by unfold d3 d2; grind
theorem ln4a : d4 (fun j => f * u j + g * v j) b c d x y z t = f * d4 u b c d x y z t + g * d4 v b c d x y z t := by unfold d4 d3 d2; grind
theorem ln4b : d4 a (fun j => f * u j + g * v j) c d x y z t = f * d4 a u c d x y z t + g * d4 a v c d x y z t := by unfold d4 d3 d2; grind
theorem ln4c : d4 a b (fun j => f * u j + g * v j) d x y z t = f * d4 a b u d x y z t + g * d4 a b v d x y z t := by unfold d4 d3 d2; grind
theorem ln4d : d4 a b c (fun j => f * u j + g * v j) x y z t = f * d4 a b c u x y z t + g * d4 a b c v x y z t := by unfold d4 d3 d2; grind
theorem d2_cm {a' b' : Nat → Int} (hx : x < m) (hy : y < m) (ha : ∀ j, j < m → cg p (a j) (a' j)) (hb : ∀ j, j < m → cg p (b j) (b' j)) : cg p (d2 a b x y) (d2 a' b' x y) :=
  ((hb y hy).ml (ha x hx)).sb ((hb x hx).ml (ha y hy))
theorem d3_cm {a' b' c' : Nat → Int} (hx : x < m) (hy : y < m) (hz : z < m) (ha : ∀ j, j < m → cg p (a j) (a' j)) (hb : ∀ j, j < m → cg p (b j) (b' j)) (hc : ∀ j, j < m → cg p (c j) (c' j)) : cg p (d3 a b c x y z) (d3 a' b' c' x y z) :=
  (((hc z hz).ml (d2_cm hx hy ha hb)).sb ((hc y hy).ml (d2_cm hx hz ha hb))).ad ((hc x hx).ml (d2_cm hy hz ha hb))
theorem d4_cm {a' b' c' d' : Nat → Int} (hx : x < m) (hy : y < m) (hz : z < m) (ht : t < m) (ha : ∀ j, j < m → cg p (a j) (a' j)) (hb : ∀ j, j < m → cg p (b j) (b' j)) (hc : ∀ j, j < m → cg p (c j) (c' j)) (hd : ∀ j, j < m → cg p (d j) (d' j)) : cg p (d4 a b c d x y z t) (d4 a' b' c' d' x y z t) :=
  ((((hd t ht).ml (d3_cm hx hy hz ha hb hc)).sb ((hd z hz).ml (d3_cm hx hy ht ha hb hc))).ad ((hd y hy).ml (d3_cm hx hz ht ha hb hc))).sb ((hd x hx).ml (d3_cm hy hz ht ha hb hc))
end RK
/-- a row that is, modulo p, a combination of two rows of R -/
def Sp (p : Int) (m : Nat) (R : (Nat → Int) → Prop) (r : Nat → Int) : Prop := ∃ (u v : Nat → Int) (f g : Int), R u ∧ R v ∧ ∀ j, j < m → cg p (r j) (f * u j + g * v j)
theorem Sp.of {p : Int} {m : Nat} {R : (Nat → Int) → Prop} {r : Nat → Int} (u : Nat → Int) (hu : R u) (h : ∀ j, j < m → cg p (r j) (u j)) : Sp p m R r := ⟨u, u, 1, 0, hu, hu, fun j hj => (h j hj).tr (cg.of (by grind))⟩
theorem lin0 {p X f g Y Z : Int} (h : cg p X (f * Y + g * Z)) (hY : cg p Y 0) (hZ : cg p Z 0) : cg p X 0 := h.tr ((cg.z0 hY).a0 (cg.z0 hZ))
theorem Vk_sp {p : Int} {m : Nat} {R S : (Nat → Int) → Prop} (hS : ∀ r, S r → Sp p m R r) {k : Nat} (h : Vk p m R k) : Vk p m S k := by
  have rr : ∀ (a : Nat → Int) (j : Nat), j < m → cg p (a j) (a j) := fun a j _ => cg.rf p (a j)
  match k, h with
  | 0, h => exact h
  | 1, h =>
    intro a ha x hx
    obtain ⟨u, v, f, g, hu, hv, e⟩ := hS a ha
    exact lin0 (e x hx) (h u hu x hx) (h v hv x hx)
  | 2, h =>
    have h1 : ∀ a b, S a → R b → ∀ x y, x < y → y < m → cg p (d2 a b x y) 0 := by
      intro a b ha hb x y hx hy
      obtain ⟨u, v, f, g, hu, hv, e⟩ := hS a ha
      exact lin0 ((d2_cm (by omega) hy e (rr b)).tr (cg.of ln2a)) (h u b hu hb x y hx hy) (h v b hv hb x y hx hy)
    intro a b ha hb x y hx hy
    obtain ⟨u, v, f, g, hu, hv, e⟩ := hS b hb
    exact lin0 ((d2_cm (by omega) hy (rr a) e).tr (cg.of ln2b)) (h1 a u ha hu x y hx hy) (h1 a v ha hv x y hx hy)
  | 3, h =>
    have h1 : ∀ a b c, S a → R b → R c → ∀ x y z, x < y → y < z → z < m → cg p (d3 a b c x y z) 0 := by
      intro a b c ha hb hc x y z hx hy hz
      obtain ⟨u, v, f, g, hu, hv, e⟩ := hS a ha
      exact lin0 ((d3_cm (by omega) (by omega) hz e (rr b) (rr c)).tr (cg.of ln3a)) (h u b c hu hb hc x y z hx hy hz) (h v b c hv hb hc x y z hx hy hz)
    have h2 : ∀ a b c, S a → S b → R c → ∀ x y z, x < y → y < z → z < m → cg p (d3 a b c x y z) 0 := by
      intro a b c ha hb hc x y z hx hy hz
      obtain ⟨u, v, f, g, hu, hv, e⟩ := hS b hb
      exact lin0 ((d3_cm (by omega) (by omega) hz (rr a) e (rr c)).tr (cg.of ln3b)) (h1 a u c ha hu hc x y z hx hy hz) (h1 a v c ha hv hc x y z hx hy hz)
    intro a b c ha hb hc x y z hx hy hz
    obtain ⟨u, v, f, g, hu, hv, e⟩ := hS c hc
    exact lin0 ((d3_cm (by omega) (by omega) hz (rr a) (rr b) e).tr (cg.of ln3c)) (h2 a b u ha hb hu x y z hx hy hz) (h2 a b v ha hb hv x y z hx hy hz)
  | 4, h =>
    have h1 : ∀ a b c d, S a → R b → R c → R d → ∀ x y z t, x < y → y < z → z < t → t < m → cg p (d4 a b c d x y z t) 0 := by
      intro a b c d ha hb hc hd x y z t hx hy hz ht
      obtain ⟨u, v, f, g, hu, hv, e⟩ := hS a ha
      exact lin0 ((d4_cm (by omega) (by omega) (by omega) ht e (rr b) (rr c) (rr d)).tr (cg.of ln4a)) (h u b c d hu hb hc hd x y z t hx hy hz ht) (h v b c d hv hb hc hd x y z t hx hy hz ht)
    have h2 : ∀ a b c d, S a → S b → R c → R d → ∀ x y z t, x < y → y < z → z < t → t < m → cg p (d4 a b c d x y z t) 0 := by
      intro a b c d ha hb hc hd x y z t hx hy hz ht
      obtain ⟨u, v, f, g, hu, hv, e⟩ := hS b hb
      exact lin0 ((d4_cm (by omega) (by omega) (by omega) ht (rr a) e (rr c) (rr d)).tr (cg.of ln4b)) (h1 a u c d ha hu hc hd x y z t hx hy hz ht) (h1 a v c d ha hv hc hd x y z t hx hy hz ht)
    have h3 : ∀ a b c d, S a → S b → S c → R d → ∀ x y z t, x < y → y < z → z < t → t < m → cg p (d4 a b c d x y z t) 0 := by
      intro a b c d ha hb hc hd x y z t hx hy hz ht
      obtain ⟨u, v, f, g, hu, hv, e⟩ := hS c hc
      exact lin0 ((d4_cm (by omega) (by omega) (by omega) ht (rr a) (rr b) e (rr d)).tr (cg.of ln4c)) (h2 a b u d ha hb hu hd x y z t hx hy hz ht) (h2 a b v d ha hb hv hd x y z t hx hy hz ht)
    intro a b c d ha hb hc hd x y z t hx hy hz ht
    obtain ⟨u, v, f, g, hu, hv, e⟩ := hS d hd
    exact lin0 ((d4_cm (by omega) (by omega) (by omega) ht (rr a) (rr b) (rr c) e).tr (cg.of ln4d)) (h3 a b c u ha hb hc hu x y z t hx hy hz ht) (h3 a b c v ha hb hc hv x y z t hx hy hz ht)
  | k + 5, h => trivial
theorem isRank_sp {p : Int} {m : Nat} {R S : (Nat → Int) → Prop} (h1 : ∀ r, S r → Sp p m R r) (h2 : ∀ r, R r → Sp p m S r) {k : Nat} (h : isRank p m R k) : isRank p m S k :=
  ⟨h.1, fun q => h.2.1 (Vk_sp h2 q), Vk_sp h1 h.2.2⟩
section AL
variable {a b c : Nat → Int} {x y z t : Nat}
theorem al2 : d2 a a x y = 0 := by unfold d2; grind
theorem al3a : d3 a a b x y z = 0 := by unfold d3 d2; grind
theorem al3b : d3 a b a x y z = 0 := by unfold d3 d2; grind
theorem al3c : d3 b a a x y z = 0 := by unfold d3 d2; grind
theorem al4a : d4 a a b c x y z t = 0 := by unfold d4 d3 d2; grind
theorem al4b : d4 a b a c x y z t = 0 := by unfold d4 d3 d2; grind
theorem al4c : d4 a b c a x y z t = 0 := by unfold d4 d3 d2; grind
theorem al4d : d4 b a a c x y z t = 0 := by unfold d4 d3 d2; grind
theorem al4e : d4 b a c a x y z t = 0 := by unfold d4 d3 d2; grind
theorem al4f : d4 b c a a x y z t = 0 := by unfold d4 d3 d2; grind
end AL
/-- rows that vanish where a minor looks -/
theorem zr2 {a b : Nat → Int} {x y m : Nat} (hx : x < m) (hy : y < m) (h : (∀ j, j < m → a j = 0) ∨ (∀ j, j < m → b j = 0)) : d2 a b x y = 0 := by
  unfold d2
  rcases h with h | h <;> rw [h x hx, h y hy] <;> grind
theorem zr3 {a b c : Nat → Int} {x y z m : Nat} (hx : x < m) (hy : y < m) (hz : z < m) (h : (∀ j, j < m → a j = 0) ∨ (∀ j, j < m → b j = 0) ∨ (∀ j, j < m → c j = 0)) : d3 a b c x y z = 0 := by
  unfold d3
  rcases h with h | h | h
  · rw [zr2 hx hy (Or.inl h), zr2 hx hz (Or.inl h), zr2 hy hz (Or.inl h)]; grind
  · rw [zr2 hx hy (Or.inr h), zr2 hx hz (Or.inr h), zr2 hy hz (Or.inr h)]; grind
  · rw [h x hx, h y hy, h z hz]; grind
theorem zr4 {a b c d : Nat → Int} {x y z t m : Nat} (hx : x < m) (hy : y < m) (hz : z < m) (ht : t < m) (h : (∀ j, j < m → a j = 0) ∨ (∀ j, j < m → b j = 0) ∨ (∀ j, j < m → c j = 0) ∨ (∀ j, j < m → d j = 0)) : d4 a b c d x y z t = 0 := by
  unfold d4
  rcases h with h | h | h | h
  · rw [zr3 hx hy hz (Or.inl h), zr3 hx hy ht (Or.inl h), zr3 hx hz ht (Or.inl h), zr3 hy hz ht (Or.inl h)]; grind
  · rw [zr3 hx hy hz (Or.inr (Or.inl h)), zr3 hx hy ht (Or.inr (Or.inl h)), zr3 hx hz ht (Or.inr (Or.inl h)), zr3 hy hz ht (Or.inr (Or.inl h))]; grind
  · rw [zr3 hx hy hz (Or.inr (Or.inr h)), zr3 hx hy ht (Or.inr (Or.inr h)), zr3 hx hz ht (Or.inr (Or.inr h)), zr3 hy hz ht (Or.inr (Or.inr h))]; grind
  · rw [h x hx, h y hy, h z hz, h t ht]; grind
/-- the first n rows at work -/
def Rn (w : Nat → Int) (n : Nat) (r : Nat → Int) : Prop := ∃ i, i < n ∧ r = row w i
/-- rows in echelon form, r of them with a number at their head: no minor of r + 1 rows is left -/
theorem ech_V {p : Int} {w : Nat → Int} {n m r : Nat} (hz : ∀ i, r ≤ i → i < n → ∀ j, j < m → row w i j = 0) : Vk p m (Rn w n) (r + 1) := by
  have cs : ∀ i, i < n → i < r ∨ ∀ j, j < m → row w i j = 0 := by
    intro i hi
    rcases Nat.lt_or_ge i r with q | q
    · exact Or.inl q
    · exact Or.inr (hz i q hi)
  match r, cs with
  | 0, cs =>
    rintro a ⟨i, hi, rfl⟩ x hx
    rcases cs i hi with q | q
    · omega
    · exact cg.of (q x hx)
  | 1, cs =>
    rintro a b ⟨i, hi, rfl⟩ ⟨j, hj, rfl⟩ x y hx hy
    rcases cs i hi with q | q
    · rcases cs j hj with q2 | q2
      · have e : i = j := by omega
        subst e
        exact cg.of al2
      · exact cg.of (zr2 (m := m) (by omega) hy (Or.inr q2))
    · exact cg.of (zr2 (m := m) (by omega) hy (Or.inl q))
  | 2, cs =>
    rintro a b c ⟨i, hi, rfl⟩ ⟨j, hj, rfl⟩ ⟨k, hk, rfl⟩ x y z hx hy hz
    rcases cs i hi with q | q
    · rcases cs j hj with q2 | q2
      · rcases cs k hk with q3 | q3
        · have e : i = j ∨ i = k ∨ j = k := by omega
          rcases e with rfl | rfl | rfl
          · exact cg.of al3a
          · exact cg.of al3b
          · exact cg.of al3c
        · exact cg.of (zr3 (m := m) (by omega) (by omega) hz (Or.inr (Or.inr q3)))
      · exact cg.of (zr3 (m := m) (by omega) (by omega) hz (Or.inr (Or.inl q2)))
    · exact cg.of (zr3 (m := m) (by omega) (by omega) hz (Or.inl q))
  | 3, cs =>
    rintro a b c d ⟨i, hi, rfl⟩ ⟨j, hj, rfl⟩ ⟨k, hk, rfl⟩ ⟨l, hl, rfl⟩ x y z t hx hy hz ht
    rcases cs i hi with q | q
    · rcases cs j hj with q2 | q2
      · rcases cs k hk with q3 | q3
        · rcases cs l hl with q4 | q4
          · have e : i = j ∨ i = k ∨ i = l ∨ j = k ∨ j = l ∨ k = l := by omega
            rcases e with rfl | rfl | rfl | rfl | rfl | rfl
            · exact cg.of al4a
            · exact cg.of al4b
            · exact cg.of al4c
            · exact cg.of al4d
            · exact cg.of al4e
            · exact cg.of al4f
          · exact cg.of (zr4 (m := m) (by omega) (by omega) (by omega) ht (Or.inr (Or.inr (Or.inr q4))))
        · exact cg.of (zr4 (m := m) (by omega) (by omega) (by omega) ht (Or.inr (Or.inr (Or.inl q3))))
      · exact cg.of (zr4 (m := m) (by omega) (by omega) (by omega) ht (Or.inr (Or.inl q2)))
    · exact cg.of (zr4 (m := m) (by omega) (by omega) (by omega) ht (Or.inl q))
  | 4, cs => trivial
  | r + 5, cs => trivial
/-- a minor of the first r rows, of columns below c, that isn't 0 -/
def Nz (p : Int) (w : Nat → Int) (c : Nat) : Nat → Prop
  | 0 => True
  | 1 => ∃ x, x < c ∧ ¬ cg p (row w 0 x) 0
  | 2 => ∃ x y, x < y ∧ y < c ∧ ¬ cg p (d2 (row w 0) (row w 1) x y) 0
  | 3 => ∃ x y z, x < y ∧ y < z ∧ z < c ∧ ¬ cg p (d3 (row w 0) (row w 1) (row w 2) x y z) 0
  | 4 => ∃ x y z t, x < y ∧ y < z ∧ z < t ∧ t < c ∧ ¬ cg p (d4 (row w 0) (row w 1) (row w 2) (row w 3) x y z t) 0
  | _ => False
theorem Nz_V {p : Int} {w : Nat → Int} {n m c r : Nat} (hc : c ≤ m) (hr : r ≤ n) (h : Nz p w c r) : ¬ Vk p m (Rn w n) r := by
  intro v
  match r, h with
  | 0, h => exact v
  | 1, ⟨x, hx, h⟩ => exact h (v _ ⟨0, by omega, rfl⟩ x (by omega))
  | 2, ⟨x, y, hx, hy, h⟩ => exact h (v _ _ ⟨0, by omega, rfl⟩ ⟨1, by omega, rfl⟩ x y hx (by omega))
  | 3, ⟨x, y, z, hx, hy, hz, h⟩ => exact h (v _ _ _ ⟨0, by omega, rfl⟩ ⟨1, by omega, rfl⟩ ⟨2, by omega, rfl⟩ x y z hx hy (by omega))
  | 4, ⟨x, y, z, t, hx, hy, hz, ht, h⟩ => exact h (v _ _ _ _ ⟨0, by omega, rfl⟩ ⟨1, by omega, rfl⟩ ⟨2, by omega, rfl⟩ ⟨3, by omega, rfl⟩ x y z t hx hy hz (by omega))
theorem Nz_cols {p : Int} {w : Nat → Int} {c c' r : Nat} (hc : c ≤ c') (h : Nz p w c r) : Nz p w c' r := by
  match r, h with
  | 0, h => trivial
  | 1, ⟨x, hx, h⟩ => exact ⟨x, by omega, h⟩
  | 2, ⟨x, y, hx, hy, h⟩ => exact ⟨x, y, hx, by omega, h⟩
  | 3, ⟨x, y, z, hx, hy, hz, h⟩ => exact ⟨x, y, z, hx, hy, by omega, h⟩
  | 4, ⟨x, y, z, t, hx, hy, hz, ht, h⟩ => exact ⟨x, y, z, t, hx, hy, hz, by omega, h⟩
/-- a unit times what isn't 0 isn't 0 -/
theorem unit_n0 {p a un b : Int} (hu : a * un % p = 1 % p) (hb : ¬ cg p b 0) : ¬ cg p (a * b) 0 := by
  intro h
  apply hb
  have h1 : cg p (a * un) 1 := cg.fr hu
  have h2 : cg p (un * (a * b)) b := (cg.of (show un * (a * b) = a * un * b by grind)).tr ((h1.ml (cg.rf p b)).tr (cg.of (Int.one_mul b)))
  exact h2.sy.tr (cg.z0 h)
/-- one more row: r rows kept as they were, row r with its head at column c -/
theorem Nz_step {p : Int} {w w' : Nat → Int} {c r : Nat} {un : Int} (hc : c < 5) (hr : r < 4) (hk : ∀ i, i < r → ∀ j, j < 5 → row w' i j = row w i j) (hz : ∀ j, j < c → row w' r j = 0) (hu : row w' r c * un % p = 1 % p) (h1 : ¬ cg p 1 0) (h : Nz p w c r) : Nz p w' (c + 1) (r + 1) := by
  match r, h with
  | 0, h =>
    refine ⟨c, by omega, ?_⟩
    have g := unit_n0 hu h1
    rw [Int.mul_one] at g
    exact g
  | 1, ⟨x, hx, h⟩ =>
    refine ⟨x, c, hx, by omega, ?_⟩
    unfold d2
    rw [hz x hx, hk 0 (by omega) x (by omega), Int.zero_mul, Int.sub_zero]
    exact unit_n0 hu h
  | 2, ⟨x, y, hx, hy, h⟩ =>
    refine ⟨x, y, c, hx, hy, by omega, ?_⟩
    unfold d3
    rw [hz x (by omega), hz y hy, Int.zero_mul, Int.zero_mul, Int.sub_zero, Int.add_zero]
    have e : d2 (row w' 0) (row w' 1) x y = d2 (row w 0) (row w 1) x y := by
      unfold d2
      rw [hk 0 (by omega) x (by omega), hk 0 (by omega) y (by omega), hk 1 (by omega) x (by omega), hk 1 (by omega) y (by omega)]
    rw [e]
    exact unit_n0 hu h
  | 3, ⟨x, y, z, hx, hy, hz3, h⟩ =>
    refine ⟨x, y, z, c, hx, hy, hz3, by omega, ?_⟩
    unfold d4
    rw [hz x (by omega), hz y (by omega), hz z hz3, Int.zero_mul, Int.zero_mul, Int.zero_mul, Int.sub_zero, Int.add_zero, Int.sub_zero]
    have e : d3 (row w' 0) (row w' 1) (row w' 2) x y z = d3 (row w 0) (row w 1) (row w 2) x y z := by
      unfold d3 d2
      rw [hk 0 (by omega) x (by omega), hk 0 (by omega) y (by omega), hk 0 (by omega) z (by omega), hk 1 (by omega) x (by omega), hk 1 (by omega) y (by omega), hk 1 (by omega) z (by omega), hk 2 (by omega) x (by omega), hk 2 (by omega) y (by omega), hk 2 (by omega) z (by omega)]
    rw [e]
    exact unit_n0 hu h
  | 4, h => omega
end
section
set_option maxRecDepth 100000
/-! determinants by sets of columns, as the model expands them along the last row -/
def exk (r T : Nat → Int) (S : Nat) : Nat → Int
  | 0 => 0
  | j + 1 => if S / 2 ^ j % 2 = 1 then (if on (S / 2 ^ (j + 1)) % 2 = 0 then exk r T S j + r j * T (bd S (2 ^ j)) else exk r T S j - r j * T (bd S (2 ^ j))) else exk r T S j
theorem exk_n {r T : Nat → Int} {S j : Nat} (h : S / 2 ^ j % 2 ≠ 1) : exk r T S j = exk r T S (j + 1) := by
  show _ = if _ then _ else _
  rw [if_neg h]
theorem exk_p {r T : Nat → Int} {S j : Nat} (h : S / 2 ^ j % 2 = 1) (h2 : on (S / 2 ^ (j + 1)) % 2 = 0) : exk r T S j + r j * T (bd S (2 ^ j)) = exk r T S (j + 1) := by
  show _ = if _ then (if _ then _ else _) else _
  rw [if_pos h, if_pos h2]
theorem exk_m {r T : Nat → Int} {S j : Nat} (h : S / 2 ^ j % 2 = 1) (h2 : on (S / 2 ^ (j + 1)) % 2 ≠ 0) : exk r T S j - r j * T (bd S (2 ^ j)) = exk r T S (j + 1) := by
  show _ = if _ then (if _ then _ else _) else _
  rw [if_pos h, if_neg h2]
theorem exk_cg {r T T' : Nat → Int} {S : Nat} {n : Nat} (h : ∀ j, j < n → S / 2 ^ j % 2 = 1 → T (bd S (2 ^ j)) = T' (bd S (2 ^ j))) : exk r T S n = exk r T' S n := by
  induction n with
  | zero => rfl
  | succ n ih =>
    have e := ih (fun j hj => h j (by omega))
    by_cases q : S / 2 ^ n % 2 = 1
    · have g := h n (by omega) q
      by_cases q2 : on (S / 2 ^ (n + 1)) % 2 = 0
      · rw [← exk_p q q2, ← exk_p q q2, e, g]
      · rw [← exk_m q q2, ← exk_m q q2, e, g]
    · rw [← exk_n q, ← exk_n q, e]
/-- the determinant of rows (the last one first) in a set of columns -/
def mt : List (Nat → Int) → Nat → Int
  | [], _ => 1
  | r :: R, S => exk r (mt R) S 5
/-- the rows of a set, the last one first -/
def rl (z : Nat → Int) (x : Nat) : Nat → List (Nat → Int)
  | 0 => []
  | i + 1 => if x / 2 ^ i % 2 = 1 then row z i :: rl z x i else rl z x i
theorem rl_n {z : Nat → Int} {x i : Nat} (h : x / 2 ^ i % 2 ≠ 1) : rl z x (i + 1) = rl z x i := by
  show (if _ then _ else _) = _
  rw [if_neg h]
theorem rl_y {z : Nat → Int} {x i : Nat} (h : x / 2 ^ i % 2 = 1) : rl z x (i + 1) = row z i :: rl z x i := by
  show (if _ then _ else _) = _
  rw [if_pos h]
theorem exk_bd {r T : Nat → Int} {S n : Nat} {M : Int} (hM : 0 ≤ M) (hr : ∀ j, j < n → -50 ≤ r j ∧ r j ≤ 50) (hT : ∀ S, -M ≤ T S ∧ T S ≤ M) : -(n * (50 * M)) ≤ exk r T S n ∧ exk r T S n ≤ n * (50 * M) := by
  induction n with
  | zero => simp [exk]
  | succ n ih =>
    have e := ih (fun j hj => hr j (by omega))
    have g := mb (A := 50) (B := M) (hr n (by omega)) (hT (bd S (2 ^ n)))
    have k : ((n + 1 : Nat) : Int) * (50 * M) = (n : Int) * (50 * M) + 50 * M := by grind
    rw [k]
    generalize (n : Int) * (50 * M) = X at e ⊢
    by_cases q : S / 2 ^ n % 2 = 1
    · by_cases q2 : on (S / 2 ^ (n + 1)) % 2 = 0
      · rw [← exk_p q q2]; omega
      · rw [← exk_m q q2]; omega
    · rw [← exk_n q]; omega
theorem mt_bd {z : Nat → Int} (hz : ∀ k, k < 20 → -50 ≤ z k ∧ z k ≤ 50) (x : Nat) : ∀ i, i ≤ 4 → ∀ S, -(250 ^ i) ≤ mt (rl z x i) S ∧ mt (rl z x i) S ≤ 250 ^ i := by
  intro i
  induction i with
  | zero => intro _ S; exact ⟨by show (-1 : Int) ≤ 1; omega, by show (1 : Int) ≤ 1; omega⟩
  | succ i ih =>
    intro hi S
    have e := ih (by omega)
    have p0 : (0 : Int) ≤ 250 ^ i := by have := e 0; omega
    have p1 : (250 : Int) ^ (i + 1) = 250 * 250 ^ i := by rw [Int.pow_succ, Int.mul_comm]
    rw [p1]
    by_cases q : x / 2 ^ i % 2 = 1
    · rw [rl_y q]
      have g := exk_bd (r := row z i) (T := mt (rl z x i)) (S := S) (n := 5) p0 (row_50 hz (by omega)) e
      have k : ((5 : Nat) : Int) * (50 * 250 ^ i) = 250 * 250 ^ i := by grind
      rw [k] at g
      exact g
    · rw [rl_n q]
      have := e S
      omega
theorem ex_1 (r T : Nat → Int) : exk r T 1 5 = 0 + r 0 * T 0 := rfl
theorem ex_2 (r T : Nat → Int) : exk r T 2 5 = 0 + r 1 * T 0 := rfl
theorem ex_3 (r T : Nat → Int) : exk r T 3 5 = 0 - r 0 * T 2 + r 1 * T 1 := rfl
theorem ex_4 (r T : Nat → Int) : exk r T 4 5 = 0 + r 2 * T 0 := rfl
theorem ex_5 (r T : Nat → Int) : exk r T 5 5 = 0 - r 0 * T 4 + r 2 * T 1 := rfl
theorem ex_6 (r T : Nat → Int) : exk r T 6 5 = 0 - r 1 * T 4 + r 2 * T 2 := rfl
theorem ex_7 (r T : Nat → Int) : exk r T 7 5 = 0 + r 0 * T 6 - r 1 * T 5 + r 2 * T 3 := rfl
theorem ex_8 (r T : Nat → Int) : exk r T 8 5 = 0 + r 3 * T 0 := rfl
theorem ex_9 (r T : Nat → Int) : exk r T 9 5 = 0 - r 0 * T 8 + r 3 * T 1 := rfl
theorem ex_10 (r T : Nat → Int) : exk r T 10 5 = 0 - r 1 * T 8 + r 3 * T 2 := rfl
theorem ex_11 (r T : Nat → Int) : exk r T 11 5 = 0 + r 0 * T 10 - r 1 * T 9 + r 3 * T 3 := rfl
theorem ex_12 (r T : Nat → Int) : exk r T 12 5 = 0 - r 2 * T 8 + r 3 * T 4 := rfl
theorem ex_13 (r T : Nat → Int) : exk r T 13 5 = 0 + r 0 * T 12 - r 2 * T 9 + r 3 * T 5 := rfl
theorem ex_14 (r T : Nat → Int) : exk r T 14 5 = 0 + r 1 * T 12 - r 2 * T 10 + r 3 * T 6 := rfl
theorem ex_15 (r T : Nat → Int) : exk r T 15 5 = 0 - r 0 * T 14 + r 1 * T 13 - r 2 * T 11 + r 3 * T 7 := rfl
theorem ex_16 (r T : Nat → Int) : exk r T 16 5 = 0 + r 4 * T 0 := rfl
theorem ex_17 (r T : Nat → Int) : exk r T 17 5 = 0 - r 0 * T 16 + r 4 * T 1 := rfl
theorem ex_18 (r T : Nat → Int) : exk r T 18 5 = 0 - r 1 * T 16 + r 4 * T 2 := rfl
theorem ex_19 (r T : Nat → Int) : exk r T 19 5 = 0 + r 0 * T 18 - r 1 * T 17 + r 4 * T 3 := rfl
theorem ex_20 (r T : Nat → Int) : exk r T 20 5 = 0 - r 2 * T 16 + r 4 * T 4 := rfl
theorem ex_21 (r T : Nat → Int) : exk r T 21 5 = 0 + r 0 * T 20 - r 2 * T 17 + r 4 * T 5 := rfl
theorem ex_22 (r T : Nat → Int) : exk r T 22 5 = 0 + r 1 * T 20 - r 2 * T 18 + r 4 * T 6 := rfl
theorem ex_23 (r T : Nat → Int) : exk r T 23 5 = 0 - r 0 * T 22 + r 1 * T 21 - r 2 * T 19 + r 4 * T 7 := rfl
theorem ex_24 (r T : Nat → Int) : exk r T 24 5 = 0 - r 3 * T 16 + r 4 * T 8 := rfl
theorem ex_25 (r T : Nat → Int) : exk r T 25 5 = 0 + r 0 * T 24 - r 3 * T 17 + r 4 * T 9 := rfl
theorem ex_26 (r T : Nat → Int) : exk r T 26 5 = 0 + r 1 * T 24 - r 3 * T 18 + r 4 * T 10 := rfl
theorem ex_27 (r T : Nat → Int) : exk r T 27 5 = 0 - r 0 * T 26 + r 1 * T 25 - r 3 * T 19 + r 4 * T 11 := rfl
theorem ex_28 (r T : Nat → Int) : exk r T 28 5 = 0 + r 2 * T 24 - r 3 * T 20 + r 4 * T 12 := rfl
theorem ex_29 (r T : Nat → Int) : exk r T 29 5 = 0 - r 0 * T 28 + r 2 * T 25 - r 3 * T 21 + r 4 * T 13 := rfl
theorem ex_30 (r T : Nat → Int) : exk r T 30 5 = 0 - r 1 * T 28 + r 2 * T 26 - r 3 * T 22 + r 4 * T 14 := rfl
theorem ex_31 (r T : Nat → Int) : exk r T 31 5 = 0 + r 0 * T 30 - r 1 * T 29 + r 2 * T 27 - r 3 * T 23 + r 4 * T 15 := rfl
section MT
variable (a b c d : Nat → Int)
theorem m1_1 : mt [a] 1 = a 0 := by
  show exk a (mt []) 1 5 = _
  rw [ex_1]
  show 0 + a 0 * 1 = a 0
  omega
theorem m1_2 : mt [a] 2 = a 1 := by
  show exk a (mt []) 2 5 = _
  rw [ex_2]
  show 0 + a 1 * 1 = a 1
  omega
theorem m2_3 : mt [b, a] 3 = d2 a b 0 1 := by
  show exk b (mt [a]) 3 5 = _
  rw [ex_3, m1_2, m1_1]
  unfold d2
  grind
theorem m1_4 : mt [a] 4 = a 2 := by
  show exk a (mt []) 4 5 = _
  rw [ex_4]
  show 0 + a 2 * 1 = a 2
  omega
theorem m2_5 : mt [b, a] 5 = d2 a b 0 2 := by
  show exk b (mt [a]) 5 5 = _
  rw [ex_5, m1_4, m1_1]
  unfold d2
  grind
theorem m2_6 : mt [b, a] 6 = d2 a b 1 2 := by
  show exk b (mt [a]) 6 5 = _
  rw [ex_6, m1_4, m1_2]
  unfold d2
  grind
theorem m3_7 : mt [c, b, a] 7 = d3 a b c 0 1 2 := by
  show exk c (mt [b, a]) 7 5 = _
  rw [ex_7, m2_6, m2_5, m2_3]
  unfold d3
  grind
theorem m1_8 : mt [a] 8 = a 3 := by
  show exk a (mt []) 8 5 = _
  rw [ex_8]
  show 0 + a 3 * 1 = a 3
  omega
theorem m2_9 : mt [b, a] 9 = d2 a b 0 3 := by
  show exk b (mt [a]) 9 5 = _
  rw [ex_9, m1_8, m1_1]
  unfold d2
  grind
theorem m2_10 : mt [b, a] 10 = d2 a b 1 3 := by
  show exk b (mt [a]) 10 5 = _
  rw [ex_10, m1_8, m1_2]
  unfold d2
  grind
theorem m3_11 : mt [c, b, a] 11 = d3 a b c 0 1 3 := by
  show exk c (mt [b, a]) 11 5 = _
  rw [ex_11, m2_10, m2_9, m2_3]
  unfold d3
  grind
theorem m2_12 : mt [b, a] 12 = d2 a b 2 3 := by
  show exk b (mt [a]) 12 5 = _
  rw [ex_12, m1_8, m1_4]
  unfold d2
  grind
theorem m3_13 : mt [c, b, a] 13 = d3 a b c 0 2 3 := by
  show exk c (mt [b, a]) 13 5 = _
  rw [ex_13, m2_12, m2_9, m2_5]
  unfold d3
  grind
theorem m3_14 : mt [c, b, a] 14 = d3 a b c 1 2 3 := by
  show exk c (mt [b, a]) 14 5 = _
  rw [ex_14, m2_12, m2_10, m2_6]
  unfold d3
  grind
theorem m4_15 : mt [d, c, b, a] 15 = d4 a b c d 0 1 2 3 := by
  show exk d (mt [c, b, a]) 15 5 = _
  rw [ex_15, m3_14, m3_13, m3_11, m3_7]
  unfold d4
  grind
theorem m1_16 : mt [a] 16 = a 4 := by
  show exk a (mt []) 16 5 = _
  rw [ex_16]
  show 0 + a 4 * 1 = a 4
  omega
theorem m2_17 : mt [b, a] 17 = d2 a b 0 4 := by
  show exk b (mt [a]) 17 5 = _
  rw [ex_17, m1_16, m1_1]
  unfold d2
  grind
theorem m2_18 : mt [b, a] 18 = d2 a b 1 4 := by
  show exk b (mt [a]) 18 5 = _
  rw [ex_18, m1_16, m1_2]
  unfold d2
  grind
theorem m3_19 : mt [c, b, a] 19 = d3 a b c 0 1 4 := by
  show exk c (mt [b, a]) 19 5 = _
  rw [ex_19, m2_18, m2_17, m2_3]
  unfold d3
  grind
theorem m2_20 : mt [b, a] 20 = d2 a b 2 4 := by
  show exk b (mt [a]) 20 5 = _
  rw [ex_20, m1_16, m1_4]
  unfold d2
  grind
theorem m3_21 : mt [c, b, a] 21 = d3 a b c 0 2 4 := by
  show exk c (mt [b, a]) 21 5 = _
  rw [ex_21, m2_20, m2_17, m2_5]
  unfold d3
  grind
theorem m3_22 : mt [c, b, a] 22 = d3 a b c 1 2 4 := by
  show exk c (mt [b, a]) 22 5 = _
  rw [ex_22, m2_20, m2_18, m2_6]
  unfold d3
  grind
theorem m4_23 : mt [d, c, b, a] 23 = d4 a b c d 0 1 2 4 := by
  show exk d (mt [c, b, a]) 23 5 = _
  rw [ex_23, m3_22, m3_21, m3_19, m3_7]
  unfold d4
  grind
theorem m2_24 : mt [b, a] 24 = d2 a b 3 4 := by
  show exk b (mt [a]) 24 5 = _
  rw [ex_24, m1_16, m1_8]
  unfold d2
  grind
theorem m3_25 : mt [c, b, a] 25 = d3 a b c 0 3 4 := by
  show exk c (mt [b, a]) 25 5 = _
  rw [ex_25, m2_24, m2_17, m2_9]
  unfold d3
  grind
theorem m3_26 : mt [c, b, a] 26 = d3 a b c 1 3 4 := by
  show exk c (mt [b, a]) 26 5 = _
  rw [ex_26, m2_24, m2_18, m2_10]
  unfold d3
  grind
theorem m4_27 : mt [d, c, b, a] 27 = d4 a b c d 0 1 3 4 := by
  show exk d (mt [c, b, a]) 27 5 = _
  rw [ex_27, m3_26, m3_25, m3_19, m3_11]
  unfold d4
  grind
theorem m3_28 : mt [c, b, a] 28 = d3 a b c 2 3 4 := by
  show exk c (mt [b, a]) 28 5 = _
  rw [ex_28, m2_24, m2_20, m2_12]
  unfold d3
  grind
theorem m4_29 : mt [d, c, b, a] 29 = d4 a b c d 0 2 3 4 := by
  show exk d (mt [c, b, a]) 29 5 = _
  rw [ex_29, m3_28, m3_25, m3_21, m3_13]
  unfold d4
  grind
theorem m4_30 : mt [d, c, b, a] 30 = d4 a b c d 1 2 3 4 := by
  show exk d (mt [c, b, a]) 30 5 = _
  rw [ex_30, m3_28, m3_26, m3_22, m3_14]
  unfold d4
  grind
end MT
end
section
set_option maxRecDepth 100000
/-- the rows of a set -/
def Rs (z : Nat → Int) (u : Nat) (r : Nat → Int) : Prop := ∃ i, i < 4 ∧ u / 2 ^ i % 2 = 1 ∧ r = row z i
def Ft (z : Nat → Int) (u1 u2 A B : Nat) : Prop := bd A u1 = 0 ∧ bd B u2 = 0 ∧ on A = on B ∧ mt (rl z A 4) B ≠ 0
def Rk1 (z : Nat → Int) (u1 u2 mo : Nat) : Prop := mo = 0 ∨ ∃ A B, A < 16 ∧ B < 32 ∧ on A = mo ∧ Ft z u1 u2 A B
def Rk2 (z : Nat → Int) (u1 u2 sA sB mo : Nat) : Prop := ∀ A B, 1 ≤ A → 1 ≤ B → B < 32 → (A < sA ∨ A = sA ∧ B < sB) → Ft z u1 u2 A B → on A ≤ mo
section RKM
variable {z : Nat → Int} {u1 u2 sA sB mo m : Nat}
theorem rk_0 : Rk2 z u1 u2 1 1 0 := fun A B h1 h2 h3 h4 _ => by omega
theorem rk_no (h : Rk2 z u1 u2 sA sB mo) (h2 : ¬ Ft z u1 u2 sA sB ∨ on sA ≤ mo) : Rk2 z u1 u2 sA (sB + 1) mo := by
  intro A B g1 g2 g3 g4 g5
  by_cases q : A = sA ∧ B = sB
  · obtain ⟨rfl, rfl⟩ := q
    rcases h2 with h2 | h2
    · exact absurd g5 h2
    · exact h2
  · exact h A B g1 g2 g3 (by omega) g5
theorem rk_yes (h : Rk2 z u1 u2 sA sB mo) (hm : mo ≤ on sA) : Rk2 z u1 u2 sA (sB + 1) (on sA) := by
  intro A B g1 g2 g3 g4 g5
  by_cases q : A = sA ∧ B = sB
  · rw [q.1]; exact Nat.le_refl _
  · exact Nat.le_trans (h A B g1 g2 g3 (by omega) g5) hm
theorem rk_nx (h : Rk2 z u1 u2 sA 32 mo) : Rk2 z u1 u2 (sA + 1) 1 mo := fun A B g1 g2 g3 g4 g5 => h A B g1 g2 g3 (by omega) g5
end RKM
theorem so2 {Z : Nat → Nat → Prop} (s : ∀ i j, Z i j → Z j i) (e : ∀ i, Z i i) (h : ∀ i j, i < j → Z i j) : ∀ i j, Z i j := by
  intro i j
  rcases Nat.lt_trichotomy i j with q | q | q
  · exact h i j q
  · rw [q]; exact e j
  · exact s _ _ (h j i q)
theorem so3 {Z : Nat → Nat → Nat → Prop} (s1 : ∀ i j k, Z i j k → Z j i k) (s2 : ∀ i j k, Z i j k → Z i k j) (e : ∀ i k, Z i i k) (h : ∀ i j k, i < j → j < k → Z i j k) : ∀ i j k, Z i j k := by
  have h1 : ∀ i j, i < j → ∀ k, Z i j k := by
    intro i j hij k
    rcases Nat.lt_trichotomy j k with q | q | q
    · exact h i j k hij q
    · rw [← q]; exact s1 _ _ _ (s2 _ _ _ (e j i))
    · apply s2
      rcases Nat.lt_trichotomy i k with q2 | q2 | q2
      · exact h i k j q2 q
      · rw [← q2]; exact e i j
      · exact s1 _ _ _ (h k i j q2 hij)
  intro i j
  exact so2 (Z := fun i j => ∀ k, Z i j k) (fun i j g k => s1 _ _ _ (g k)) (fun i k => e i k) h1 i j
theorem so4 {Z : Nat → Nat → Nat → Nat → Prop} (s1 : ∀ i j k l, Z i j k l → Z j i k l) (s2 : ∀ i j k l, Z i j k l → Z i k j l) (s3 : ∀ i j k l, Z i j k l → Z i j l k) (e : ∀ i k l, Z i i k l) (h : ∀ i j k l, i < j → j < k → k < l → Z i j k l) : ∀ i j k l, Z i j k l := by
  have e2 : ∀ i j l, Z i j j l := fun i j l => s1 _ _ _ _ (s2 _ _ _ _ (e j i l))
  have e3 : ∀ i j k, Z i j k k := fun i j k => s2 _ _ _ _ (s3 _ _ _ _ (e2 i k j))
  have h1 : ∀ i j k, i < j → j < k → ∀ l, Z i j k l := by
    intro i j k hij hjk l
    rcases Nat.lt_trichotomy k l with q | q | q
    · exact h i j k l hij hjk q
    · rw [← q]; exact e3 i j k
    · apply s3
      rcases Nat.lt_trichotomy j l with q2 | q2 | q2
      · exact h i j l k hij q2 q
      · rw [← q2]; exact e2 i j k
      · apply s2
        rcases Nat.lt_trichotomy i l with q3 | q3 | q3
        · exact h i l j k q3 q2 hjk
        · rw [← q3]; exact e i j k
        · exact s1 _ _ _ _ (h l i j k q3 hij hjk)
  intro i j k
  exact so3 (Z := fun i j k => ∀ l, Z i j k l) (fun i j k g l => s1 _ _ _ _ (g l)) (fun i j k g l => s2 _ _ _ _ (g l)) (fun i k l => e i k l) h1 i j k
section SW
variable {a b c d : Nat → Int} {x y z t : Nat}
theorem sx3 : d3 a c b x y z = -d3 a b c x y z := by unfold d3 d2; grind
theorem sx4 : d4 a c b d x y z t = -d4 a b c d x y z t := by unfold d4 d3 d2; grind
theorem sy4 : d4 a b d c x y z t = -d4 a b c d x y z t := by unfold d4 d3 d2; grind
end SW
theorem cb_in {m u2 x : Nat} (hm : m = 4 ∧ u2 = 15 ∨ m = 5 ∧ u2 = 31) (hx : x < m) : x < 5 ∧ u2 < 32 ∧ u2 / 2 ^ x % 2 = 1 := by
  have h1 : ∀ x, x < 4 → 15 / 2 ^ x % 2 = 1 := by decide
  have h2 : ∀ x, x < 5 → 31 / 2 ^ x % 2 = 1 := by decide
  rcases hm with ⟨rfl, rfl⟩ | ⟨rfl, rfl⟩
  · exact ⟨by omega, by omega, h1 x hx⟩
  · exact ⟨by omega, by omega, h2 x hx⟩
theorem bd_sub : ∀ A, A < 16 → ∀ X, X < 16 → bd A X = 0 → ∀ i, i < 4 → A / 2 ^ i % 2 = 1 → X / 2 ^ i % 2 = 1 := by decide +kernel
theorem bd_15 : ∀ B, B < 32 → bd B 15 = 0 → B < 16 := by decide +kernel
theorem pr5_1 : ∀ i1, i1 < 5 → on (2 ^ i1) = 1 ∧ 1 ≤ 2 ^ i1 ∧ 2 ^ i1 < 32 := by
  intro i1 g1 
  have q : (i1 = 0) ∨ (i1 = 1) ∨ (i1 = 2) ∨ (i1 = 3) ∨ (i1 = 4) := by omega
  rcases q with rfl | rfl | rfl | rfl | rfl <;> decide +kernel
theorem pr4_1 : ∀ i1, i1 < 4 → 2 ^ i1 < 16 := by
  intro i1 g1 
  have q : (i1 = 0) ∨ (i1 = 1) ∨ (i1 = 2) ∨ (i1 = 3) := by omega
  rcases q with rfl | rfl | rfl | rfl <;> decide +kernel
theorem br0_1 : ∀ i1, i1 < 5 → ∀ X, X < 32 → X / 2 ^ i1 % 2 = 1 → bd (2 ^ i1) X = 0 := by
  intro i1 g1 
  have q : (i1 = 0) ∨ (i1 = 1) ∨ (i1 = 2) ∨ (i1 = 3) ∨ (i1 = 4) := by omega
  rcases q with rfl | rfl | rfl | rfl | rfl <;> decide +kernel
theorem br_1 : ∀ X, X < 32 → ∀ i1, i1 < 5 → X / 2 ^ i1 % 2 = 1 → bd (2 ^ i1) X = 0 := fun X hX i1 g1  => br0_1 i1 g1  X hX
theorem inv4_1 : ∀ A, A < 16 → on A = 1 → ∃ i1, i1 < 4 ∧ A = 2 ^ i1 ∧ A / 2 ^ i1 % 2 = 1 := by
  have w : ∀ A, A < 16 → on A = 1 → A = 1 ∨ A = 2 ∨ A = 4 ∨ A = 8 := by decide +kernel
  intro A h1 h2
  rcases w A h1 h2 with rfl | rfl | rfl | rfl
  · exact ⟨0, by decide, by decide, by decide⟩
  · exact ⟨1, by decide, by decide, by decide⟩
  · exact ⟨2, by decide, by decide, by decide⟩
  · exact ⟨3, by decide, by decide, by decide⟩
theorem inv5_1 : ∀ A, A < 32 → on A = 1 → ∃ i1, i1 < 5 ∧ A = 2 ^ i1 ∧ A / 2 ^ i1 % 2 = 1 := by
  have w : ∀ A, A < 32 → on A = 1 → A = 1 ∨ A = 2 ∨ A = 4 ∨ A = 8 ∨ A = 16 := by decide +kernel
  intro A h1 h2
  rcases w A h1 h2 with rfl | rfl | rfl | rfl | rfl
  · exact ⟨0, by decide, by decide, by decide⟩
  · exact ⟨1, by decide, by decide, by decide⟩
  · exact ⟨2, by decide, by decide, by decide⟩
  · exact ⟨3, by decide, by decide, by decide⟩
  · exact ⟨4, by decide, by decide, by decide⟩
theorem rl_1 (z : Nat → Int) {i1 : Nat}  (h : i1 < 4) : rl z (2 ^ i1) 4 = [row z i1] := by
  have q : (i1 = 0) ∨ (i1 = 1) ∨ (i1 = 2) ∨ (i1 = 3) := by omega
  rcases q with rfl | rfl | rfl | rfl <;> rfl
theorem mm_1 (a : Nat → Int) {c1 : Nat}  (h : c1 < 5) : mt [a] (2 ^ c1) = a c1 := by
  have q : (c1 = 0) ∨ (c1 = 1) ∨ (c1 = 2) ∨ (c1 = 3) ∨ (c1 = 4) := by omega
  rcases q with rfl | rfl | rfl | rfl | rfl
  · exact m1_1 a
  · exact m1_2 a
  · exact m1_4 a
  · exact m1_8 a
  · exact m1_16 a
theorem vs_1 {z : Nat → Int} {u1 u2 mo m i1 c1 : Nat} (hu : u1 < 16) (hm : m = 4 ∧ u2 = 15 ∨ m = 5 ∧ u2 = 31) (hR : Rk2 z u1 u2 16 1 mo) (hmo : mo < 1)  (h : i1 < 4) (e1 : u1 / 2 ^ i1 % 2 = 1)  (g : c1 < m) : row z i1 c1 = 0 := by
  have k1 := cb_in (x := c1) hm (by omega)
  have p1 := pr5_1 i1 (by omega)
  have p2 := pr4_1 i1 (by omega)
  have p3 := pr5_1 c1 (by omega)
  have b1 := br_1 u1 (by omega) i1 (by omega) e1
  have b2 := br_1 u2 k1.2.1 c1 (by omega) k1.2.2
  refine Classical.byContradiction fun q => ?_
  have w := hR (2 ^ i1) (2 ^ c1) p1.2.1 p3.2.1 p3.2.2 (Or.inl p2) ⟨b1, b2, by rw [p1.1, p3.1], by rw [rl_1 z h, mm_1 _  k1.1]; exact q⟩
  rw [p1.1] at w
  omega
theorem vk_1 {z : Nat → Int} {u1 u2 mo m : Nat} (hu : u1 < 16) (hm : m = 4 ∧ u2 = 15 ∨ m = 5 ∧ u2 = 31) (hR : Rk2 z u1 u2 16 1 mo) (hmo : mo < 1) : Vk 0 m (Rs z u1) 1 := by
  rintro a ⟨i1, q1, e1, rfl⟩ c1  g
  exact cg.of (vs_1 hu hm hR hmo q1 e1 g)
theorem nv_1 {z : Nat → Int} {u1 u2 m A B : Nat} (hu : u1 < 16) (hm : m = 4 ∧ u2 = 15 ∨ m = 5 ∧ u2 = 31) (hA : A < 16) (hB : B < 32) (hk : on A = 1) (hF : Ft z u1 u2 A B) : ¬ Vk 0 m (Rs z u1) 1 := by
  obtain ⟨f1, f2, f3, f4⟩ := hF
  intro v
  obtain ⟨i1, l1, eA, e1⟩ := inv4_1 A hA hk
  have hB2 : on B = 1 := by rw [← f3]; exact hk
  have hc : ∃ c1, c1 < m ∧ c1 < 5 ∧ B = 2 ^ c1 := by
    rcases hm with ⟨rfl, rfl⟩ | ⟨rfl, rfl⟩
    · obtain ⟨c1, t1, eB, _⟩ := inv4_1 B (bd_15 B hB f2) hB2
      exact ⟨c1, t1, by omega, eB⟩
    · obtain ⟨c1, t1, eB, _⟩ := inv5_1 B hB hB2
      exact ⟨c1, t1, by omega, eB⟩
  obtain ⟨c1, t1, t2, eB⟩ := hc
  have b1 := bd_sub A hA u1 hu f1 i1 l1 e1
  have w := v _ ⟨i1, l1, b1, rfl⟩ c1  t1
  apply f4
  rw [eA, eB, rl_1 z  l1, mm_1 _  t2]
  exact cg_0.mp w
theorem pr5_2 : ∀ i1, i1 < 5 → ∀ i2, i2 < 5 → i1 < i2 → on (2 ^ i1 + 2 ^ i2) = 2 ∧ 1 ≤ 2 ^ i1 + 2 ^ i2 ∧ 2 ^ i1 + 2 ^ i2 < 32 := by
  intro i1 g1 i2 g2 h1
  have q : (i1 = 0 ∧ i2 = 1) ∨ (i1 = 0 ∧ i2 = 2) ∨ (i1 = 0 ∧ i2 = 3) ∨ (i1 = 0 ∧ i2 = 4) ∨ (i1 = 1 ∧ i2 = 2) ∨ (i1 = 1 ∧ i2 = 3) ∨ (i1 = 1 ∧ i2 = 4) ∨ (i1 = 2 ∧ i2 = 3) ∨ (i1 = 2 ∧ i2 = 4) ∨ (i1 = 3 ∧ i2 = 4) := by omega
  rcases q with ⟨rfl, rfl⟩ | ⟨rfl, rfl⟩ | ⟨rfl, rfl⟩ | ⟨rfl, rfl⟩ | ⟨rfl, rfl⟩ | ⟨rfl, rfl⟩ | ⟨rfl, rfl⟩ | ⟨rfl, rfl⟩ | ⟨rfl, rfl⟩ | ⟨rfl, rfl⟩ <;> decide +kernel
theorem pr4_2 : ∀ i1, i1 < 4 → ∀ i2, i2 < 4 → i1 < i2 → 2 ^ i1 + 2 ^ i2 < 16 := by
  intro i1 g1 i2 g2 h1
  have q : (i1 = 0 ∧ i2 = 1) ∨ (i1 = 0 ∧ i2 = 2) ∨ (i1 = 0 ∧ i2 = 3) ∨ (i1 = 1 ∧ i2 = 2) ∨ (i1 = 1 ∧ i2 = 3) ∨ (i1 = 2 ∧ i2 = 3) := by omega
  rcases q with ⟨rfl, rfl⟩ | ⟨rfl, rfl⟩ | ⟨rfl, rfl⟩ | ⟨rfl, rfl⟩ | ⟨rfl, rfl⟩ | ⟨rfl, rfl⟩ <;> decide +kernel
theorem br0_2 : ∀ i1, i1 < 5 → ∀ i2, i2 < 5 → i1 < i2 → ∀ X, X < 32 → X / 2 ^ i1 % 2 = 1 → X / 2 ^ i2 % 2 = 1 → bd (2 ^ i1 + 2 ^ i2) X = 0 := by
  intro i1 g1 i2 g2 h1
  have q : (i1 = 0 ∧ i2 = 1) ∨ (i1 = 0 ∧ i2 = 2) ∨ (i1 = 0 ∧ i2 = 3) ∨ (i1 = 0 ∧ i2 = 4) ∨ (i1 = 1 ∧ i2 = 2) ∨ (i1 = 1 ∧ i2 = 3) ∨ (i1 = 1 ∧ i2 = 4) ∨ (i1 = 2 ∧ i2 = 3) ∨ (i1 = 2 ∧ i2 = 4) ∨ (i1 = 3 ∧ i2 = 4) := by omega
  rcases q with ⟨rfl, rfl⟩ | ⟨rfl, rfl⟩ | ⟨rfl, rfl⟩ | ⟨rfl, rfl⟩ | ⟨rfl, rfl⟩ | ⟨rfl, rfl⟩ | ⟨rfl, rfl⟩ | ⟨rfl, rfl⟩ | ⟨rfl, rfl⟩ | ⟨rfl, rfl⟩ <;> decide +kernel
theorem br_2 : ∀ X, X < 32 → ∀ i1, i1 < 5 → ∀ i2, i2 < 5 → i1 < i2 → X / 2 ^ i1 % 2 = 1 → X / 2 ^ i2 % 2 = 1 → bd (2 ^ i1 + 2 ^ i2) X = 0 := fun X hX i1 g1 i2 g2 h1 => br0_2 i1 g1 i2 g2 h1 X hX
theorem inv4_2 : ∀ A, A < 16 → on A = 2 → ∃ i1, i1 < 4 ∧ ∃ i2, i2 < 4 ∧ i1 < i2 ∧ A = 2 ^ i1 + 2 ^ i2 ∧ A / 2 ^ i1 % 2 = 1 ∧ A / 2 ^ i2 % 2 = 1 := by
  have w : ∀ A, A < 16 → on A = 2 → A = 3 ∨ A = 5 ∨ A = 9 ∨ A = 6 ∨ A = 10 ∨ A = 12 := by decide +kernel
  intro A h1 h2
  rcases w A h1 h2 with rfl | rfl | rfl | rfl | rfl | rfl
  · exact ⟨0, by decide, 1, by decide, by decide, by decide, by decide, by decide⟩
  · exact ⟨0, by decide, 2, by decide, by decide, by decide, by decide, by decide⟩
  · exact ⟨0, by decide, 3, by decide, by decide, by decide, by decide, by decide⟩
  · exact ⟨1, by decide, 2, by decide, by decide, by decide, by decide, by decide⟩
  · exact ⟨1, by decide, 3, by decide, by decide, by decide, by decide, by decide⟩
  · exact ⟨2, by decide, 3, by decide, by decide, by decide, by decide, by decide⟩
theorem inv5_2 : ∀ A, A < 32 → on A = 2 → ∃ i1, i1 < 5 ∧ ∃ i2, i2 < 5 ∧ i1 < i2 ∧ A = 2 ^ i1 + 2 ^ i2 ∧ A / 2 ^ i1 % 2 = 1 ∧ A / 2 ^ i2 % 2 = 1 := by
  have w : ∀ A, A < 32 → on A = 2 → A = 3 ∨ A = 5 ∨ A = 9 ∨ A = 17 ∨ A = 6 ∨ A = 10 ∨ A = 18 ∨ A = 12 ∨ A = 20 ∨ A = 24 := by decide +kernel
  intro A h1 h2
  rcases w A h1 h2 with rfl | rfl | rfl | rfl | rfl | rfl | rfl | rfl | rfl | rfl
  · exact ⟨0, by decide, 1, by decide, by decide, by decide, by decide, by decide⟩
  · exact ⟨0, by decide, 2, by decide, by decide, by decide, by decide, by decide⟩
  · exact ⟨0, by decide, 3, by decide, by decide, by decide, by decide, by decide⟩
  · exact ⟨0, by decide, 4, by decide, by decide, by decide, by decide, by decide⟩
  · exact ⟨1, by decide, 2, by decide, by decide, by decide, by decide, by decide⟩
  · exact ⟨1, by decide, 3, by decide, by decide, by decide, by decide, by decide⟩
  · exact ⟨1, by decide, 4, by decide, by decide, by decide, by decide, by decide⟩
  · exact ⟨2, by decide, 3, by decide, by decide, by decide, by decide, by decide⟩
  · exact ⟨2, by decide, 4, by decide, by decide, by decide, by decide, by decide⟩
  · exact ⟨3, by decide, 4, by decide, by decide, by decide, by decide, by decide⟩
theorem rl_2 (z : Nat → Int) {i1 i2 : Nat} (h1 : i1 < i2) (h : i2 < 4) : rl z (2 ^ i1 + 2 ^ i2) 4 = [row z i2, row z i1] := by
  have q : (i1 = 0 ∧ i2 = 1) ∨ (i1 = 0 ∧ i2 = 2) ∨ (i1 = 0 ∧ i2 = 3) ∨ (i1 = 1 ∧ i2 = 2) ∨ (i1 = 1 ∧ i2 = 3) ∨ (i1 = 2 ∧ i2 = 3) := by omega
  rcases q with ⟨rfl, rfl⟩ | ⟨rfl, rfl⟩ | ⟨rfl, rfl⟩ | ⟨rfl, rfl⟩ | ⟨rfl, rfl⟩ | ⟨rfl, rfl⟩ <;> rfl
theorem mm_2 (a b : Nat → Int) {c1 c2 : Nat} (h1 : c1 < c2) (h : c2 < 5) : mt [b, a] (2 ^ c1 + 2 ^ c2) = d2 a b c1 c2 := by
  have q : (c1 = 0 ∧ c2 = 1) ∨ (c1 = 0 ∧ c2 = 2) ∨ (c1 = 0 ∧ c2 = 3) ∨ (c1 = 0 ∧ c2 = 4) ∨ (c1 = 1 ∧ c2 = 2) ∨ (c1 = 1 ∧ c2 = 3) ∨ (c1 = 1 ∧ c2 = 4) ∨ (c1 = 2 ∧ c2 = 3) ∨ (c1 = 2 ∧ c2 = 4) ∨ (c1 = 3 ∧ c2 = 4) := by omega
  rcases q with ⟨rfl, rfl⟩ | ⟨rfl, rfl⟩ | ⟨rfl, rfl⟩ | ⟨rfl, rfl⟩ | ⟨rfl, rfl⟩ | ⟨rfl, rfl⟩ | ⟨rfl, rfl⟩ | ⟨rfl, rfl⟩ | ⟨rfl, rfl⟩ | ⟨rfl, rfl⟩
  · exact m2_3 a b
  · exact m2_5 a b
  · exact m2_9 a b
  · exact m2_17 a b
  · exact m2_6 a b
  · exact m2_10 a b
  · exact m2_18 a b
  · exact m2_12 a b
  · exact m2_20 a b
  · exact m2_24 a b
theorem vs_2 {z : Nat → Int} {u1 u2 mo m i1 i2 c1 c2 : Nat} (hu : u1 < 16) (hm : m = 4 ∧ u2 = 15 ∨ m = 5 ∧ u2 = 31) (hR : Rk2 z u1 u2 16 1 mo) (hmo : mo < 2) (h1 : i1 < i2) (h : i2 < 4) (e1 : u1 / 2 ^ i1 % 2 = 1) (e2 : u1 / 2 ^ i2 % 2 = 1) (g1 : c1 < c2) (g : c2 < m) : d2 (row z i1) (row z i2) c1 c2 = 0 := by
  have k1 := cb_in (x := c1) hm (by omega)
  have k2 := cb_in (x := c2) hm (by omega)
  have p1 := pr5_2 i1 (by omega) i2 (by omega) h1
  have p2 := pr4_2 i1 (by omega) i2 (by omega) h1
  have p3 := pr5_2 c1 (by omega) c2 (by omega) g1
  have b1 := br_2 u1 (by omega) i1 (by omega) i2 (by omega) h1 e1 e2
  have b2 := br_2 u2 k1.2.1 c1 (by omega) c2 (by omega) g1 k1.2.2 k2.2.2
  refine Classical.byContradiction fun q => ?_
  have w := hR (2 ^ i1 + 2 ^ i2) (2 ^ c1 + 2 ^ c2) p1.2.1 p3.2.1 p3.2.2 (Or.inl p2) ⟨b1, b2, by rw [p1.1, p3.1], by rw [rl_2 z h1 h, mm_2 _ _ g1 k2.1]; exact q⟩
  rw [p1.1] at w
  omega
theorem vk_2 {z : Nat → Int} {u1 u2 mo m : Nat} (hu : u1 < 16) (hm : m = 4 ∧ u2 = 15 ∨ m = 5 ∧ u2 = 31) (hR : Rk2 z u1 u2 16 1 mo) (hmo : mo < 2) : Vk 0 m (Rs z u1) 2 := by
  rintro a b ⟨i1, q1, e1, rfl⟩ ⟨i2, q2, e2, rfl⟩ c1 c2 g1 g
  exact cg.of (so2 (Z := fun i1 i2 => i1 < 4 → u1 / 2 ^ i1 % 2 = 1 → i2 < 4 → u1 / 2 ^ i2 % 2 = 1 → d2 (row z i1) (row z i2) c1 c2 = 0) (fun i1 i2 w p1 r1 p2 r2 => by rw [sw2, w p2 r2 p1 r1, Int.neg_zero]) (fun i1 _ _ _ _ => al2) (fun i1 i2 s1 p1 r1 p2 r2 => vs_2 hu hm hR hmo s1 p2 r1 r2 g1 g) i1 i2 q1 e1 q2 e2)
theorem nv_2 {z : Nat → Int} {u1 u2 m A B : Nat} (hu : u1 < 16) (hm : m = 4 ∧ u2 = 15 ∨ m = 5 ∧ u2 = 31) (hA : A < 16) (hB : B < 32) (hk : on A = 2) (hF : Ft z u1 u2 A B) : ¬ Vk 0 m (Rs z u1) 2 := by
  obtain ⟨f1, f2, f3, f4⟩ := hF
  intro v
  obtain ⟨i1, l1, i2, l2, h1, eA, e1, e2⟩ := inv4_2 A hA hk
  have hB2 : on B = 2 := by rw [← f3]; exact hk
  have hc : ∃ c1, ∃ c2, c1 < c2 ∧ c2 < m ∧ c2 < 5 ∧ B = 2 ^ c1 + 2 ^ c2 := by
    rcases hm with ⟨rfl, rfl⟩ | ⟨rfl, rfl⟩
    · obtain ⟨c1, t1, c2, t2, g1, eB, _, _⟩ := inv4_2 B (bd_15 B hB f2) hB2
      exact ⟨c1, c2, g1, t2, by omega, eB⟩
    · obtain ⟨c1, t1, c2, t2, g1, eB, _, _⟩ := inv5_2 B hB hB2
      exact ⟨c1, c2, g1, t2, by omega, eB⟩
  obtain ⟨c1, c2, g1, t1, t2, eB⟩ := hc
  have b1 := bd_sub A hA u1 hu f1 i1 l1 e1
  have b2 := bd_sub A hA u1 hu f1 i2 l2 e2
  have w := v _ _ ⟨i1, l1, b1, rfl⟩ ⟨i2, l2, b2, rfl⟩ c1 c2 g1 t1
  apply f4
  rw [eA, eB, rl_2 z h1 l2, mm_2 _ _ g1 t2]
  exact cg_0.mp w
theorem pr5_3 : ∀ i1, i1 < 5 → ∀ i2, i2 < 5 → ∀ i3, i3 < 5 → i1 < i2 → i2 < i3 → on (2 ^ i1 + 2 ^ i2 + 2 ^ i3) = 3 ∧ 1 ≤ 2 ^ i1 + 2 ^ i2 + 2 ^ i3 ∧ 2 ^ i1 + 2 ^ i2 + 2 ^ i3 < 32 := by
  intro i1 g1 i2 g2 i3 g3 h1 h2
  have q : (i1 = 0 ∧ i2 = 1 ∧ i3 = 2) ∨ (i1 = 0 ∧ i2 = 1 ∧ i3 = 3) ∨ (i1 = 0 ∧ i2 = 1 ∧ i3 = 4) ∨ (i1 = 0 ∧ i2 = 2 ∧ i3 = 3) ∨ (i1 = 0 ∧ i2 = 2 ∧ i3 = 4) ∨ (i1 = 0 ∧ i2 = 3 ∧ i3 = 4) ∨ (i1 = 1 ∧ i2 = 2 ∧ i3 = 3) ∨ (i1 = 1 ∧ i2 = 2 ∧ i3 = 4) ∨ (i1 = 1 ∧ i2 = 3 ∧ i3 = 4) ∨ (i1 = 2 ∧ i2 = 3 ∧ i3 = 4) := by omega
  rcases q with ⟨rfl, rfl, rfl⟩ | ⟨rfl, rfl, rfl⟩ | ⟨rfl, rfl, rfl⟩ | ⟨rfl, rfl, rfl⟩ | ⟨rfl, rfl, rfl⟩ | ⟨rfl, rfl, rfl⟩ | ⟨rfl, rfl, rfl⟩ | ⟨rfl, rfl, rfl⟩ | ⟨rfl, rfl, rfl⟩ | ⟨rfl, rfl, rfl⟩ <;> decide +kernel
theorem pr4_3 : ∀ i1, i1 < 4 → ∀ i2, i2 < 4 → ∀ i3, i3 < 4 → i1 < i2 → i2 < i3 → 2 ^ i1 + 2 ^ i2 + 2 ^ i3 < 16 := by
  intro i1 g1 i2 g2 i3 g3 h1 h2
  have q : (i1 = 0 ∧ i2 = 1 ∧ i3 = 2) ∨ (i1 = 0 ∧ i2 = 1 ∧ i3 = 3) ∨ (i1 = 0 ∧ i2 = 2 ∧ i3 = 3) ∨ (i1 = 1 ∧ i2 = 2 ∧ i3 = 3) := by omega
  rcases q with ⟨rfl, rfl, rfl⟩ | ⟨rfl, rfl, rfl⟩ | ⟨rfl, rfl, rfl⟩ | ⟨rfl, rfl, rfl⟩ <;> decide +kernel
theorem br0_3 : ∀ i1, i1 < 5 → ∀ i2, i2 < 5 → ∀ i3, i3 < 5 → i1 < i2 → i2 < i3 → ∀ X, X < 32 → X / 2 ^ i1 % 2 = 1 → X / 2 ^ i2 % 2 = 1 → X / 2 ^ i3 % 2 = 1 → bd (2 ^ i1 + 2 ^ i2 + 2 ^ i3) X = 0 := by
  intro i1 g1 i2 g2 i3 g3 h1 h2
  have q : (i1 = 0 ∧ i2 = 1 ∧ i3 = 2) ∨ (i1 = 0 ∧ i2 = 1 ∧ i3 = 3) ∨ (i1 = 0 ∧ i2 = 1 ∧ i3 = 4) ∨ (i1 = 0 ∧ i2 = 2 ∧ i3 = 3) ∨ (i1 = 0 ∧ i2 = 2 ∧ i3 = 4) ∨ (i1 = 0 ∧ i2 = 3 ∧ i3 = 4) ∨ (i1 = 1 ∧ i2 = 2 ∧ i3 = 3) ∨ (i1 = 1 ∧ i2 = 2 ∧ i3 = 4) ∨ (i1 = 1 ∧ i2 = 3 ∧ i3 = 4) ∨ (i1 = 2 ∧ i2 = 3 ∧ i3 = 4) := by omega
  rcases q with ⟨rfl, rfl, rfl⟩ | ⟨rfl, rfl, rfl⟩ | ⟨rfl, rfl, rfl⟩ | ⟨rfl, rfl, rfl⟩ | ⟨rfl, rfl, rfl⟩ | ⟨rfl, rfl, rfl⟩ | ⟨rfl, rfl, rfl⟩ | ⟨rfl, rfl, rfl⟩ | ⟨rfl, rfl, rfl⟩ | ⟨rfl, rfl, rfl⟩ <;> decide +kernel
theorem br_3 : ∀ X, X < 32 → ∀ i1, i1 < 5 → ∀ i2, i2 < 5 → ∀ i3, i3 < 5 → i1 < i2 → i2 < i3 → X / 2 ^ i1 % 2 = 1 → X / 2 ^ i2 % 2 = 1 → X / 2 ^ i3 % 2 = 1 → bd (2 ^ i1 + 2 ^ i2 + 2 ^ i3) X = 0 := fun X hX i1 g1 i2 g2 i3 g3 h1 h2 => br0_3 i1 g1 i2 g2 i3 g3 h1 h2 X hX
theorem inv4_3 : ∀ A, A < 16 → on A = 3 → ∃ i1, i1 < 4 ∧ ∃ i2, i2 < 4 ∧ ∃ i3, i3 < 4 ∧ i1 < i2 ∧ i2 < i3 ∧ A = 2 ^ i1 + 2 ^ i2 + 2 ^ i3 ∧ A / 2 ^ i1 % 2 = 1 ∧ A / 2 ^ i2 % 2 = 1 ∧ A / 2 ^ i3 % 2 = 1 := by
  have w : ∀ A, A < 16 → on A = 3 → A = 7 ∨ A = 11 ∨ A = 13 ∨ A = 14 := by decide +kernel
  intro A h1 h2
  rcases w A h1 h2 with rfl | rfl | rfl | rfl
  · exact ⟨0, by decide, 1, by decide, 2, by decide, by decide, by decide, by decide, by decide, by decide, by decide⟩
  · exact ⟨0, by decide, 1, by decide, 3, by decide, by decide, by decide, by decide, by decide, by decide, by decide⟩
  · exact ⟨0, by decide, 2, by decide, 3, by decide, by decide, by decide, by decide, by decide, by decide, by decide⟩
  · exact ⟨1, by decide, 2, by decide, 3, by decide, by decide, by decide, by decide, by decide, by decide, by decide⟩
theorem inv5_3 : ∀ A, A < 32 → on A = 3 → ∃ i1, i1 < 5 ∧ ∃ i2, i2 < 5 ∧ ∃ i3, i3 < 5 ∧ i1 < i2 ∧ i2 < i3 ∧ A = 2 ^ i1 + 2 ^ i2 + 2 ^ i3 ∧ A / 2 ^ i1 % 2 = 1 ∧ A / 2 ^ i2 % 2 = 1 ∧ A / 2 ^ i3 % 2 = 1 := by
  have w : ∀ A, A < 32 → on A = 3 → A = 7 ∨ A = 11 ∨ A = 19 ∨ A = 13 ∨ A = 21 ∨ A = 25 ∨ A = 14 ∨ A = 22 ∨ A = 26 ∨ A = 28 := by decide +kernel
  intro A h1 h2
  rcases w A h1 h2 with rfl | rfl | rfl | rfl | rfl | rfl | rfl | rfl | rfl | rfl
  · exact ⟨0, by decide, 1, by decide, 2, by decide, by decide, by decide, by decide, by decide, by decide, by decide⟩
  · exact ⟨0, by decide, 1, by decide, 3, by decide, by decide, by decide, by decide, by decide, by decide, by decide⟩
  · exact ⟨0, by decide, 1, by decide, 4, by decide, by decide, by decide, by decide, by decide, by decide, by decide⟩
  · exact ⟨0, by decide, 2, by decide, 3, by decide, by decide, by decide, by decide, by decide, by decide, by decide⟩
  · exact ⟨0, by decide, 2, by decide, 4, by decide, by decide, by decide, by decide, by decide, by decide, by decide⟩
  · exact ⟨0, by decide, 3, by decide, 4, by decide, by decide, by decide, by decide, by decide, by decide, by decide⟩
  · exact ⟨1, by decide, 2, by decide, 3, by decide, by decide, by decide, by decide, by decide, by decide, by decide⟩
  · exact ⟨1, by decide, 2, by decide, 4, by decide, by decide, by decide, by decide, by decide, by decide, by decide⟩
  · exact ⟨1, by decide, 3, by decide, 4, by decide, by decide, by decide, by decide, by decide, by decide, by decide⟩
  · exact ⟨2, by decide, 3, by decide, 4, by decide, by decide, by decide, by decide, by decide, by decide, by decide⟩
theorem rl_3 (z : Nat → Int) {i1 i2 i3 : Nat} (h1 : i1 < i2) (h2 : i2 < i3) (h : i3 < 4) : rl z (2 ^ i1 + 2 ^ i2 + 2 ^ i3) 4 = [row z i3, row z i2, row z i1] := by
  have q : (i1 = 0 ∧ i2 = 1 ∧ i3 = 2) ∨ (i1 = 0 ∧ i2 = 1 ∧ i3 = 3) ∨ (i1 = 0 ∧ i2 = 2 ∧ i3 = 3) ∨ (i1 = 1 ∧ i2 = 2 ∧ i3 = 3) := by omega
  rcases q with ⟨rfl, rfl, rfl⟩ | ⟨rfl, rfl, rfl⟩ | ⟨rfl, rfl, rfl⟩ | ⟨rfl, rfl, rfl⟩ <;> rfl
theorem mm_3 (a b c : Nat → Int) {c1 c2 c3 : Nat} (h1 : c1 < c2) (h2 : c2 < c3) (h : c3 < 5) : mt [c, b, a] (2 ^ c1 + 2 ^ c2 + 2 ^ c3) = d3 a b c c1 c2 c3 := by
  have q : (c1 = 0 ∧ c2 = 1 ∧ c3 = 2) ∨ (c1 = 0 ∧ c2 = 1 ∧ c3 = 3) ∨ (c1 = 0 ∧ c2 = 1 ∧ c3 = 4) ∨ (c1 = 0 ∧ c2 = 2 ∧ c3 = 3) ∨ (c1 = 0 ∧ c2 = 2 ∧ c3 = 4) ∨ (c1 = 0 ∧ c2 = 3 ∧ c3 = 4) ∨ (c1 = 1 ∧ c2 = 2 ∧ c3 = 3) ∨ (c1 = 1 ∧ c2 = 2 ∧ c3 = 4) ∨ (c1 = 1 ∧ c2 = 3 ∧ c3 = 4) ∨ (c1 = 2 ∧ c2 = 3 ∧ c3 = 4) := by omega
  rcases q with ⟨rfl, rfl, rfl⟩ | ⟨rfl, rfl, rfl⟩ | ⟨rfl, rfl, rfl⟩ | ⟨rfl, rfl, rfl⟩ | ⟨rfl, rfl, rfl⟩ | ⟨rfl, rfl, rfl⟩ | ⟨rfl, rfl, rfl⟩ | ⟨rfl, rfl, rfl⟩ | ⟨rfl, rfl, rfl⟩ | ⟨rfl, rfl, rfl⟩
  · exact m3_7 a b c
  · exact m3_11 a b c
  · exact m3_19 a b c
  · exact m3_13 a b c
  · exact m3_21 a b c
  · exact m3_25 a b c
  · exact m3_14 a b c
  · exact m3_22 a b c
  · exact m3_26 a b c
  · exact m3_28 a b c
theorem vs_3 {z : Nat → Int} {u1 u2 mo m i1 i2 i3 c1 c2 c3 : Nat} (hu : u1 < 16) (hm : m = 4 ∧ u2 = 15 ∨ m = 5 ∧ u2 = 31) (hR : Rk2 z u1 u2 16 1 mo) (hmo : mo < 3) (h1 : i1 < i2) (h2 : i2 < i3) (h : i3 < 4) (e1 : u1 / 2 ^ i1 % 2 = 1) (e2 : u1 / 2 ^ i2 % 2 = 1) (e3 : u1 / 2 ^ i3 % 2 = 1) (g1 : c1 < c2) (g2 : c2 < c3) (g : c3 < m) : d3 (row z i1) (row z i2) (row z i3) c1 c2 c3 = 0 := by
  have k1 := cb_in (x := c1) hm (by omega)
  have k2 := cb_in (x := c2) hm (by omega)
  have k3 := cb_in (x := c3) hm (by omega)
  have p1 := pr5_3 i1 (by omega) i2 (by omega) i3 (by omega) h1 h2
  have p2 := pr4_3 i1 (by omega) i2 (by omega) i3 (by omega) h1 h2
  have p3 := pr5_3 c1 (by omega) c2 (by omega) c3 (by omega) g1 g2
  have b1 := br_3 u1 (by omega) i1 (by omega) i2 (by omega) i3 (by omega) h1 h2 e1 e2 e3
  have b2 := br_3 u2 k1.2.1 c1 (by omega) c2 (by omega) c3 (by omega) g1 g2 k1.2.2 k2.2.2 k3.2.2
  refine Classical.byContradiction fun q => ?_
  have w := hR (2 ^ i1 + 2 ^ i2 + 2 ^ i3) (2 ^ c1 + 2 ^ c2 + 2 ^ c3) p1.2.1 p3.2.1 p3.2.2 (Or.inl p2) ⟨b1, b2, by rw [p1.1, p3.1], by rw [rl_3 z h1 h2 h, mm_3 _ _ _ g1 g2 k3.1]; exact q⟩
  rw [p1.1] at w
  omega
theorem vk_3 {z : Nat → Int} {u1 u2 mo m : Nat} (hu : u1 < 16) (hm : m = 4 ∧ u2 = 15 ∨ m = 5 ∧ u2 = 31) (hR : Rk2 z u1 u2 16 1 mo) (hmo : mo < 3) : Vk 0 m (Rs z u1) 3 := by
  rintro a b c ⟨i1, q1, e1, rfl⟩ ⟨i2, q2, e2, rfl⟩ ⟨i3, q3, e3, rfl⟩ c1 c2 c3 g1 g2 g
  exact cg.of (so3 (Z := fun i1 i2 i3 => i1 < 4 → u1 / 2 ^ i1 % 2 = 1 → i2 < 4 → u1 / 2 ^ i2 % 2 = 1 → i3 < 4 → u1 / 2 ^ i3 % 2 = 1 → d3 (row z i1) (row z i2) (row z i3) c1 c2 c3 = 0) (fun i1 i2 i3 w p1 r1 p2 r2 p3 r3 => by rw [sw3a, w p2 r2 p1 r1 p3 r3, Int.neg_zero]) (fun i1 i2 i3 w p1 r1 p2 r2 p3 r3 => by rw [sx3, w p1 r1 p3 r3 p2 r2, Int.neg_zero]) (fun i1 _ _ _ _ _ _ _ => al3a) (fun i1 i2 i3 s1 s2 p1 r1 p2 r2 p3 r3 => vs_3 hu hm hR hmo s1 s2 p3 r1 r2 r3 g1 g2 g) i1 i2 i3 q1 e1 q2 e2 q3 e3)
theorem nv_3 {z : Nat → Int} {u1 u2 m A B : Nat} (hu : u1 < 16) (hm : m = 4 ∧ u2 = 15 ∨ m = 5 ∧ u2 = 31) (hA : A < 16) (hB : B < 32) (hk : on A = 3) (hF : Ft z u1 u2 A B) : ¬ Vk 0 m (Rs z u1) 3 := by
  obtain ⟨f1, f2, f3, f4⟩ := hF
  intro v
  obtain ⟨i1, l1, i2, l2, i3, l3, h1, h2, eA, e1, e2, e3⟩ := inv4_3 A hA hk
  have hB2 : on B = 3 := by rw [← f3]; exact hk
  have hc : ∃ c1, ∃ c2, ∃ c3, c1 < c2 ∧ c2 < c3 ∧ c3 < m ∧ c3 < 5 ∧ B = 2 ^ c1 + 2 ^ c2 + 2 ^ c3 := by
    rcases hm with ⟨rfl, rfl⟩ | ⟨rfl, rfl⟩
    · obtain ⟨c1, t1, c2, t2, c3, t3, g1, g2, eB, _, _, _⟩ := inv4_3 B (bd_15 B hB f2) hB2
      exact ⟨c1, c2, c3, g1, g2, t3, by omega, eB⟩
    · obtain ⟨c1, t1, c2, t2, c3, t3, g1, g2, eB, _, _, _⟩ := inv5_3 B hB hB2
      exact ⟨c1, c2, c3, g1, g2, t3, by omega, eB⟩
  obtain ⟨c1, c2, c3, g1, g2, t1, t2, eB⟩ := hc
  have b1 := bd_sub A hA u1 hu f1 i1 l1 e1
  have b2 := bd_sub A hA u1 hu f1 i2 l2 e2
  have b3 := bd_sub A hA u1 hu f1 i3 l3 e3
  have w := v _ _ _ ⟨i1, l1, b1, rfl⟩ ⟨i2, l2, b2, rfl⟩ ⟨i3, l3, b3, rfl⟩ c1 c2 c3 g1 g2 t1
  apply f4
  rw [eA, eB, rl_3 z h1 h2 l3, mm_3 _ _ _ g1 g2 t2]
  exact cg_0.mp w
theorem pr5_4 : ∀ i1, i1 < 5 → ∀ i2, i2 < 5 → ∀ i3, i3 < 5 → ∀ i4, i4 < 5 → i1 < i2 → i2 < i3 → i3 < i4 → on (2 ^ i1 + 2 ^ i2 + 2 ^ i3 + 2 ^ i4) = 4 ∧ 1 ≤ 2 ^ i1 + 2 ^ i2 + 2 ^ i3 + 2 ^ i4 ∧ 2 ^ i1 + 2 ^ i2 + 2 ^ i3 + 2 ^ i4 < 32 := by
  intro i1 g1 i2 g2 i3 g3 i4 g4 h1 h2 h3
  have q : (i1 = 0 ∧ i2 = 1 ∧ i3 = 2 ∧ i4 = 3) ∨ (i1 = 0 ∧ i2 = 1 ∧ i3 = 2 ∧ i4 = 4) ∨ (i1 = 0 ∧ i2 = 1 ∧ i3 = 3 ∧ i4 = 4) ∨ (i1 = 0 ∧ i2 = 2 ∧ i3 = 3 ∧ i4 = 4) ∨ (i1 = 1 ∧ i2 = 2 ∧ i3 = 3 ∧ i4 = 4) := by omega
  rcases q with ⟨rfl, rfl, rfl, rfl⟩ | ⟨rfl, rfl, rfl, rfl⟩ | ⟨rfl, rfl, rfl, rfl⟩ | ⟨rfl, rfl, rfl, rfl⟩ | ⟨rfl, rfl, rfl, rfl⟩ <;> decide +kernel
theorem pr4_4 : ∀ i1, i1 < 4 → ∀ i2, i2 < 4 → ∀ i3, i3 < 4 → ∀ i4, i4 < 4 → i1 < i2 → i2 < i3 → i3 < i4 → 2 ^ i1 + 2 ^ i2 + 2 ^ i3 + 2 ^ i4 < 16 := by
  intro i1 g1 i2 g2 i3 g3 i4 g4 h1 h2 h3
  have q : (i1 = 0 ∧ i2 = 1 ∧ i3 = 2 ∧ i4 = 3) := by omega
  obtain ⟨rfl, rfl, rfl, rfl⟩ := q
  decide +kernel
theorem br0_4 : ∀ i1, i1 < 5 → ∀ i2, i2 < 5 → ∀ i3, i3 < 5 → ∀ i4, i4 < 5 → i1 < i2 → i2 < i3 → i3 < i4 → ∀ X, X < 32 → X / 2 ^ i1 % 2 = 1 → X / 2 ^ i2 % 2 = 1 → X / 2 ^ i3 % 2 = 1 → X / 2 ^ i4 % 2 = 1 → bd (2 ^ i1 + 2 ^ i2 + 2 ^ i3 + 2 ^ i4) X = 0 := by
  intro i1 g1 i2 g2 i3 g3 i4 g4 h1 h2 h3
  have q : (i1 = 0 ∧ i2 = 1 ∧ i3 = 2 ∧ i4 = 3) ∨ (i1 = 0 ∧ i2 = 1 ∧ i3 = 2 ∧ i4 = 4) ∨ (i1 = 0 ∧ i2 = 1 ∧ i3 = 3 ∧ i4 = 4) ∨ (i1 = 0 ∧ i2 = 2 ∧ i3 = 3 ∧ i4 = 4) ∨ (i1 = 1 ∧ i2 = 2 ∧ i3 = 3 ∧ i4 = 4) := by omega
  rcases q with ⟨rfl, rfl, rfl, rfl⟩ | ⟨rfl, rfl, rfl, rfl⟩ | ⟨rfl, rfl, rfl, rfl⟩ | ⟨rfl, rfl, rfl, rfl⟩ | ⟨rfl, rfl, rfl, rfl⟩ <;> decide +kernel
theorem br_4 : ∀ X, X < 32 → ∀ i1, i1 < 5 → ∀ i2, i2 < 5 → ∀ i3, i3 < 5 → ∀ i4, i4 < 5 → i1 < i2 → i2 < i3 → i3 < i4 → X / 2 ^ i1 % 2 = 1 → X / 2 ^ i2 % 2 = 1 → X / 2 ^ i3 % 2 = 1 → X / 2 ^ i4 % 2 = 1 → bd (2 ^ i1 + 2 ^ i2 + 2 ^ i3 + 2 ^ i4) X = 0 := fun X hX i1 g1 i2 g2 i3 g3 i4 g4 h1 h2 h3 => br0_4 i1 g1 i2 g2 i3 g3 i4 g4 h1 h2 h3 X hX
theorem inv4_4 : ∀ A, A < 16 → on A = 4 → ∃ i1, i1 < 4 ∧ ∃ i2, i2 < 4 ∧ ∃ i3, i3 < 4 ∧ ∃ i4, i4 < 4 ∧ i1 < i2 ∧ i2 < i3 ∧ i3 < i4 ∧ A = 2 ^ i1 + 2 ^ i2 + 2 ^ i3 + 2 ^ i4 ∧ A / 2 ^ i1 % 2 = 1 ∧ A / 2 ^ i2 % 2 = 1 ∧ A / 2 ^ i3 % 2 = 1 ∧ A / 2 ^ i4 % 2 = 1 := by
  have w : ∀ A, A < 16 → on A = 4 → A = 15 := by decide +kernel
  intro A h1 h2
  obtain rfl := w A h1 h2
  exact ⟨0, by decide, 1, by decide, 2, by decide, 3, by decide, by decide, by decide, by decide, by decide, by decide, by decide, by decide, by decide⟩
theorem inv5_4 : ∀ A, A < 32 → on A = 4 → ∃ i1, i1 < 5 ∧ ∃ i2, i2 < 5 ∧ ∃ i3, i3 < 5 ∧ ∃ i4, i4 < 5 ∧ i1 < i2 ∧ i2 < i3 ∧ i3 < i4 ∧ A = 2 ^ i1 + 2 ^ i2 + 2 ^ i3 + 2 ^ i4 ∧ A / 2 ^ i1 % 2 = 1 ∧ A / 2 ^ i2 % 2 = 1 ∧ A / 2 ^ i3 % 2 = 1 ∧ A / 2 ^ i4 % 2 = 1 := by
  have w : ∀ A, A < 32 → on A = 4 → A = 15 ∨ A = 23 ∨ A = 27 ∨ A = 29 ∨ A = 30 := by decide +kernel
  intro A h1 h2
  rcases w A h1 h2 with rfl | rfl | rfl | rfl | rfl
  · exact ⟨0, by decide, 1, by decide, 2, by decide, 3, by decide, by decide, by decide, by decide, by decide, by decide, by decide, by decide, by decide⟩
  · exact ⟨0, by decide, 1, by decide, 2, by decide, 4, by decide, by decide, by decide, by decide, by decide, by decide, by decide, by decide, by decide⟩
  · exact ⟨0, by decide, 1, by decide, 3, by decide, 4, by decide, by decide, by decide, by decide, by decide, by decide, by decide, by decide, by decide⟩
  · exact ⟨0, by decide, 2, by decide, 3, by decide, 4, by decide, by decide, by decide, by decide, by decide, by decide, by decide, by decide, by decide⟩
  · exact ⟨1, by decide, 2, by decide, 3, by decide, 4, by decide, by decide, by decide, by decide, by decide, by decide, by decide, by decide, by decide⟩
theorem rl_4 (z : Nat → Int) {i1 i2 i3 i4 : Nat} (h1 : i1 < i2) (h2 : i2 < i3) (h3 : i3 < i4) (h : i4 < 4) : rl z (2 ^ i1 + 2 ^ i2 + 2 ^ i3 + 2 ^ i4) 4 = [row z i4, row z i3, row z i2, row z i1] := by
  have q : (i1 = 0 ∧ i2 = 1 ∧ i3 = 2 ∧ i4 = 3) := by omega
  obtain ⟨rfl, rfl, rfl, rfl⟩ := q
  rfl
theorem mm_4 (a b c d : Nat → Int) {c1 c2 c3 c4 : Nat} (h1 : c1 < c2) (h2 : c2 < c3) (h3 : c3 < c4) (h : c4 < 5) : mt [d, c, b, a] (2 ^ c1 + 2 ^ c2 + 2 ^ c3 + 2 ^ c4) = d4 a b c d c1 c2 c3 c4 := by
  have q : (c1 = 0 ∧ c2 = 1 ∧ c3 = 2 ∧ c4 = 3) ∨ (c1 = 0 ∧ c2 = 1 ∧ c3 = 2 ∧ c4 = 4) ∨ (c1 = 0 ∧ c2 = 1 ∧ c3 = 3 ∧ c4 = 4) ∨ (c1 = 0 ∧ c2 = 2 ∧ c3 = 3 ∧ c4 = 4) ∨ (c1 = 1 ∧ c2 = 2 ∧ c3 = 3 ∧ c4 = 4) := by omega
  rcases q with ⟨rfl, rfl, rfl, rfl⟩ | ⟨rfl, rfl, rfl, rfl⟩ | ⟨rfl, rfl, rfl, rfl⟩ | ⟨rfl, rfl, rfl, rfl⟩ | ⟨rfl, rfl, rfl, rfl⟩
  · exact m4_15 a b c d
  · exact m4_23 a b c d
  · exact m4_27 a b c d
  · exact m4_29 a b c d
  · exact m4_30 a b c d
theorem vs_4 {z : Nat → Int} {u1 u2 mo m i1 i2 i3 i4 c1 c2 c3 c4 : Nat} (hu : u1 < 16) (hm : m = 4 ∧ u2 = 15 ∨ m = 5 ∧ u2 = 31) (hR : Rk2 z u1 u2 16 1 mo) (hmo : mo < 4) (h1 : i1 < i2) (h2 : i2 < i3) (h3 : i3 < i4) (h : i4 < 4) (e1 : u1 / 2 ^ i1 % 2 = 1) (e2 : u1 / 2 ^ i2 % 2 = 1) (e3 : u1 / 2 ^ i3 % 2 = 1) (e4 : u1 / 2 ^ i4 % 2 = 1) (g1 : c1 < c2) (g2 : c2 < c3) (g3 : c3 < c4) (g : c4 < m) : d4 (row z i1) (row z i2) (row z i3) (row z i4) c1 c2 c3 c4 = 0 := by
  have k1 := cb_in (x := c1) hm (by omega)
  have k2 := cb_in (x := c2) hm (by omega)
  have k3 := cb_in (x := c3) hm (by omega)
  have k4 := cb_in (x := c4) hm (by omega)
  have p1 := pr5_4 i1 (by omega) i2 (by omega) i3 (by omega) i4 (by omega) h1 h2 h3
  have p2 := pr4_4 i1 (by omega) i2 (by omega) i3 (by omega) i4 (by omega) h1 h2 h3
  have p3 := pr5_4 c1 (by omega) c2 (by omega) c3 (by omega) c4 (by omega) g1 g2 g3
  have b1 := br_4 u1 (by omega) i1 (by omega) i2 (by omega) i3 (by omega) i4 (by omega) h1 h2 h3 e1 e2 e3 e4
  have b2 := br_4 u2 k1.2.1 c1 (by omega) c2 (by omega) c3 (by omega) c4 (by omega) g1 g2 g3 k1.2.2 k2.2.2 k3.2.2 k4.2.2
  refine Classical.byContradiction fun q => ?_
  have w := hR (2 ^ i1 + 2 ^ i2 + 2 ^ i3 + 2 ^ i4) (2 ^ c1 + 2 ^ c2 + 2 ^ c3 + 2 ^ c4) p1.2.1 p3.2.1 p3.2.2 (Or.inl p2) ⟨b1, b2, by rw [p1.1, p3.1], by rw [rl_4 z h1 h2 h3 h, mm_4 _ _ _ _ g1 g2 g3 k4.1]; exact q⟩
  rw [p1.1] at w
  omega
theorem vk_4 {z : Nat → Int} {u1 u2 mo m : Nat} (hu : u1 < 16) (hm : m = 4 ∧ u2 = 15 ∨ m = 5 ∧ u2 = 31) (hR : Rk2 z u1 u2 16 1 mo) (hmo : mo < 4) : Vk 0 m (Rs z u1) 4 := by
  rintro a b c d ⟨i1, q1, e1, rfl⟩ ⟨i2, q2, e2, rfl⟩ ⟨i3, q3, e3, rfl⟩ ⟨i4, q4, e4, rfl⟩ c1 c2 c3 c4 g1 g2 g3 g
  exact cg.of (so4 (Z := fun i1 i2 i3 i4 => i1 < 4 → u1 / 2 ^ i1 % 2 = 1 → i2 < 4 → u1 / 2 ^ i2 % 2 = 1 → i3 < 4 → u1 / 2 ^ i3 % 2 = 1 → i4 < 4 → u1 / 2 ^ i4 % 2 = 1 → d4 (row z i1) (row z i2) (row z i3) (row z i4) c1 c2 c3 c4 = 0) (fun i1 i2 i3 i4 w p1 r1 p2 r2 p3 r3 p4 r4 => by rw [sw4a, w p2 r2 p1 r1 p3 r3 p4 r4, Int.neg_zero]) (fun i1 i2 i3 i4 w p1 r1 p2 r2 p3 r3 p4 r4 => by rw [sx4, w p1 r1 p3 r3 p2 r2 p4 r4, Int.neg_zero]) (fun i1 i2 i3 i4 w p1 r1 p2 r2 p3 r3 p4 r4 => by rw [sy4, w p1 r1 p2 r2 p4 r4 p3 r3, Int.neg_zero]) (fun i1 _ _ _ _ _ _ _ _ _ _ => al4a) (fun i1 i2 i3 i4 s1 s2 s3 p1 r1 p2 r2 p3 r3 p4 r4 => vs_4 hu hm hR hmo s1 s2 s3 p4 r1 r2 r3 r4 g1 g2 g3 g) i1 i2 i3 i4 q1 e1 q2 e2 q3 e3 q4 e4)
theorem nv_4 {z : Nat → Int} {u1 u2 m A B : Nat} (hu : u1 < 16) (hm : m = 4 ∧ u2 = 15 ∨ m = 5 ∧ u2 = 31) (hA : A < 16) (hB : B < 32) (hk : on A = 4) (hF : Ft z u1 u2 A B) : ¬ Vk 0 m (Rs z u1) 4 := by
  obtain ⟨f1, f2, f3, f4⟩ := hF
  intro v
  obtain ⟨i1, l1, i2, l2, i3, l3, i4, l4, h1, h2, h3, eA, e1, e2, e3, e4⟩ := inv4_4 A hA hk
  have hB2 : on B = 4 := by rw [← f3]; exact hk
  have hc : ∃ c1, ∃ c2, ∃ c3, ∃ c4, c1 < c2 ∧ c2 < c3 ∧ c3 < c4 ∧ c4 < m ∧ c4 < 5 ∧ B = 2 ^ c1 + 2 ^ c2 + 2 ^ c3 + 2 ^ c4 := by
    rcases hm with ⟨rfl, rfl⟩ | ⟨rfl, rfl⟩
    · obtain ⟨c1, t1, c2, t2, c3, t3, c4, t4, g1, g2, g3, eB, _, _, _, _⟩ := inv4_4 B (bd_15 B hB f2) hB2
      exact ⟨c1, c2, c3, c4, g1, g2, g3, t4, by omega, eB⟩
    · obtain ⟨c1, t1, c2, t2, c3, t3, c4, t4, g1, g2, g3, eB, _, _, _, _⟩ := inv5_4 B hB hB2
      exact ⟨c1, c2, c3, c4, g1, g2, g3, t4, by omega, eB⟩
  obtain ⟨c1, c2, c3, c4, g1, g2, g3, t1, t2, eB⟩ := hc
  have b1 := bd_sub A hA u1 hu f1 i1 l1 e1
  have b2 := bd_sub A hA u1 hu f1 i2 l2 e2
  have b3 := bd_sub A hA u1 hu f1 i3 l3 e3
  have b4 := bd_sub A hA u1 hu f1 i4 l4 e4
  have w := v _ _ _ _ ⟨i1, l1, b1, rfl⟩ ⟨i2, l2, b2, rfl⟩ ⟨i3, l3, b3, rfl⟩ ⟨i4, l4, b4, rfl⟩ c1 c2 c3 c4 g1 g2 g3 t1
  apply f4
  rw [eA, eB, rl_4 z h1 h2 h3 l4, mm_4 _ _ _ _ g1 g2 g3 t2]
  exact cg_0.mp w
theorem rk_end {z : Nat → Int} {u1 u2 mo m : Nat} (hu : u1 < 16) (hm : m = 4 ∧ u2 = 15 ∨ m = 5 ∧ u2 = 31) (h1 : Rk1 z u1 u2 mo) (h2 : Rk2 z u1 u2 16 1 mo) (h4 : mo ≤ 4) : isRank 0 m (Rs z u1) mo := by
  refine ⟨h4, ?_, ?_⟩
  · rcases h1 with rfl | ⟨A, B, hA, hB, hk, hF⟩
    · exact fun q => q
    · match mo, hk, h4 with
      | 0, _, _ => exact fun q => q
      | 1, hk, _ => exact nv_1 hu hm hA hB hk hF
      | 2, hk, _ => exact nv_2 hu hm hA hB hk hF
      | 3, hk, _ => exact nv_3 hu hm hA hB hk hF
      | 4, hk, _ => exact nv_4 hu hm hA hB hk hF
      | n + 5, _, h4 => omega
  · match mo, h2, h4 with
    | 0, h2, _ => exact vk_1 hu hm h2 (by omega)
    | 1, h2, _ => exact vk_2 hu hm h2 (by omega)
    | 2, h2, _ => exact vk_3 hu hm h2 (by omega)
    | 3, h2, _ => exact vk_4 hu hm h2 (by omega)
    | 4, _, _ => exact trivial
    | n + 5, _, h4 => omega
theorem crt0 {D : Int} (h1 : cg 32749 D 0) (h2 : cg 32719 D 0) (h : -150000000 ≤ D ∧ D ≤ 150000000) : cg 0 D 0 := by
  obtain ⟨s, e⟩ := h1
  obtain ⟨t, f⟩ := h2
  exact cg.of (by omega)
theorem rk_two {z : Nat → Int} {m u1 k : Nat} (hz : ∀ k, k < 20 → -50 ≤ z k ∧ z k ≤ 50) (hm : m ≤ 5) (h1 : Vk 32749 m (Rs z u1) k) (h2 : Vk 32719 m (Rs z u1) k) : Vk 0 m (Rs z u1) k := by
  match k, h1, h2 with
  | 0, h1, _ => exact h1
  | 1, h1, h2 =>
    intro a ha x hx
    have k1 := h1 a ha x hx
    have k2 := h2 a ha x hx
    obtain ⟨i, hi, _, rfl⟩ := ha
    have b := row_50 hz hi x (by omega)
    exact crt0 k1 k2 (by omega)
  | 2, h1, h2 =>
    intro a b ha hb x y hx hy
    have k1 := h1 a b ha hb x y hx hy
    have k2 := h2 a b ha hb x y hx hy
    obtain ⟨i, hi, _, rfl⟩ := ha
    obtain ⟨j, hj, _, rfl⟩ := hb
    have b := d2_50 (row_50 hz hi) (row_50 hz hj) (show x < 5 by omega) (show y < 5 by omega)
    exact crt0 k1 k2 (by omega)
  | 3, h1, h2 =>
    intro a b c ha hb hc x y z hx hy hz'
    have k1 := h1 a b c ha hb hc x y z hx hy hz'
    have k2 := h2 a b c ha hb hc x y z hx hy hz'
    obtain ⟨i, hi, _, rfl⟩ := ha
    obtain ⟨j, hj, _, rfl⟩ := hb
    obtain ⟨k, hk, _, rfl⟩ := hc
    have b := d3_50 (row_50 hz hi) (row_50 hz hj) (row_50 hz hk) (show x < 5 by omega) (show y < 5 by omega) (show z < 5 by omega)
    exact crt0 k1 k2 (by omega)
  | 4, h1, h2 =>
    intro a b c d ha hb hc hd x y z t hx hy hz' ht
    have k1 := h1 a b c d ha hb hc hd x y z t hx hy hz' ht
    have k2 := h2 a b c d ha hb hc hd x y z t hx hy hz' ht
    obtain ⟨i, hi, _, rfl⟩ := ha
    obtain ⟨j, hj, _, rfl⟩ := hb
    obtain ⟨k, hk, _, rfl⟩ := hc
    obtain ⟨l, hl, _, rfl⟩ := hd
    have b := d4_50 (row_50 hz hi) (row_50 hz hj) (row_50 hz hk) (row_50 hz hl) (show x < 5 by omega) (show y < 5 by omega) (show z < 5 by omega) (show t < 5 by omega)
    exact crt0 k1 k2 b
  | k + 5, _, _ => exact trivial
theorem rk_dn {p : Int} {m k : Nat} {R : (Nat → Int) → Prop} (h : Vk 0 m R k) : Vk p m R k := by
  match k, h with
  | 0, h => exact h
  | 1, h => exact fun a ha x hx => cg.of (cg_0.mp (h a ha x hx))
  | 2, h => exact fun a b ha hb x y hx hy => cg.of (cg_0.mp (h a b ha hb x y hx hy))
  | 3, h => exact fun a b c ha hb hc x y z hx hy hz => cg.of (cg_0.mp (h a b c ha hb hc x y z hx hy hz))
  | 4, h => exact fun a b c d ha hb hc hd x y z t hx hy hz ht => cg.of (cg_0.mp (h a b c d ha hb hc hd x y z t hx hy hz ht))
  | k + 5, _ => exact trivial
theorem rk_max {z : Nat → Int} {m u1 a b r : Nat} (hz : ∀ k, k < 20 → -50 ≤ z k ∧ z k ≤ 50) (hm : m ≤ 5) (h1 : isRank 32749 m (Rs z u1) a) (h2 : isRank 32719 m (Rs z u1) b) (hr : (b < a ∧ r = a) ∨ (a ≤ b ∧ r = b)) : isRank 0 m (Rs z u1) r := by
  refine ⟨?_, ?_, ?_⟩
  · have := h1.1
    have := h2.1
    omega
  · intro q
    rcases hr with ⟨_, rfl⟩ | ⟨_, rfl⟩
    · exact h1.2.1 (rk_dn q)
    · exact h2.2.1 (rk_dn q)
  · exact rk_two hz hm (Vk_le (show a + 1 ≤ r + 1 by omega) h1.2.2) (Vk_le (show b + 1 ≤ r + 1 by omega) h2.2.2)
end
section
set_option maxRecDepth 100000
/-- the sum of the principal minors of n rows -/
def es (z : Nat → Int) : Nat → Int
  | 1 => row z 0 0 + row z 1 1 + row z 2 2 + row z 3 3
  | 2 => d2 (row z 0) (row z 1) 0 1 + d2 (row z 0) (row z 2) 0 2 + d2 (row z 1) (row z 2) 1 2 + d2 (row z 0) (row z 3) 0 3 + d2 (row z 1) (row z 3) 1 3 + d2 (row z 2) (row z 3) 2 3
  | 3 => d3 (row z 0) (row z 1) (row z 2) 0 1 2 + d3 (row z 0) (row z 1) (row z 3) 0 1 3 + d3 (row z 0) (row z 2) (row z 3) 0 2 3 + d3 (row z 1) (row z 2) (row z 3) 1 2 3
  | 4 => d4 (row z 0) (row z 1) (row z 2) (row z 3) 0 1 2 3
  | _ => 0
/-- the coefficient of x to the n of the characteristic polynomial -/
def cf (z : Nat → Int) : Nat → Int
  | 0 => es z 4
  | 1 => -es z 3
  | 2 => es z 2
  | 3 => -es z 1
  | _ => 1
def an_coef (z : Nat → Int) (k : Int) : Int := if 0 ≤ k ∧ k ≤ 4 then cf z k.toNat else BAD_
def an_prin (z : Nat → Int) (k : Int) : Int := if 1 ≤ k ∧ k ≤ 4 then es z k.toNat else BAD_
/-- the model's sum -/
def psm (z : Nat → Int) (n : Nat) : Nat → Int
  | 0 => 0
  | A + 1 => if on A = n then psm z n A + mt (rl z A 4) A else psm z n A
theorem psm_y {z : Nat → Int} {n A : Nat} (h : on A = n) : psm z n A + mt (rl z A 4) A = psm z n (A + 1) := by
  show _ = if _ then _ else _
  rw [if_pos h]
theorem psm_n {z : Nat → Int} {n A : Nat} (h : on A ≠ n) : psm z n A = psm z n (A + 1) := by
  show _ = if _ then _ else _
  rw [if_neg h]
theorem ps_1 (z : Nat → Int) : psm z 1 16 = es z 1 := by
  have h : psm z 1 16 = 0 + mt [row z 0] 1 + mt [row z 1] 2 + mt [row z 2] 4 + mt [row z 3] 8 := rfl
  rw [h, m1_1, m1_2, m1_4, m1_8, Int.zero_add]
  rfl
theorem ps_2 (z : Nat → Int) : psm z 2 16 = es z 2 := by
  have h : psm z 2 16 = 0 + mt [row z 1, row z 0] 3 + mt [row z 2, row z 0] 5 + mt [row z 2, row z 1] 6 + mt [row z 3, row z 0] 9 + mt [row z 3, row z 1] 10 + mt [row z 3, row z 2] 12 := rfl
  rw [h, m2_3, m2_5, m2_6, m2_9, m2_10, m2_12, Int.zero_add]
  rfl
theorem ps_3 (z : Nat → Int) : psm z 3 16 = es z 3 := by
  have h : psm z 3 16 = 0 + mt [row z 2, row z 1, row z 0] 7 + mt [row z 3, row z 1, row z 0] 11 + mt [row z 3, row z 2, row z 0] 13 + mt [row z 3, row z 2, row z 1] 14 := rfl
  rw [h, m3_7, m3_11, m3_13, m3_14, Int.zero_add]
  rfl
theorem ps_4 (z : Nat → Int) : psm z 4 16 = es z 4 := by
  have h : psm z 4 16 = 0 + mt [row z 3, row z 2, row z 1, row z 0] 15 := rfl
  rw [h, m4_15, Int.zero_add]
  rfl
theorem ps_es (z : Nat → Int) {n : Nat} (h : 1 ≤ n ∧ n ≤ 4) : psm z n 16 = es z n := by
  have q : n = 1 ∨ n = 2 ∨ n = 3 ∨ n = 4 := by omega
  rcases q with rfl | rfl | rfl | rfl
  · exact ps_1 z
  · exact ps_2 z
  · exact ps_3 z
  · exact ps_4 z
theorem es_bd {z : Nat → Int} (hz : ∀ k, k < 20 → -50 ≤ z k ∧ z k ≤ 50) (n : Nat) : -150000000 ≤ es z n ∧ es z n ≤ 150000000 := by
  have r0 := row_50 hz (show 0 < 4 by omega)
  have r1 := row_50 hz (show 1 < 4 by omega)
  have r2 := row_50 hz (show 2 < 4 by omega)
  have r3 := row_50 hz (show 3 < 4 by omega)
  match n with
  | 0 => exact ⟨by show (-150000000 : Int) ≤ 0; omega, by show (0 : Int) ≤ 150000000; omega⟩
  | 1 =>
    have a0 := r0 0 (by omega)
    have a1 := r1 1 (by omega)
    have a2 := r2 2 (by omega)
    have a3 := r3 3 (by omega)
    show _ ≤ row z 0 0 + row z 1 1 + row z 2 2 + row z 3 3 ∧ row z 0 0 + row z 1 1 + row z 2 2 + row z 3 3 ≤ _
    omega
  | 2 =>
    have a1 := d2_50 r0 r1 (show 0 < 5 by omega) (show 1 < 5 by omega)
    have a2 := d2_50 r0 r2 (show 0 < 5 by omega) (show 2 < 5 by omega)
    have a3 := d2_50 r1 r2 (show 1 < 5 by omega) (show 2 < 5 by omega)
    have a4 := d2_50 r0 r3 (show 0 < 5 by omega) (show 3 < 5 by omega)
    have a5 := d2_50 r1 r3 (show 1 < 5 by omega) (show 3 < 5 by omega)
    have a6 := d2_50 r2 r3 (show 2 < 5 by omega) (show 3 < 5 by omega)
    show _ ≤ d2 (row z 0) (row z 1) 0 1 + d2 (row z 0) (row z 2) 0 2 + d2 (row z 1) (row z 2) 1 2 + d2 (row z 0) (row z 3) 0 3 + d2 (row z 1) (row z 3) 1 3 + d2 (row z 2) (row z 3) 2 3 ∧ d2 (row z 0) (row z 1) 0 1 + d2 (row z 0) (row z 2) 0 2 + d2 (row z 1) (row z 2) 1 2 + d2 (row z 0) (row z 3) 0 3 + d2 (row z 1) (row z 3) 1 3 + d2 (row z 2) (row z 3) 2 3 ≤ _
    omega
  | 3 =>
    have a1 := d3_50 r0 r1 r2 (show 0 < 5 by omega) (show 1 < 5 by omega) (show 2 < 5 by omega)
    have a2 := d3_50 r0 r1 r3 (show 0 < 5 by omega) (show 1 < 5 by omega) (show 3 < 5 by omega)
    have a3 := d3_50 r0 r2 r3 (show 0 < 5 by omega) (show 2 < 5 by omega) (show 3 < 5 by omega)
    have a4 := d3_50 r1 r2 r3 (show 1 < 5 by omega) (show 2 < 5 by omega) (show 3 < 5 by omega)
    show _ ≤ d3 (row z 0) (row z 1) (row z 2) 0 1 2 + d3 (row z 0) (row z 1) (row z 3) 0 1 3 + d3 (row z 0) (row z 2) (row z 3) 0 2 3 + d3 (row z 1) (row z 2) (row z 3) 1 2 3 ∧ d3 (row z 0) (row z 1) (row z 2) 0 1 2 + d3 (row z 0) (row z 1) (row z 3) 0 1 3 + d3 (row z 0) (row z 2) (row z 3) 0 2 3 + d3 (row z 1) (row z 2) (row z 3) 1 2 3 ≤ _
    omega
  | 4 => exact d4_50 r0 r1 r2 r3 (by omega) (by omega) (by omega) (by omega)
  | n + 5 => exact ⟨by show (-150000000 : Int) ≤ 0; omega, by show (0 : Int) ≤ 150000000; omega⟩
theorem cf_bd {z : Nat → Int} (hz : ∀ k, k < 20 → -50 ≤ z k ∧ z k ≤ 50) (n : Nat) : -150000000 ≤ cf z n ∧ cf z n ≤ 150000000 := by
  match n with
  | 0 => exact es_bd hz 4
  | 1 =>
    have h := es_bd hz 3
    show _ ≤ -es z 3 ∧ -es z 3 ≤ _
    omega
  | 2 => exact es_bd hz 2
  | 3 =>
    have h := es_bd hz 1
    show _ ≤ -es z 1 ∧ -es z 1 ≤ _
    omega
  | n + 4 => exact ⟨by show (-150000000 : Int) ≤ 1; omega, by show (1 : Int) ≤ 150000000; omega⟩
/-- the value of the characteristic polynomial at x -/
def fx (z : Nat → Int) (x : Nat) : Int := td (shz (fun k => -z k) (x : Int)) 0 4
set_option maxHeartbeats 4000000 in
theorem fx_cf (z : Nat → Int) (x : Nat) : fx z x = cf z 0 + cf z 1 * (x : Int) + cf z 2 * ((x : Int) * (x : Int)) + cf z 3 * ((x : Int) * (x : Int) * (x : Int)) + (x : Int) * (x : Int) * (x : Int) * (x : Int) := by
  unfold fx
  generalize (x : Int) = y
  show d4 _ _ _ _ _ _ _ _ = es z 4 + -es z 3 * y + es z 2 * (y * y) + -es z 1 * (y * y * y) + y * y * y * y
  have h00 : row (shz (fun k => -z k) y) 0 0 = -row z 0 0 + y := rfl
  have h01 : row (shz (fun k => -z k) y) 0 1 = -row z 0 1 := rfl
  have h02 : row (shz (fun k => -z k) y) 0 2 = -row z 0 2 := rfl
  have h03 : row (shz (fun k => -z k) y) 0 3 = -row z 0 3 := rfl
  have h10 : row (shz (fun k => -z k) y) 1 0 = -row z 1 0 := rfl
  have h11 : row (shz (fun k => -z k) y) 1 1 = -row z 1 1 + y := rfl
  have h12 : row (shz (fun k => -z k) y) 1 2 = -row z 1 2 := rfl
  have h13 : row (shz (fun k => -z k) y) 1 3 = -row z 1 3 := rfl
  have h20 : row (shz (fun k => -z k) y) 2 0 = -row z 2 0 := rfl
  have h21 : row (shz (fun k => -z k) y) 2 1 = -row z 2 1 := rfl
  have h22 : row (shz (fun k => -z k) y) 2 2 = -row z 2 2 + y := rfl
  have h23 : row (shz (fun k => -z k) y) 2 3 = -row z 2 3 := rfl
  have h30 : row (shz (fun k => -z k) y) 3 0 = -row z 3 0 := rfl
  have h31 : row (shz (fun k => -z k) y) 3 1 = -row z 3 1 := rfl
  have h32 : row (shz (fun k => -z k) y) 3 2 = -row z 3 2 := rfl
  have h33 : row (shz (fun k => -z k) y) 3 3 = -row z 3 3 + y := rfl
  unfold d4 d3 d2 es d4 d3 d2
  rw [h00, h01, h02, h03, h10, h11, h12, h13, h20, h21, h22, h23, h30, h31, h32, h33]
  generalize row z 0 0 = a00
  generalize row z 0 1 = a01
  generalize row z 0 2 = a02
  generalize row z 0 3 = a03
  generalize row z 1 0 = a10
  generalize row z 1 1 = a11
  generalize row z 1 2 = a12
  generalize row z 1 3 = a13
  generalize row z 2 0 = a20
  generalize row z 2 1 = a21
  generalize row z 2 2 = a22
  generalize row z 2 3 = a23
  generalize row z 3 0 = a30
  generalize row z 3 1 = a31
  generalize row z 3 2 = a32
  generalize row z 3 3 = a33
  grind
def df (f : Nat → Int) : Nat → Nat → Int
  | 0, x => f x
  | d + 1, x => df f d (x + 1) - df f d x
def sc : Nat → Nat → Int
  | 0, j => if j = 0 then 1 else 0
  | d + 1, j => (if j = 0 then 0 else sc d (j - 1)) - (d : Int) * sc d j
def fc : Nat → Int
  | 0 => 1
  | d + 1 => fc d * ((d : Int) + 1)
def nd (z : Nat → Int) : Nat → Int
  | 0 => cf z 0
  | 1 => cf z 1 + cf z 2 + cf z 3 + 1
  | 2 => cf z 2 + 3 * cf z 3 + 7
  | 3 => cf z 3 + 6
  | _ => 1
def nsm (z : Nat → Int) (k : Nat) : Nat → Int
  | 0 => 0
  | d + 1 => nsm z k d + nd z d * sc d k
theorem nd_df (z : Nat → Int) {d : Nat} (h : d ≤ 4) : df (fx z) d 0 = fc d * nd z d := by
  have f0 : fx z 0 = cf z 0 := by rw [fx_cf]; simp
  have f1 : fx z 1 = cf z 0 + cf z 1 + cf z 2 + cf z 3 + 1 := by rw [fx_cf]; simp
  have f2 : fx z 2 = cf z 0 + 2 * cf z 1 + 4 * cf z 2 + 8 * cf z 3 + 16 := by rw [fx_cf]; simp; omega
  have f3 : fx z 3 = cf z 0 + 3 * cf z 1 + 9 * cf z 2 + 27 * cf z 3 + 81 := by rw [fx_cf]; simp; omega
  have f4 : fx z 4 = cf z 0 + 4 * cf z 1 + 16 * cf z 2 + 64 * cf z 3 + 256 := by rw [fx_cf]; simp; omega
  have q : d = 0 ∨ d = 1 ∨ d = 2 ∨ d = 3 ∨ d = 4 := by omega
  rcases q with rfl | rfl | rfl | rfl | rfl
  · show fx z 0 = 1 * cf z 0
    omega
  · show fx z 1 - fx z 0 = (1 : Int) * (cf z 1 + cf z 2 + cf z 3 + 1)
    omega
  · show fx z 2 - fx z 1 - (fx z 1 - fx z 0) = (2 : Int) * (cf z 2 + 3 * cf z 3 + 7)
    omega
  · show fx z 3 - fx z 2 - (fx z 2 - fx z 1) - (fx z 2 - fx z 1 - (fx z 1 - fx z 0)) = (6 : Int) * (cf z 3 + 6)
    omega
  · show fx z 4 - fx z 3 - (fx z 3 - fx z 2) - (fx z 3 - fx z 2 - (fx z 2 - fx z 1)) - (fx z 3 - fx z 2 - (fx z 2 - fx z 1) - (fx z 2 - fx z 1 - (fx z 1 - fx z 0))) = (24 : Int) * 1
    omega
theorem nsm_cf (z : Nat → Int) {k : Nat} (h : k ≤ 4) : nsm z k 5 = cf z k := by
  have q : k = 0 ∨ k = 1 ∨ k = 2 ∨ k = 3 ∨ k = 4 := by omega
  rcases q with rfl | rfl | rfl | rfl | rfl
  · show 0 + cf z 0 * 1 + (cf z 1 + cf z 2 + cf z 3 + 1) * 0 + (cf z 2 + 3 * cf z 3 + 7) * 0 + (cf z 3 + 6) * 0 + 1 * 0 = cf z 0
    omega
  · show 0 + cf z 0 * 0 + (cf z 1 + cf z 2 + cf z 3 + 1) * 1 + (cf z 2 + 3 * cf z 3 + 7) * (-1) + (cf z 3 + 6) * 2 + 1 * (-6) = cf z 1
    omega
  · show 0 + cf z 0 * 0 + (cf z 1 + cf z 2 + cf z 3 + 1) * 0 + (cf z 2 + 3 * cf z 3 + 7) * 1 + (cf z 3 + 6) * (-3) + 1 * 11 = cf z 2
    omega
  · show 0 + cf z 0 * 0 + (cf z 1 + cf z 2 + cf z 3 + 1) * 0 + (cf z 2 + 3 * cf z 3 + 7) * 0 + (cf z 3 + 6) * 1 + 1 * (-6) = cf z 3
    omega
  · show 0 + cf z 0 * 0 + (cf z 1 + cf z 2 + cf z 3 + 1) * 0 + (cf z 2 + 3 * cf z 3 + 7) * 0 + (cf z 3 + 6) * 0 + 1 * 1 = 1
    omega
theorem fc_bd : ∀ d, d < 6 → 1 ≤ fc d ∧ fc d ≤ 120 := by decide +kernel
end
section
set_option maxRecDepth 100000
/-! one step of the elimination keeps the rank -/
theorem rk_exch {p : Int} {w : Nat → Int} {n m i r k : Nat} (hm : m ≤ 5) (hi : i < n) (hr : r < n) (h : isRank p m (Rn (exch w i r 5) n) k) : isRank p m (Rn w n) k := by
  refine isRank_sp ?_ ?_ h
  · rintro _ ⟨a, ha, rfl⟩
    by_cases q1 : a = i
    · subst q1
      exact Sp.of (row (exch w a r 5) r) ⟨r, hr, rfl⟩ (fun j hj => cg.of (row_exch_k (by omega)).symm)
    · by_cases q2 : a = r
      · subst q2
        exact Sp.of (row (exch w i a 5) i) ⟨i, hi, rfl⟩ (fun j hj => cg.of (row_exch_i (by omega)).symm)
      · exact Sp.of (row (exch w i r 5) a) ⟨a, ha, rfl⟩ (fun j hj => cg.of (row_exch_n (by omega) q1 q2).symm)
  · rintro _ ⟨a, ha, rfl⟩
    by_cases q1 : a = i
    · subst q1
      exact Sp.of (row w r) ⟨r, hr, rfl⟩ (fun j hj => cg.of (row_exch_i (by omega)))
    · by_cases q2 : a = r
      · subst q2
        exact Sp.of (row w i) ⟨i, hi, rfl⟩ (fun j hj => cg.of (row_exch_k (by omega)))
      · exact Sp.of (row w a) ⟨a, ha, rfl⟩ (fun j hj => cg.of (row_exch_n (by omega) q1 q2))
theorem rk_clr {p : Int} {w : Nat → Int} {un : Int} {n m r c k : Nat} (hm : m ≤ 5) (hr : r < n) (hz : ∀ j, j < c → row w r j = 0) (h : isRank p m (Rn (clr p w un r c n 0) n) k) : isRank p m (Rn w n) k := by
  have same : ∀ a, a ≤ r → ∀ j, j < 5 → row (clr p w un r c n 0) a j = row w a j := fun a ha j hj => row_clr_n hj (Or.inl ha)
  have step : ∀ a, r < a → a < n → ∀ j, j < 5 → cg p (row w a j) (row (clr p w un r c n 0) a j + row w a c * un % p * row w r j) := by
    intro a h1 h2 j hj
    by_cases q : c ≤ j
    · exact row_clr_cg ⟨h1, h2⟩ ⟨q, hj⟩
    · rw [row_clr_n hj (Or.inr (Or.inr (by omega))), hz j (by omega), Int.mul_zero, Int.add_zero]
      exact cg.rf _ _
  refine isRank_sp ?_ ?_ h
  · rintro _ ⟨a, ha, rfl⟩
    by_cases q : a ≤ r
    · exact Sp.of (row (clr p w un r c n 0) a) ⟨a, ha, rfl⟩ (fun j hj => cg.of (same a q j (by omega)).symm)
    · refine ⟨row (clr p w un r c n 0) a, row (clr p w un r c n 0) r, 1, row w a c * un % p, ⟨a, ha, rfl⟩, ⟨r, hr, rfl⟩, fun j hj => ?_⟩
      rw [same r (Nat.le_refl r) j (by omega), Int.one_mul]
      exact step a (by omega) ha j (by omega)
  · rintro _ ⟨a, ha, rfl⟩
    by_cases q : a ≤ r
    · exact Sp.of (row w a) ⟨a, ha, rfl⟩ (fun j hj => cg.of (same a q j (by omega)))
    · refine ⟨row w a, row w r, 1, -(row w a c * un % p), ⟨a, ha, rfl⟩, ⟨r, hr, rfl⟩, fun j hj => ?_⟩
      have g := step a (by omega) ha j (by omega)
      refine cg.tr ?_ ((cg.rf p (1 : Int)).ml g.sy |>.ad (cg.rf p (-(row w a c * un % p) * row w r j)))
      exact cg.of (by grind)
/-- the state of the search for a rank: r rows done, c columns looked at -/
def Eln (p : Int) (w g : Nat → Int) (n m c r : Nat) : Prop := (∀ k, k < 20 → 0 ≤ g k ∧ g k < p) ∧ Nz p g c r ∧ (∀ i, r ≤ i → i < n → ∀ j, j < c → row g i j = 0) ∧ (∀ k, isRank p m (Rn g n) k → isRank p m (Rn w n) k)
theorem eln_0 {p : Int} {w : Nat → Int} {n m : Nat} (hw : ∀ k, k < 20 → 0 ≤ w k ∧ w k < p) : Eln p w w n m 0 0 := ⟨hw, trivial, fun i _ _ j hj => absurd hj (Nat.not_lt_zero j), fun k h => h⟩
theorem eln_no {p : Int} {w g : Nat → Int} {n m c r : Nat} (h : Eln p w g n m c r) (hz : ∀ i, r ≤ i → i < n → g (i * 5 + c) = 0) : Eln p w g n m (c + 1) r := by
  refine ⟨h.1, Nz_cols (Nat.le_succ c) h.2.1, fun i h1 h2 j hj => ?_, h.2.2.2⟩
  by_cases q : j = c
  · subst q; exact hz i h1 h2
  · exact h.2.2.1 i h1 h2 j (by omega)
theorem eln_yes {p : Int} {w g : Nat → Int} {n m c r i : Nat} {un : Int} (hp : 1 < p) (hn : n ≤ 4) (hm : m ≤ 5) (hc : c < 5) (hr : r ≤ i) (hi : i < n) (h : Eln p w g n m c r) (hu : exch g i r 5 (r * 5 + c) * un % p = 1) : Eln p w (clr p (exch g i r 5) un r c n 0) n m (c + 1) (r + 1) := by
  obtain ⟨h1, h2, h3, h4⟩ := h
  have hg1 := exch_in (p := p) (w := g) (i := i) (k := r) (by omega) h1
  have zr : ∀ a, r ≤ a → a < n → ∀ j, j < c → row (exch g i r 5) a j = 0 := by
    intro a q1 q2 j hj
    rw [row_exch (by omega)]
    split
    · exact h3 r (Nat.le_refl r) (by omega) j hj
    · split
      · exact h3 i hr hi j hj
      · exact h3 a q1 q2 j hj
  have hu2 : row (exch g i r 5) r c * un % p = 1 := hu
  refine ⟨clr_in (by omega) hg1, ?_, ?_, ?_⟩
  · refine Nz_step (un := un) hc (by omega) (fun a ha j hj => ?_) (fun j hj => ?_) ?_ ?_ h2
    · rw [row_clr_n hj (Or.inl (by omega)), row_exch_n hj (by omega) (by omega)]
    · rw [row_clr_n (by omega) (Or.inl (Nat.le_refl r))]
      exact zr r (Nat.le_refl r) (by omega) j hj
    · rw [row_clr_n hc (Or.inl (Nat.le_refl r)), hu2]
      exact (Int.emod_eq_of_lt (by omega) hp).symm
    · intro q
      have e := q.eq
      rw [Int.emod_eq_of_lt (by omega) hp, Int.zero_emod] at e
      omega
  · intro a q1 q2 j hj
    by_cases q : j = c
    · subst q
      exact row_clr_z (by omega) ⟨by omega, q2⟩ hc (hg1 (a * 5 + j) (by omega)) hu2
    · rw [row_clr_n (by omega) (Or.inr (Or.inr (by omega)))]
      exact zr a (by omega) q2 j (by omega)
  · intro k hk
    exact h4 k (rk_exch hm hi (by omega) (rk_clr hm (by omega) (fun j hj => zr r (Nat.le_refl r) (by omega) j hj) hk))
theorem eln_end {p : Int} {w g : Nat → Int} {n m c r : Nat} (hn : n ≤ 4) (hc : c ≤ m) (hr : r ≤ n) (hx : c = m ∨ r = n) (h : Eln p w g n m c r) : isRank p m (Rn w n) r := by
  obtain ⟨h1, h2, h3, h4⟩ := h
  refine h4 r ⟨by omega, Nz_V hc hr h2, ech_V (fun i q1 q2 j hj => ?_)⟩
  rcases hx with rfl | rfl
  · exact h3 i q1 q2 j hj
  · omega
/-- the rows that are kept -/
def Kp (w g : Nat → Int) (x i n : Nat) : Prop := n ≤ i ∧ (∀ a, i ≤ a → ∀ j, j < 5 → row g a j = row w a j) ∧ (∀ k, k < n → ∃ a, a < i ∧ x / 2 ^ a % 2 = 1 ∧ ∀ j, j < 5 → row g k j = row w a j) ∧ (∀ a, a < i → x / 2 ^ a % 2 = 1 → ∃ k, k < n ∧ ∀ j, j < 5 → row g k j = row w a j)
theorem kp_0 (w : Nat → Int) (x : Nat) : Kp w w x 0 0 := ⟨Nat.le_refl _, fun _ _ _ _ => rfl, fun k hk => absurd hk (Nat.not_lt_zero k), fun a ha => absurd ha (Nat.not_lt_zero a)⟩
theorem kp_no {w g : Nat → Int} {x i n : Nat} (h : Kp w g x i n) (hb : x / 2 ^ i % 2 ≠ 1) : Kp w g x (i + 1) n := by
  obtain ⟨h1, h2, h3, h4⟩ := h
  refine ⟨by omega, fun a ha => h2 a (by omega), fun k hk => ?_, fun a ha hb2 => ?_⟩
  · obtain ⟨a, q1, q2, q3⟩ := h3 k hk
    exact ⟨a, by omega, q2, q3⟩
  · by_cases q : a = i
    · subst q; exact absurd hb2 hb
    · exact h4 a (by omega) hb2
theorem kp_yes {w g : Nat → Int} {x i n : Nat} (h : Kp w g x i n) (hb : x / 2 ^ i % 2 = 1) : Kp w (exch g i n 5) x (i + 1) (n + 1) := by
  obtain ⟨h1, h2, h3, h4⟩ := h
  refine ⟨by omega, fun a ha j hj => ?_, fun k hk => ?_, fun a ha hb2 => ?_⟩
  · rw [row_exch_n hj (by omega) (by omega)]
    exact h2 a (by omega) j hj
  · by_cases q : k = n
    · subst q
      exact ⟨i, by omega, hb, fun j hj => by rw [row_exch_k hj]; exact h2 i (Nat.le_refl i) j hj⟩
    · obtain ⟨a, q1, q2, q3⟩ := h3 k (by omega)
      exact ⟨a, by omega, q2, fun j hj => by rw [row_exch_n hj (by omega) (by omega)]; exact q3 j hj⟩
  · by_cases q : a = i
    · subst q
      exact ⟨n, by omega, fun j hj => by rw [row_exch_k hj]; exact h2 a (Nat.le_refl a) j hj⟩
    · obtain ⟨k, q1, q2⟩ := h4 a (by omega) hb2
      exact ⟨k, by omega, fun j hj => by rw [row_exch_n hj (by omega) (by omega)]; exact q2 j hj⟩
/-- the rank of the rows that were kept, of remainders, is that of the numbers themselves, modulo p -/
theorem rk_kept {p : Int} {z g : Nat → Int} {x n m k : Nat} (hm : m ≤ 5) (h : Kp (fun k => z k % p) g x 4 n) (hk : isRank p m (Rn g n) k) : isRank p m (Rs z x) k := by
  obtain ⟨h1, h2, h3, h4⟩ := h
  refine isRank_sp ?_ ?_ hk
  · rintro _ ⟨a, ha, hb, rfl⟩
    obtain ⟨k, q1, q2⟩ := h4 a ha hb
    exact Sp.of (row g k) ⟨k, q1, rfl⟩ (fun j hj => by rw [q2 j (by omega)]; exact (cg.em p _).sy)
  · rintro _ ⟨k, hk, rfl⟩
    obtain ⟨a, q1, q2, q3⟩ := h3 k hk
    exact Sp.of (row z a) ⟨a, q1, q2, rfl⟩ (fun j hj => by rw [q3 j (by omega)]; exact cg.em p _)
end
section
set_option maxRecDepth 100000
abbrev ps1_row (i : Int) (z : Nat → Int) (kp : Nat → Int) (t : Nat → Int) : Int → (Nat → Int) → (Nat → Int) → (Nat → Int) → Prop := fun r z1 kp1 t1 => ((r = 1 ∧ 0 ≤ i ∧ i < 4) ∨ (r = 0 ∧ (i < 0 ∨ 4 ≤ i))) ∧ z = z1 ∧ kp = kp1 ∧ t = t1
set_option maxHeartbeats 4000000 in
set_option maxRecDepth 100000 in
theorem met1_row (l : Launch) (i : Int) (z : Nat → Int) (kp : Nat → Int) (t : Nat → Int) (hi : -2147483648 ≤ i ∧ i < 2147483648) : M1i l yX1_row cX1_row 2 (some .boolean) rm1_row [.int (iI i)] z kp t (ps1_row i z kp t) := by
  refine M1i.of (by decide) rfl (fun _ => Nat.le_of_ble_eq_true rfl) ?_
  intro p e s m args below meth c D a ca A ls C hr hlocks hA hl hI
  have hx := C.1
  have hb := C.2.1
  have hl : lv_has ls 2 [(0, .ref (a 0)), (1, .int (iI i))] := hl
  refine lv_iload_n hx hb dX1_row_0 rfl (lv_at hl 1 rfl) ?_
  refine z_if_lt hx hb 13 dX1_row_1 (by decide) (by omega) (fun c_1 => ?_) (fun c_1 => ?_)
  · refine z_iconst hx hb dX1_row_13 ?_
    exact r1_z C hr hlocks hI (by omega) (⟨by omega, rfl, rfl, rfl⟩) dX1_row_14
  · refine lv_iload_n hx hb dX1_row_4 rfl (lv_at hl 1 rfl) ?_
    refine z_iconst hx hb dX1_row_5 ?_
    refine z_icmp_gt hx hb 13 dX1_row_6 (by decide) (by omega) (by omega) (fun c_2 => ?_) (fun c_2 => ?_)
    · refine z_iconst hx hb dX1_row_13 ?_
      exact r1_z C hr hlocks hI (by omega) (⟨by omega, rfl, rfl, rfl⟩) dX1_row_14
    · refine z_iconst hx hb dX1_row_9 ?_
      refine lv_goto (tgt := 14) hx hb dX1_row_10 (by decide) ?_
      exact r1_z C hr hlocks hI (by omega) (⟨by omega, rfl, rfl, rfl⟩) dX1_row_14
abbrev ps1_fits (i : Int) (j : Int) (y : Int) (z : Nat → Int) (kp : Nat → Int) (t : Nat → Int) : Int → (Nat → Int) → (Nat → Int) → (Nat → Int) → Prop := fun r z1 kp1 t1 => ((r = 1 ∧ 0 ≤ i ∧ i < 4 ∧ 0 ≤ j ∧ j ≤ 4 ∧ -50 ≤ y ∧ y ≤ 50) ∨ (r = 0 ∧ ¬ (0 ≤ i ∧ i < 4 ∧ 0 ≤ j ∧ j ≤ 4 ∧ -50 ≤ y ∧ y ≤ 50))) ∧ z = z1 ∧ kp = kp1 ∧ t = t1
set_option maxHeartbeats 4000000 in
set_option maxRecDepth 100000 in
theorem met1_fits (l : Launch) (i : Int) (j : Int) (y : Int) (z : Nat → Int) (kp : Nat → Int) (t : Nat → Int) (hi : -2147483648 ≤ i ∧ i < 2147483648) (hj : -2147483648 ≤ j ∧ j < 2147483648) (hy : -2147483648 ≤ y ∧ y < 2147483648) : M1i l yX1_fits cX1_fits 4 (some .boolean) rm1_fits [.int (iI i), .int (iI j), .int (iI y)] z kp t (ps1_fits i j y z kp t) := by
  refine M1i.of (by decide) rfl (fun _ => Nat.le_of_ble_eq_true rfl) ?_
  intro p e s m args below meth c D a ca A ls C hr hlocks hA hl hI
  have hx := C.1
  have hb := C.2.1
  have hl : lv_has ls 4 [(0, .ref (a 0)), (1, .int (iI i)), (2, .int (iI j)), (3, .int (iI y))] := hl
  refine lv_aload_n hx hb dX1_fits_0 rfl (lv_at hl 0 rfl) ?_
  refine lv_iload_n hx hb dX1_fits_1 rfl (lv_at hl 1 rfl) ?_
  refine c1_i (As := [.int (iI i)]) C hA hI (met1_row l i z kp t (by omega)) (cw1_row C.2.2.2.2 ⟨Nat.le_of_ble_eq_true rfl, Nat.le_of_ble_eq_true rfl⟩) rfl hl.1 rfl (Nat.le_of_ble_eq_true rfl) dX1_fits_2 ⟨Nat.le_refl _, Nat.le_refl _⟩ (fun r_1 z_1 kp_1 t_1 H locs hp_1 hI => ?_)
  obtain ⟨hp_1, rfl, rfl, rfl⟩ := hp_1
  refine z_if_eq hx hb 33 dX1_fits_5 (by decide) (by omega) (fun c_2 => ?_) (fun c_2 => ?_)
  · refine z_iconst hx hb dX1_fits_33 ?_
    exact r1_z C hr hlocks hI (by omega) (⟨by omega, rfl, rfl, rfl⟩) dX1_fits_34
  · refine lv_iload_n hx hb dX1_fits_8 rfl (lv_at hl 2 rfl) ?_
    refine z_if_lt hx hb 33 dX1_fits_9 (by decide) (by omega) (fun c_3 => ?_) (fun c_3 => ?_)
    · refine z_iconst hx hb dX1_fits_33 ?_
      exact r1_z C hr hlocks hI (by omega) (⟨by omega, rfl, rfl, rfl⟩) dX1_fits_34
    · refine lv_iload_n hx hb dX1_fits_12 rfl (lv_at hl 2 rfl) ?_
      refine z_iconst hx hb dX1_fits_13 ?_
      refine z_icmp_gt hx hb 33 dX1_fits_14 (by decide) (by omega) (by omega) (fun c_4 => ?_) (fun c_4 => ?_)
      · refine z_iconst hx hb dX1_fits_33 ?_
        exact r1_z C hr hlocks hI (by omega) (⟨by omega, rfl, rfl, rfl⟩) dX1_fits_34
      · refine lv_iload_n hx hb dX1_fits_17 rfl (lv_at hl 3 rfl) ?_
        refine z_bipush hx hb dX1_fits_18 (by decide +kernel) ?_
        refine z_icmp_lt hx hb 33 dX1_fits_20 (by decide) (by omega) (by omega) (fun c_5 => ?_) (fun c_5 => ?_)
        · refine z_iconst hx hb dX1_fits_33 ?_
          exact r1_z C hr hlocks hI (by omega) (⟨by omega, rfl, rfl, rfl⟩) dX1_fits_34
        · refine lv_iload_n hx hb dX1_fits_23 rfl (lv_at hl 3 rfl) ?_
          refine z_bipush hx hb dX1_fits_24 (by decide +kernel) ?_
          refine z_icmp_gt hx hb 33 dX1_fits_26 (by decide) (by omega) (by omega) (fun c_6 => ?_) (fun c_6 => ?_)
          · refine z_iconst hx hb dX1_fits_33 ?_
            exact r1_z C hr hlocks hI (by omega) (⟨by omega, rfl, rfl, rfl⟩) dX1_fits_34
          · refine z_iconst hx hb dX1_fits_29 ?_
            refine lv_goto (tgt := 34) hx hb dX1_fits_30 (by decide) ?_
            exact r1_z C hr hlocks hI (by omega) (⟨by omega, rfl, rfl, rfl⟩) dX1_fits_34
abbrev ps1_set (i : Int) (j : Int) (y : Int) (z : Nat → Int) (kp : Nat → Int) (t : Nat → Int) : Int → (Nat → Int) → (Nat → Int) → (Nat → Int) → Prop := fun r z1 kp1 t1 => ar_set i j y = r ∧ st_set z i j y = z1
set_option maxHeartbeats 4000000 in
set_option maxRecDepth 100000 in
theorem met1_set (l : Launch) (i : Int) (j : Int) (y : Int) (z : Nat → Int) (kp : Nat → Int) (t : Nat → Int) (hi : -2147483648 ≤ i ∧ i < 2147483648) (hj : -2147483648 ≤ j ∧ j < 2147483648) (hy : -2147483648 ≤ y ∧ y < 2147483648) : M1i l yX1_set cX1_set 4 (some .boolean) rm1_set [.int (iI i), .int (iI j), .int (iI y)] z kp t (ps1_set i j y z kp t) := by
  refine M1i.of (by decide) rfl (fun _ => Nat.le_of_ble_eq_true rfl) ?_
  intro p e s m args below meth c D a ca A ls C hr hlocks hA hl hI
  have hx := C.1
  have hb := C.2.1
  have hl : lv_has ls 4 [(0, .ref (a 0)), (1, .int (iI i)), (2, .int (iI j)), (3, .int (iI y))] := hl
  refine lv_aload_n hx hb dX1_set_0 rfl (lv_at hl 0 rfl) ?_
  refine lv_iload_n hx hb dX1_set_1 rfl (lv_at hl 1 rfl) ?_
  refine lv_iload_n hx hb dX1_set_2 rfl (lv_at hl 2 rfl) ?_
  refine lv_iload_n hx hb dX1_set_3 rfl (lv_at hl 3 rfl) ?_
  refine c1_i (As := [.int (iI i), .int (iI j), .int (iI y)]) C hA hI (met1_fits l i j y z kp t (by omega) (by omega) (by omega)) (cw1_fits C.2.2.2.2 ⟨Nat.le_of_ble_eq_true rfl, Nat.le_of_ble_eq_true rfl⟩) rfl hl.1 rfl (Nat.le_of_ble_eq_true rfl) dX1_set_4 ⟨Nat.le_refl _, Nat.le_refl _⟩ (fun r_1 z_1 kp_1 t_1 H locs hp_1 hI => ?_)
  obtain ⟨hp_1, rfl, rfl, rfl⟩ := hp_1
  refine z_if_ne hx hb 12 dX1_set_7 (by decide) (by omega) (fun c_2 => ?_) (fun c_2 => ?_)
  · obtain ⟨n1, rfl⟩ := Int.eq_ofNat_of_zero_le (show 0 ≤ i by omega)
    obtain ⟨n2, rfl⟩ := Int.eq_ofNat_of_zero_le (show 0 ≤ j by omega)
    refine lv_aload_n hx hb dX1_set_12 rfl (lv_at hl 0 rfl) ?_
    refine g1_cel C hI dX1_set_13 ?_
    refine z_iconst hx hb dX1_set_16 ?_
    refine lv_iload_n hx hb dX1_set_17 rfl (lv_at hl 1 rfl) ?_
    refine z_imul hx hb dX1_set_18 ?_
    refine lv_iload_n hx hb dX1_set_19 rfl (lv_at hl 2 rfl) ?_
    refine z_iadd hx hb dX1_set_20 ?_
    refine lv_iload_n hx hb dX1_set_21 rfl (lv_at hl 3 rfl) ?_
    refine s1_z C hI (n1 * 5 + n2) (by omega) (by omega) dX1_set_22 (fun H locs hI => ?_)
    refine z_iconst hx hb dX1_set_23 ?_
    exact r1_z C hr hlocks hI (by omega) (⟨by unfold ar_set; rw [if_pos (by omega)], by unfold st_set; rw [if_pos (by omega), Int.toNat_natCast, Int.toNat_natCast]⟩) dX1_set_24
  · refine z_iconst hx hb dX1_set_10 ?_
    exact r1_z C hr hlocks hI (by omega) (⟨by unfold ar_set; rw [if_neg (by omega)], by unfold st_set; rw [if_neg (by omega)]⟩) dX1_set_11
abbrev ps1_at (i : Int) (j : Int) (z : Nat → Int) (kp : Nat → Int) (t : Nat → Int) : Int → (Nat → Int) → (Nat → Int) → (Nat → Int) → Prop := fun r z1 kp1 t1 => an_at z i j = r ∧ z = z1
set_option maxHeartbeats 4000000 in
set_option maxRecDepth 100000 in
theorem met1_at (l : Launch) (i : Int) (j : Int) (z : Nat → Int) (kp : Nat → Int) (t : Nat → Int) (hi : -2147483648 ≤ i ∧ i < 2147483648) (hj : -2147483648 ≤ j ∧ j < 2147483648) : M1i l yX1_at cX1_at 3 (some .int) rm1_at [.int (iI i), .int (iI j)] z kp t (ps1_at i j z kp t) := by
  refine M1i.of (by decide) rfl (fun _ => Nat.le_of_ble_eq_true rfl) ?_
  intro p e s m args below meth c D a ca A ls C hr hlocks hA hl hI
  have hx := C.1
  have hb := C.2.1
  have hl : lv_has ls 3 [(0, .ref (a 0)), (1, .int (iI i)), (2, .int (iI j))] := hl
  refine lv_aload_n hx hb dX1_at_0 rfl (lv_at hl 0 rfl) ?_
  refine lv_iload_n hx hb dX1_at_1 rfl (lv_at hl 1 rfl) ?_
  refine c1_i (As := [.int (iI i)]) C hA hI (met1_row l i z kp t (by omega)) (cw1_row C.2.2.2.2 ⟨Nat.le_of_ble_eq_true rfl, Nat.le_of_ble_eq_true rfl⟩) rfl hl.1 rfl (Nat.le_of_ble_eq_true rfl) dX1_at_2 ⟨Nat.le_refl _, Nat.le_refl _⟩ (fun r_1 z_1 kp_1 t_1 H locs hp_1 hI => ?_)
  obtain ⟨hp_1, rfl, rfl, rfl⟩ := hp_1
  refine z_if_eq hx hb 30 dX1_at_5 (by decide) (by omega) (fun c_2 => ?_) (fun c_2 => ?_)
  · refine z_ldc hx hb (-1000000000) C.2.2.2.1 (C.2.2.2.2 _ q234) (by decide +kernel) dX1_at_30 ?_
    exact r1_i C hr hlocks hI (⟨by unfold an_at; rw [if_neg (by omega)]; rfl, rfl⟩) dX1_at_32
  · refine lv_iload_n hx hb dX1_at_8 rfl (lv_at hl 2 rfl) ?_
    refine z_if_lt hx hb 30 dX1_at_9 (by decide) (by omega) (fun c_3 => ?_) (fun c_3 => ?_)
    · refine z_ldc hx hb (-1000000000) C.2.2.2.1 (C.2.2.2.2 _ q234) (by decide +kernel) dX1_at_30 ?_
      exact r1_i C hr hlocks hI (⟨by unfold an_at; rw [if_neg (by omega)]; rfl, rfl⟩) dX1_at_32
    · refine lv_iload_n hx hb dX1_at_12 rfl (lv_at hl 2 rfl) ?_
      refine z_iconst hx hb dX1_at_13 ?_
      refine z_icmp_gt hx hb 30 dX1_at_14 (by decide) (by omega) (by omega) (fun c_4 => ?_) (fun c_4 => ?_)
      · refine z_ldc hx hb (-1000000000) C.2.2.2.1 (C.2.2.2.2 _ q234) (by decide +kernel) dX1_at_30 ?_
        exact r1_i C hr hlocks hI (⟨by unfold an_at; rw [if_neg (by omega)]; rfl, rfl⟩) dX1_at_32
      · obtain ⟨n1, rfl⟩ := Int.eq_ofNat_of_zero_le (show 0 ≤ i by omega)
        obtain ⟨n2, rfl⟩ := Int.eq_ofNat_of_zero_le (show 0 ≤ j by omega)
        refine lv_aload_n hx hb dX1_at_17 rfl (lv_at hl 0 rfl) ?_
        refine g1_cel C hI dX1_at_18 ?_
        refine z_iconst hx hb dX1_at_21 ?_
        refine lv_iload_n hx hb dX1_at_22 rfl (lv_at hl 1 rfl) ?_
        refine z_imul hx hb dX1_at_23 ?_
        refine lv_iload_n hx hb dX1_at_24 rfl (lv_at hl 2 rfl) ?_
        refine z_iadd hx hb dX1_at_25 ?_
        refine l1_z C hI (n1 * 5 + n2) (by omega) (by omega) dX1_at_26 ?_
        refine lv_goto (tgt := 32) hx hb dX1_at_27 (by decide) ?_
        exact r1_i C hr hlocks hI (⟨by unfold an_at; rw [if_pos (by omega), Int.toNat_natCast, Int.toNat_natCast], rfl⟩) dX1_at_32
abbrev ps1_swapRows (i : Int) (k : Int) (z : Nat → Int) (kp : Nat → Int) (t : Nat → Int) : Int → (Nat → Int) → (Nat → Int) → (Nat → Int) → Prop := fun r z1 kp1 t1 => ar_swap i k = r ∧ st_swap z i k = z1
set_option maxHeartbeats 4000000 in
set_option maxRecDepth 100000 in
theorem met1_swapRows (l : Launch) (i : Int) (k : Int) (z : Nat → Int) (kp : Nat → Int) (t : Nat → Int) (hi : -2147483648 ≤ i ∧ i < 2147483648) (hk : -2147483648 ≤ k ∧ k < 2147483648) : M1i l yX1_swapRows cX1_swapRows 5 (some .boolean) rm1_swapRows [.int (iI i), .int (iI k)] z kp t (ps1_swapRows i k z kp t) := by
  refine M1i.of (by decide) rfl (fun _ => Nat.le_of_ble_eq_true rfl) ?_
  intro p e s m args below meth c D a ca A ls C hr hlocks hA hl hI
  have hx := C.1
  have hb := C.2.1
  have hl : lv_has ls 5 [(0, .ref (a 0)), (1, .int (iI i)), (2, .int (iI k))] := hl
  refine lv_aload_n hx hb dX1_swapRows_0 rfl (lv_at hl 0 rfl) ?_
  refine lv_iload_n hx hb dX1_swapRows_1 rfl (lv_at hl 1 rfl) ?_
  refine c1_i (As := [.int (iI i)]) C hA hI (met1_row l i z kp t (by omega)) (cw1_row C.2.2.2.2 ⟨Nat.le_of_ble_eq_true rfl, Nat.le_of_ble_eq_true rfl⟩) rfl hl.1 rfl (Nat.le_of_ble_eq_true rfl) dX1_swapRows_2 ⟨Nat.le_refl _, Nat.le_refl _⟩ (fun r_1 z_1 kp_1 t_1 H locs hp_1 hI => ?_)
  obtain ⟨hp_1, rfl, rfl, rfl⟩ := hp_1
  refine z_if_eq hx hb 16 dX1_swapRows_5 (by decide) (by omega) (fun c_2 => ?_) (fun c_2 => ?_)
  · refine z_iconst hx hb dX1_swapRows_16 ?_
    exact r1_z C hr hlocks hI (by omega) (⟨by unfold ar_swap; rw [if_neg (by omega)], by unfold st_swap; rw [if_neg (by omega)]⟩) dX1_swapRows_17
  · refine lv_aload_n hx hb dX1_swapRows_8 rfl (lv_at hl 0 rfl) ?_
    refine lv_iload_n hx hb dX1_swapRows_9 rfl (lv_at hl 2 rfl) ?_
    refine c1_i (As := [.int (iI k)]) C hA hI (met1_row l k z kp t (by omega)) (cw1_row C.2.2.2.2 ⟨Nat.le_of_ble_eq_true rfl, Nat.le_of_ble_eq_true rfl⟩) rfl hl.1 rfl (Nat.le_of_ble_eq_true rfl) dX1_swapRows_10 ⟨Nat.le_refl _, Nat.le_refl _⟩ (fun r_3 z_3 kp_3 t_3 H locs hp_3 hI => ?_)
    obtain ⟨hp_3, rfl, rfl, rfl⟩ := hp_3
    refine z_if_ne hx hb 18 dX1_swapRows_13 (by decide) (by omega) (fun c_4 => ?_) (fun c_4 => ?_)
    · obtain ⟨n1, rfl⟩ := Int.eq_ofNat_of_zero_le (show 0 ≤ i by omega)
      obtain ⟨n2, rfl⟩ := Int.eq_ofNat_of_zero_le (show 0 ≤ k by omega)
      refine z_iconst hx hb dX1_swapRows_18 ?_
      refine lv_istore_n (lv' := [(3, .int (iI 0)), (0, .ref (a 0)), (1, .int (iI (n1 : Int))), (2, .int (iI (n2 : Int)))]) hx hb dX1_swapRows_19 rfl hl (by decide) rfl (fun ls hl => ?_)
      have lp_20 : ∀ (n_20 : Nat) (j : Nat), (hf_20 : 4 < j + n_20) → (hj : j ≤ 4) → ∀ (H : Heap) (locs : List Loc), I1 D A s a ca (exch z n1 n2 j) kp t H locs → ∀ (ls : Array Slot), lv_has ls 5 [(0, .ref (a 0)), (1, .int (iI (n1 : Int))), (2, .int (iI (n2 : Int))), (3, .int (iI (j : Int)))] → W p l e rm1_swapRows s m args below meth c H locs 0 0 (E1i D a ca A (ps1_swapRows n1 n2 z kp t) below args s) (F0 m 20 ls []) := by
        intro n_20
        induction n_20 with
        | zero =>
          intro j hf_20 hj H locs hI ls hl
          exfalso; omega
        | succ n_20 ih_20 =>
          intro j hf_20 hj H locs hI ls hl
          refine lv_iload_n hx hb dX1_swapRows_20 rfl (lv_at hl 3 rfl) ?_
          refine z_iconst hx hb dX1_swapRows_21 ?_
          refine z_icmp_ge hx hb 75 dX1_swapRows_22 (by decide) (by omega) (by omega) (fun c_5 => ?_) (fun c_5 => ?_)
          · refine z_iconst hx hb dX1_swapRows_75 ?_
            have hj4 : j = 4 := by omega
            rw [hj4] at hI
            exact r1_z C hr hlocks hI (by omega) (⟨by unfold ar_swap; rw [if_pos (by omega)], by unfold st_swap; rw [if_pos (by omega), Int.toNat_natCast, Int.toNat_natCast]⟩) dX1_swapRows_76
          · refine lv_aload_n hx hb dX1_swapRows_25 rfl (lv_at hl 0 rfl) ?_
            refine g1_cel C hI dX1_swapRows_26 ?_
            refine z_iconst hx hb dX1_swapRows_29 ?_
            refine lv_iload_n hx hb dX1_swapRows_30 rfl (lv_at hl 1 rfl) ?_
            refine z_imul hx hb dX1_swapRows_31 ?_
            refine lv_iload_n hx hb dX1_swapRows_32 rfl (lv_at hl 3 rfl) ?_
            refine z_iadd hx hb dX1_swapRows_33 ?_
            refine l1_z C hI (n1 * 5 + j) (by omega) (by omega) dX1_swapRows_34 ?_
            refine lv_istore (lv' := [(4, .int (iI ((exch z n1 n2 j) (n1 * 5 + j)))), (0, .ref (a 0)), (1, .int (iI (n1 : Int))), (2, .int (iI (n2 : Int))), (3, .int (iI (j : Int)))]) hx hb dX1_swapRows_35 hl (by decide) rfl (fun ls hl => ?_)
            refine lv_aload_n hx hb dX1_swapRows_37 rfl (lv_at hl 1 rfl) ?_
            refine g1_cel C hI dX1_swapRows_38 ?_
            refine z_iconst hx hb dX1_swapRows_41 ?_
            refine lv_iload_n hx hb dX1_swapRows_42 rfl (lv_at hl 2 rfl) ?_
            refine z_imul hx hb dX1_swapRows_43 ?_
            refine lv_iload_n hx hb dX1_swapRows_44 rfl (lv_at hl 4 rfl) ?_
            refine z_iadd hx hb dX1_swapRows_45 ?_
            refine lv_aload_n hx hb dX1_swapRows_46 rfl (lv_at hl 1 rfl) ?_
            refine g1_cel C hI dX1_swapRows_47 ?_
            refine z_iconst hx hb dX1_swapRows_50 ?_
            refine lv_iload_n hx hb dX1_swapRows_51 rfl (lv_at hl 3 rfl) ?_
            refine z_imul hx hb dX1_swapRows_52 ?_
            refine lv_iload_n hx hb dX1_swapRows_53 rfl (lv_at hl 4 rfl) ?_
            refine z_iadd hx hb dX1_swapRows_54 ?_
            refine l1_z C hI (n2 * 5 + j) (by omega) (by omega) dX1_swapRows_55 ?_
            refine s1_z C hI (n1 * 5 + j) (by omega) (by omega) dX1_swapRows_56 (fun H locs hI => ?_)
            refine lv_aload_n hx hb dX1_swapRows_57 rfl (lv_at hl 1 rfl) ?_
            refine g1_cel C hI dX1_swapRows_58 ?_
            refine z_iconst hx hb dX1_swapRows_61 ?_
            refine lv_iload_n hx hb dX1_swapRows_62 rfl (lv_at hl 3 rfl) ?_
            refine z_imul hx hb dX1_swapRows_63 ?_
            refine lv_iload_n hx hb dX1_swapRows_64 rfl (lv_at hl 4 rfl) ?_
            refine z_iadd hx hb dX1_swapRows_65 ?_
            refine lv_iload hx hb dX1_swapRows_66 (lv_at hl 0 rfl) ?_
            refine s1_z C hI (n2 * 5 + j) (by omega) (by omega) dX1_swapRows_68 (fun H locs hI => ?_)
            refine lv_iinc (v := iI ((j + 1 : Nat) : Int)) (lv' := [(3, .int (iI ((j + 1 : Nat) : Int))), (4, .int (iI ((exch z n1 n2 j) (n1 * 5 + j)))), (0, .ref (a 0)), (1, .int (iI (n1 : Int))), (2, .int (iI (n2 : Int)))]) hx hb dX1_swapRows_69 hl (k := 4) rfl (iI_inc1 _) (by decide) rfl (fun ls hl => ?_)
            refine lv_goto (tgt := 20) hx hb dX1_swapRows_72 (by decide) ?_
            rw [exch_s (by omega)] at hI
            exact ih_20 (j + 1) (by omega) (by omega) _ _ hI ls (lv_sub hl [2, 3, 4, 0] rfl)
      exact lp_20 5 0 (by omega) (by omega) _ _ (by rw [exch_0]; exact hI) ls (lv_sub hl [1, 2, 3, 0] rfl)
    · refine z_iconst hx hb dX1_swapRows_16 ?_
      exact r1_z C hr hlocks hI (by omega) (⟨by unfold ar_swap; rw [if_neg (by omega)], by unfold st_swap; rw [if_neg (by omega)]⟩) dX1_swapRows_17
theorem okadd_n {z : Nat → Int} {n1 n2 : Nat} {f : Int} : okadd z (n1 : Int) (n2 : Int) f → fitz z n1 n2 f 4 := by
  intro h
  have g := h.2.2.2.2.2.2.2
  rw [Int.toNat_natCast, Int.toNat_natCast] at g
  exact g
abbrev ps1_addRow (i : Int) (k : Int) (f : Int) (z : Nat → Int) (kp : Nat → Int) (t : Nat → Int) : Int → (Nat → Int) → (Nat → Int) → (Nat → Int) → Prop := fun r z1 kp1 t1 => rl_add z i k f r z1 ∧ True
set_option maxHeartbeats 4000000 in
set_option maxRecDepth 100000 in
theorem met1_addRow (l : Launch) (i : Int) (k : Int) (f : Int) (z : Nat → Int) (kp : Nat → Int) (t : Nat → Int) (hi : -2147483648 ≤ i ∧ i < 2147483648) (hk : -2147483648 ≤ k ∧ k < 2147483648) (hf : -2147483648 ≤ f ∧ f < 2147483648) (hz : ∀ k, k < 20 → -50 ≤ z k ∧ z k ≤ 50) : M1i l yX1_addRow cX1_addRow 6 (some .boolean) rm1_addRow [.int (iI i), .int (iI k), .int (iI f)] z kp t (ps1_addRow i k f z kp t) := by
  refine M1i.of (by decide) rfl (fun _ => Nat.le_of_ble_eq_true rfl) ?_
  intro p e s m args below meth c D a ca A ls C hr hlocks hA hl hI
  have hx := C.1
  have hb := C.2.1
  have hl : lv_has ls 6 [(0, .ref (a 0)), (1, .int (iI i)), (2, .int (iI k)), (3, .int (iI f))] := hl
  refine lv_iload_n hx hb dX1_addRow_0 rfl (lv_at hl 1 rfl) ?_
  refine lv_iload_n hx hb dX1_addRow_1 rfl (lv_at hl 2 rfl) ?_
  refine z_icmp_eq hx hb 33 dX1_addRow_2 (by decide) (by omega) (by omega) (fun c_1 => ?_) (fun c_1 => ?_)
  · refine z_iconst hx hb dX1_addRow_33 ?_
    exact r1_z C hr hlocks hI (by omega) (⟨Or.inr ⟨fun h => by unfold okadd at h; omega, rfl, rfl⟩, trivial⟩) dX1_addRow_34
  · refine lv_aload_n hx hb dX1_addRow_5 rfl (lv_at hl 0 rfl) ?_
    refine lv_iload_n hx hb dX1_addRow_6 rfl (lv_at hl 1 rfl) ?_
    refine c1_i (As := [.int (iI i)]) C hA hI (met1_row l i z kp t (by omega)) (cw1_row C.2.2.2.2 ⟨Nat.le_of_ble_eq_true rfl, Nat.le_of_ble_eq_true rfl⟩) rfl hl.1 rfl (Nat.le_of_ble_eq_true rfl) dX1_addRow_7 ⟨Nat.le_refl _, Nat.le_refl _⟩ (fun r_2 z_2 kp_2 t_2 H locs hp_2 hI => ?_)
    obtain ⟨hp_2, rfl, rfl, rfl⟩ := hp_2
    refine z_if_eq hx hb 33 dX1_addRow_10 (by decide) (by omega) (fun c_3 => ?_) (fun c_3 => ?_)
    · refine z_iconst hx hb dX1_addRow_33 ?_
      exact r1_z C hr hlocks hI (by omega) (⟨Or.inr ⟨fun h => by unfold okadd at h; omega, rfl, rfl⟩, trivial⟩) dX1_addRow_34
    · refine lv_aload_n hx hb dX1_addRow_13 rfl (lv_at hl 0 rfl) ?_
      refine lv_iload_n hx hb dX1_addRow_14 rfl (lv_at hl 2 rfl) ?_
      refine c1_i (As := [.int (iI k)]) C hA hI (met1_row l k z kp t (by omega)) (cw1_row C.2.2.2.2 ⟨Nat.le_of_ble_eq_true rfl, Nat.le_of_ble_eq_true rfl⟩) rfl hl.1 rfl (Nat.le_of_ble_eq_true rfl) dX1_addRow_15 ⟨Nat.le_refl _, Nat.le_refl _⟩ (fun r_4 z_4 kp_4 t_4 H locs hp_4 hI => ?_)
      obtain ⟨hp_4, rfl, rfl, rfl⟩ := hp_4
      refine z_if_eq hx hb 33 dX1_addRow_18 (by decide) (by omega) (fun c_5 => ?_) (fun c_5 => ?_)
      · refine z_iconst hx hb dX1_addRow_33 ?_
        exact r1_z C hr hlocks hI (by omega) (⟨Or.inr ⟨fun h => by unfold okadd at h; omega, rfl, rfl⟩, trivial⟩) dX1_addRow_34
      · refine lv_iload_n hx hb dX1_addRow_21 rfl (lv_at hl 3 rfl) ?_
        refine z_bipush hx hb dX1_addRow_22 (by decide +kernel) ?_
        refine z_icmp_lt hx hb 33 dX1_addRow_24 (by decide) (by omega) (by omega) (fun c_6 => ?_) (fun c_6 => ?_)
        · refine z_iconst hx hb dX1_addRow_33 ?_
          exact r1_z C hr hlocks hI (by omega) (⟨Or.inr ⟨fun h => by unfold okadd at h; omega, rfl, rfl⟩, trivial⟩) dX1_addRow_34
        · refine lv_iload_n hx hb dX1_addRow_27 rfl (lv_at hl 3 rfl) ?_
          refine z_bipush hx hb dX1_addRow_28 (by decide +kernel) ?_
          refine z_icmp_le hx hb 35 dX1_addRow_30 (by decide) (by omega) (by omega) (fun c_7 => ?_) (fun c_7 => ?_)
          · obtain ⟨n1, rfl⟩ := Int.eq_ofNat_of_zero_le (show 0 ≤ i by omega)
            obtain ⟨n2, rfl⟩ := Int.eq_ofNat_of_zero_le (show 0 ≤ k by omega)
            refine z_iconst hx hb dX1_addRow_35 ?_
            refine lv_istore (lv' := [(4, .int (iI 1)), (0, .ref (a 0)), (1, .int (iI (n1 : Int))), (2, .int (iI (n2 : Int))), (3, .int (iI f))]) hx hb dX1_addRow_36 hl (by decide) rfl (fun ls hl => ?_)
            refine z_iconst hx hb dX1_addRow_38 ?_
            refine lv_istore (lv' := [(5, .int (iI 0)), (4, .int (iI 1)), (0, .ref (a 0)), (1, .int (iI (n1 : Int))), (2, .int (iI (n2 : Int))), (3, .int (iI f))]) hx hb dX1_addRow_39 hl (by decide) rfl (fun ls hl => ?_)
            have lp_41 : ∀ (n_41 : Nat) (j : Nat) (ok : Int), (hf_41 : 4 < j + n_41) → (hj : j ≤ 4) → (hok : (ok = 1 ∧ fitz z n1 n2 f j) ∨ (ok = 0 ∧ ¬ fitz z n1 n2 f j)) → ∀ (H : Heap) (locs : List Loc), I1 D A s a ca z kp t H locs → ∀ (ls : Array Slot), lv_has ls 6 [(0, .ref (a 0)), (1, .int (iI (n1 : Int))), (2, .int (iI (n2 : Int))), (3, .int (iI f)), (4, .int (iI ok)), (5, .int (iI (j : Int)))] → W p l e rm1_addRow s m args below meth c H locs 0 0 (E1i D a ca A (ps1_addRow n1 n2 f z kp t) below args s) (F0 m 41 ls []) := by
              intro n_41
              induction n_41 with
              | zero =>
                intro j ok hf_41 hj hok H locs hI ls hl
                exfalso; omega
              | succ n_41 ih_41 =>
                intro j ok hf_41 hj hok H locs hI ls hl
                have hok2 : ok = 0 ∨ ok = 1 := by omega
                refine lv_iload hx hb dX1_addRow_41 (lv_at hl 5 rfl) ?_
                refine z_iconst hx hb dX1_addRow_43 ?_
                refine z_icmp_ge hx hb 100 dX1_addRow_44 (by decide) (by omega) (by omega) (fun c_8 => ?_) (fun c_8 => ?_)
                · have hj4 : j = 4 := by omega
                  rw [hj4] at hok
                  clear hj4 hj hf_41
                  refine z_iconst hx hb dX1_addRow_100 ?_
                  refine lv_istore (lv' := [(5, .int (iI 0)), (0, .ref (a 0)), (1, .int (iI (n1 : Int))), (2, .int (iI (n2 : Int))), (3, .int (iI f)), (4, .int (iI ok))]) hx hb dX1_addRow_101 hl (by decide) rfl (fun ls hl => ?_)
                  have lp_103 : ∀ (n_103 : Nat) (j : Nat), (hf_103 : 4 < j + n_103) → (hj : j ≤ 4) → (h0 : ok = 0 → j = 0) → ∀ (H : Heap) (locs : List Loc), I1 D A s a ca (addz z n1 n2 f j) kp t H locs → ∀ (ls : Array Slot), lv_has ls 6 [(0, .ref (a 0)), (1, .int (iI (n1 : Int))), (2, .int (iI (n2 : Int))), (3, .int (iI f)), (4, .int (iI ok)), (5, .int (iI (j : Int)))] → W p l e rm1_addRow s m args below meth c H locs 0 0 (E1i D a ca A (ps1_addRow n1 n2 f z kp t) below args s) (F0 m 103 ls []) := by
                    intro n_103
                    induction n_103 with
                    | zero =>
                      intro j hf_103 hj h0 H locs hI ls hl
                      exfalso; omega
                    | succ n_103 ih_103 =>
                      intro j hf_103 hj h0 H locs hI ls hl
                      refine lv_iload hx hb dX1_addRow_103 (lv_at hl 5 rfl) ?_
                      refine z_iconst hx hb dX1_addRow_105 ?_
                      refine z_icmp_ge hx hb 156 dX1_addRow_106 (by decide) (by omega) (by omega) (fun c_9 => ?_) (fun c_9 => ?_)
                      · refine lv_iload hx hb dX1_addRow_156 (lv_at hl 4 rfl) ?_
                        have hj4 : j = 4 := by omega
                        rw [hj4] at hI
                        have hft : fitz z n1 n2 f 4 := by
                          rcases hok with ⟨_, e⟩ | ⟨e, _⟩
                          · exact e
                          · omega
                        exact r1_z C hr hlocks hI (by omega) (⟨Or.inl ⟨⟨by omega, by omega, by omega, by omega, by omega, by omega, by omega, by rw [Int.toNat_natCast, Int.toNat_natCast]; exact hft⟩, by omega, by rw [Int.toNat_natCast, Int.toNat_natCast]⟩, trivial⟩) dX1_addRow_158
                      · refine lv_iload hx hb dX1_addRow_109 (lv_at hl 4 rfl) ?_
                        refine z_if_eq hx hb 156 dX1_addRow_111 (by decide) (by omega) (fun c_10 => ?_) (fun c_10 => ?_)
                        · refine lv_iload hx hb dX1_addRow_156 (lv_at hl 4 rfl) ?_
                          have hj0 : j = 0 := by omega
                          rw [hj0, addz_0] at hI
                          exact r1_z C hr hlocks hI (by omega) (⟨Or.inr ⟨fun h => by rcases hok with ⟨e, _⟩ | ⟨_, e⟩; omega; exact e (okadd_n h), by omega, rfl⟩, trivial⟩) dX1_addRow_158
                        · refine lv_aload_n hx hb dX1_addRow_114 rfl (lv_at hl 0 rfl) ?_
                          refine g1_cel C hI dX1_addRow_115 ?_
                          refine z_iconst hx hb dX1_addRow_118 ?_
                          refine lv_iload_n hx hb dX1_addRow_119 rfl (lv_at hl 1 rfl) ?_
                          refine z_imul hx hb dX1_addRow_120 ?_
                          refine lv_iload hx hb dX1_addRow_121 (lv_at hl 5 rfl) ?_
                          refine z_iadd hx hb dX1_addRow_123 ?_
                          refine lv_aload_n hx hb dX1_addRow_124 rfl (lv_at hl 0 rfl) ?_
                          refine g1_cel C hI dX1_addRow_125 ?_
                          refine z_iconst hx hb dX1_addRow_128 ?_
                          refine lv_iload_n hx hb dX1_addRow_129 rfl (lv_at hl 1 rfl) ?_
                          refine z_imul hx hb dX1_addRow_130 ?_
                          refine lv_iload hx hb dX1_addRow_131 (lv_at hl 5 rfl) ?_
                          refine z_iadd hx hb dX1_addRow_133 ?_
                          refine l1_z C hI (n1 * 5 + j) (by omega) (by omega) dX1_addRow_134 ?_
                          rw [addz_i (by omega)]
                          refine lv_iload_n hx hb dX1_addRow_135 rfl (lv_at hl 3 rfl) ?_
                          refine lv_aload_n hx hb dX1_addRow_136 rfl (lv_at hl 0 rfl) ?_
                          refine g1_cel C hI dX1_addRow_137 ?_
                          refine z_iconst hx hb dX1_addRow_140 ?_
                          refine lv_iload_n hx hb dX1_addRow_141 rfl (lv_at hl 2 rfl) ?_
                          refine z_imul hx hb dX1_addRow_142 ?_
                          refine lv_iload hx hb dX1_addRow_143 (lv_at hl 5 rfl) ?_
                          refine z_iadd hx hb dX1_addRow_145 ?_
                          refine l1_z C hI (n2 * 5 + j) (by omega) (by omega) dX1_addRow_146 ?_
                          rw [addz_k (by omega) (by omega)]
                          refine z_imul hx hb dX1_addRow_147 ?_
                          refine z_iadd hx hb dX1_addRow_148 ?_
                          refine s1_z C hI (n1 * 5 + j) (by omega) (by omega) dX1_addRow_149 (fun H locs hI => ?_)
                          refine lv_iinc (v := iI ((j + 1 : Nat) : Int)) (lv' := [(5, .int (iI ((j + 1 : Nat) : Int))), (0, .ref (a 0)), (1, .int (iI (n1 : Int))), (2, .int (iI (n2 : Int))), (3, .int (iI f)), (4, .int (iI ok))]) hx hb dX1_addRow_150 hl (k := 5) rfl (iI_inc1 _) (by decide) rfl (fun ls hl => ?_)
                          refine lv_goto (tgt := 103) hx hb dX1_addRow_153 (by decide) ?_
                          rw [addz_s (by omega)] at hI
                          exact ih_103 (j + 1) (by omega) (by omega) (fun _ => by omega) _ _ hI ls (lv_sub hl [1, 2, 3, 4, 5, 0] rfl)
                  exact lp_103 5 0 (by omega) (by omega) (fun _ => rfl) _ _ (by rw [addz_0]; exact hI) ls (lv_sub hl [1, 2, 3, 4, 5, 0] rfl)
                · refine lv_iload hx hb dX1_addRow_47 (lv_at hl 4 rfl) ?_
                  refine z_if_eq hx hb 91 dX1_addRow_49 (by decide) (by omega) (fun c_11 => ?_) (fun c_11 => ?_)
                  · refine z_iconst hx hb dX1_addRow_91 ?_
                    refine lv_istore (lv' := [(4, .int (iI 0)), (0, .ref (a 0)), (1, .int (iI (n1 : Int))), (2, .int (iI (n2 : Int))), (3, .int (iI f)), (5, .int (iI (j : Int)))]) hx hb dX1_addRow_92 hl (by decide) rfl (fun ls hl => ?_)
                    refine lv_iinc (v := iI ((j + 1 : Nat) : Int)) (lv' := [(5, .int (iI ((j + 1 : Nat) : Int))), (4, .int (iI 0)), (0, .ref (a 0)), (1, .int (iI (n1 : Int))), (2, .int (iI (n2 : Int))), (3, .int (iI f))]) hx hb dX1_addRow_94 hl (k := 5) rfl (iI_inc1 _) (by decide) rfl (fun ls hl => ?_)
                    refine lv_goto (tgt := 41) hx hb dX1_addRow_97 (by decide) ?_
                    exact ih_41 (j + 1) 0 (by omega) (by omega) (Or.inr ⟨rfl, fun h => by rcases hok with ⟨e, _⟩ | ⟨_, e⟩; omega; exact e (fun a ha => h a (by omega))⟩) _ _ hI ls (lv_sub hl [2, 3, 4, 5, 1, 0] rfl)
                  · have hab := add_bd (i := n1 * 5 + j) (k := n2 * 5 + j) (f := f) hz (by omega) (by omega) (by omega)
                    refine lv_aload_n hx hb dX1_addRow_52 rfl (lv_at hl 0 rfl) ?_
                    refine lv_iload_n hx hb dX1_addRow_53 rfl (lv_at hl 1 rfl) ?_
                    refine lv_iload hx hb dX1_addRow_54 (lv_at hl 5 rfl) ?_
                    refine lv_aload_n hx hb dX1_addRow_56 rfl (lv_at hl 0 rfl) ?_
                    refine g1_cel C hI dX1_addRow_57 ?_
                    refine z_iconst hx hb dX1_addRow_60 ?_
                    refine lv_iload_n hx hb dX1_addRow_61 rfl (lv_at hl 1 rfl) ?_
                    refine z_imul hx hb dX1_addRow_62 ?_
                    refine lv_iload hx hb dX1_addRow_63 (lv_at hl 5 rfl) ?_
                    refine z_iadd hx hb dX1_addRow_65 ?_
                    refine l1_z C hI (n1 * 5 + j) (by omega) (by omega) dX1_addRow_66 ?_
                    refine lv_iload_n hx hb dX1_addRow_67 rfl (lv_at hl 3 rfl) ?_
                    refine lv_aload_n hx hb dX1_addRow_68 rfl (lv_at hl 0 rfl) ?_
                    refine g1_cel C hI dX1_addRow_69 ?_
                    refine z_iconst hx hb dX1_addRow_72 ?_
                    refine lv_iload_n hx hb dX1_addRow_73 rfl (lv_at hl 2 rfl) ?_
                    refine z_imul hx hb dX1_addRow_74 ?_
                    refine lv_iload hx hb dX1_addRow_75 (lv_at hl 5 rfl) ?_
                    refine z_iadd hx hb dX1_addRow_77 ?_
                    refine l1_z C hI (n2 * 5 + j) (by omega) (by omega) dX1_addRow_78 ?_
                    refine z_imul hx hb dX1_addRow_79 ?_
                    refine z_iadd hx hb dX1_addRow_80 ?_
                    refine c1_i (As := [.int (iI (n1 : Int)), .int (iI (j : Int)), .int (iI ((z (n1 * 5 + j)) + (f * (z (n2 * 5 + j)))))]) C hA hI (met1_fits l (n1 : Int) (j : Int) ((z (n1 * 5 + j)) + (f * (z (n2 * 5 + j)))) z kp t (by omega) (by omega) (by omega)) (cw1_fits C.2.2.2.2 ⟨Nat.le_of_ble_eq_true rfl, Nat.le_of_ble_eq_true rfl⟩) rfl hl.1 rfl (Nat.le_of_ble_eq_true rfl) dX1_addRow_81 ⟨Nat.le_refl _, Nat.le_refl _⟩ (fun r_12 z_12 kp_12 t_12 H locs hp_12 hI => ?_)
                    obtain ⟨hp_12, rfl, rfl, rfl⟩ := hp_12
                    refine z_if_eq hx hb 91 dX1_addRow_84 (by decide) (by omega) (fun c_13 => ?_) (fun c_13 => ?_)
                    · refine z_iconst hx hb dX1_addRow_91 ?_
                      refine lv_istore (lv' := [(4, .int (iI 0)), (0, .ref (a 0)), (1, .int (iI (n1 : Int))), (2, .int (iI (n2 : Int))), (3, .int (iI f)), (5, .int (iI (j : Int)))]) hx hb dX1_addRow_92 hl (by decide) rfl (fun ls hl => ?_)
                      refine lv_iinc (v := iI ((j + 1 : Nat) : Int)) (lv' := [(5, .int (iI ((j + 1 : Nat) : Int))), (4, .int (iI 0)), (0, .ref (a 0)), (1, .int (iI (n1 : Int))), (2, .int (iI (n2 : Int))), (3, .int (iI f))]) hx hb dX1_addRow_94 hl (k := 5) rfl (iI_inc1 _) (by decide) rfl (fun ls hl => ?_)
                      refine lv_goto (tgt := 41) hx hb dX1_addRow_97 (by decide) ?_
                      exact ih_41 (j + 1) 0 (by omega) (by omega) (Or.inr ⟨rfl, fun h => by have := h j (by omega); omega⟩) _ _ hI ls (lv_sub hl [2, 3, 4, 5, 1, 0] rfl)
                    · refine z_iconst hx hb dX1_addRow_87 ?_
                      refine lv_goto (tgt := 92) hx hb dX1_addRow_88 (by decide) ?_
                      refine lv_istore (lv' := [(4, .int (iI 1)), (0, .ref (a 0)), (1, .int (iI (n1 : Int))), (2, .int (iI (n2 : Int))), (3, .int (iI f)), (5, .int (iI (j : Int)))]) hx hb dX1_addRow_92 hl (by decide) rfl (fun ls hl => ?_)
                      refine lv_iinc (v := iI ((j + 1 : Nat) : Int)) (lv' := [(5, .int (iI ((j + 1 : Nat) : Int))), (4, .int (iI 1)), (0, .ref (a 0)), (1, .int (iI (n1 : Int))), (2, .int (iI (n2 : Int))), (3, .int (iI f))]) hx hb dX1_addRow_94 hl (k := 5) rfl (iI_inc1 _) (by decide) rfl (fun ls hl => ?_)
                      refine lv_goto (tgt := 41) hx hb dX1_addRow_97 (by decide) ?_
                      exact ih_41 (j + 1) 1 (by omega) (by omega) (Or.inl ⟨rfl, by rcases hok with ⟨_, e⟩ | ⟨e, _⟩; exact lt_s e (by omega); omega⟩) _ _ hI ls (lv_sub hl [2, 3, 4, 5, 1, 0] rfl)
            exact lp_41 5 0 1 (by omega) (by omega) (Or.inl ⟨rfl, fun j hj => absurd hj (Nat.not_lt_zero j)⟩) _ _ hI ls (lv_sub hl [2, 3, 4, 5, 1, 0] rfl)
          · refine z_iconst hx hb dX1_addRow_33 ?_
            exact r1_z C hr hlocks hI (by omega) (⟨Or.inr ⟨fun h => by unfold okadd at h; omega, rfl, rfl⟩, trivial⟩) dX1_addRow_34
abbrev ps1_keep  (z : Nat → Int) (kp : Nat → Int) (t : Nat → Int) : (Nat → Int) → (Nat → Int) → (Nat → Int) → Prop := fun z1 kp1 t1 => z = z1 ∧ z = kp1 ∧ t = t1
set_option maxHeartbeats 4000000 in
set_option maxRecDepth 100000 in
theorem met1_keep (l : Launch) (z : Nat → Int) (kp : Nat → Int) (t : Nat → Int) : M1v l yX1_keep cX1_keep 2 none rm1_keep [] z kp t (ps1_keep z kp t) := by
  refine M1v.of (by decide) rfl (fun _ => Nat.le_of_ble_eq_true rfl) ?_
  intro p e s m args below meth c D a ca A ls C hr hlocks hA hl hI
  have hx := C.1
  have hb := C.2.1
  have hl : lv_has ls 2 [(0, .ref (a 0))] := hl
  refine z_iconst hx hb dX1_keep_0 ?_
  refine lv_istore_n (lv' := [(1, .int (iI 0)), (0, .ref (a 0))]) hx hb dX1_keep_1 rfl hl (by decide) rfl (fun ls hl => ?_)
  have lp_2 : ∀ (n_2 : Nat) (k : Nat) (g : Nat → Int), (hf_2 : 20 < k + n_2) → (hk : k ≤ 20) → (hg : ∀ j, j < k → g j = z j) → ∀ (H : Heap) (locs : List Loc), I1 D A s a ca z g t H locs → ∀ (ls : Array Slot), lv_has ls 2 [(0, .ref (a 0)), (1, .int (iI (k : Int)))] → W p l e rm1_keep s m args below meth c H locs 0 0 (E1v D a ca A (ps1_keep z kp t) below args s) (F0 m 2 ls []) := by
    intro n_2
    induction n_2 with
    | zero =>
      intro k g hf_2 hk hg H locs hI ls hl
      exfalso; omega
    | succ n_2 ih_2 =>
      intro k g hf_2 hk hg H locs hI ls hl
      refine lv_iload_n hx hb dX1_keep_2 rfl (lv_at hl 1 rfl) ?_
      refine z_bipush hx hb dX1_keep_3 (by decide +kernel) ?_
      refine z_icmp_ge hx hb 26 dX1_keep_5 (by decide) (by omega) (by omega) (fun c_1 => ?_) (fun c_1 => ?_)
      · have hI := hI.ckp z (fun j hj => hg j (by omega))
        exact r1_v C hr hlocks hI (⟨rfl, rfl, rfl⟩) dX1_keep_26
      · refine lv_aload_n hx hb dX1_keep_8 rfl (lv_at hl 0 rfl) ?_
        refine g1_kep C hI dX1_keep_9 ?_
        refine lv_iload_n hx hb dX1_keep_12 rfl (lv_at hl 1 rfl) ?_
        refine lv_aload_n hx hb dX1_keep_13 rfl (lv_at hl 0 rfl) ?_
        refine g1_cel C hI dX1_keep_14 ?_
        refine lv_iload_n hx hb dX1_keep_17 rfl (lv_at hl 1 rfl) ?_
        refine l1_z C hI k (by omega) (by omega) dX1_keep_18 ?_
        refine s1_kp C hI k (by omega) (by omega) dX1_keep_19 (fun H locs hI => ?_)
        refine lv_iinc (v := iI ((k + 1 : Nat) : Int)) (lv' := [(1, .int (iI ((k + 1 : Nat) : Int))), (0, .ref (a 0))]) hx hb dX1_keep_20 hl (k := 1) rfl (iI_inc1 _) (by decide) rfl (fun ls hl => ?_)
        refine lv_goto (tgt := 2) hx hb dX1_keep_23 (by decide) ?_
        exact ih_2 (k + 1) (up g k (z k)) (by omega) (by omega) (lt_s (fun j hj => by rw [up_n (by omega)]; exact hg j hj) (up_s _ _ _)) _ _ hI ls (lv_sub hl [1, 0] rfl)
  exact lp_2 21 0 kp (by omega) (by omega) (fun j hj => absurd hj (Nat.not_lt_zero j)) _ _ hI ls (lv_sub hl [1, 0] rfl)
abbrev ps1_restore  (z : Nat → Int) (kp : Nat → Int) (t : Nat → Int) : (Nat → Int) → (Nat → Int) → (Nat → Int) → Prop := fun z1 kp1 t1 => kp = z1 ∧ kp = kp1 ∧ t = t1
set_option maxHeartbeats 4000000 in
set_option maxRecDepth 100000 in
theorem met1_restore (l : Launch) (z : Nat → Int) (kp : Nat → Int) (t : Nat → Int) : M1v l yX1_restore cX1_restore 2 none rm1_restore [] z kp t (ps1_restore z kp t) := by
  refine M1v.of (by decide) rfl (fun _ => Nat.le_of_ble_eq_true rfl) ?_
  intro p e s m args below meth c D a ca A ls C hr hlocks hA hl hI
  have hx := C.1
  have hb := C.2.1
  have hl : lv_has ls 2 [(0, .ref (a 0))] := hl
  refine z_iconst hx hb dX1_restore_0 ?_
  refine lv_istore_n (lv' := [(1, .int (iI 0)), (0, .ref (a 0))]) hx hb dX1_restore_1 rfl hl (by decide) rfl (fun ls hl => ?_)
  have lp_2 : ∀ (n_2 : Nat) (k : Nat) (g : Nat → Int), (hf_2 : 20 < k + n_2) → (hk : k ≤ 20) → (hg : ∀ j, j < k → g j = kp j) → ∀ (H : Heap) (locs : List Loc), I1 D A s a ca g kp t H locs → ∀ (ls : Array Slot), lv_has ls 2 [(0, .ref (a 0)), (1, .int (iI (k : Int)))] → W p l e rm1_restore s m args below meth c H locs 0 0 (E1v D a ca A (ps1_restore z kp t) below args s) (F0 m 2 ls []) := by
    intro n_2
    induction n_2 with
    | zero =>
      intro k g hf_2 hk hg H locs hI ls hl
      exfalso; omega
    | succ n_2 ih_2 =>
      intro k g hf_2 hk hg H locs hI ls hl
      refine lv_iload_n hx hb dX1_restore_2 rfl (lv_at hl 1 rfl) ?_
      refine z_bipush hx hb dX1_restore_3 (by decide +kernel) ?_
      refine z_icmp_ge hx hb 26 dX1_restore_5 (by decide) (by omega) (by omega) (fun c_1 => ?_) (fun c_1 => ?_)
      · have hI := hI.cz kp (fun j hj => hg j (by omega))
        exact r1_v C hr hlocks hI (⟨rfl, rfl, rfl⟩) dX1_restore_26
      · refine lv_aload_n hx hb dX1_restore_8 rfl (lv_at hl 0 rfl) ?_
        refine g1_cel C hI dX1_restore_9 ?_
        refine lv_iload_n hx hb dX1_restore_12 rfl (lv_at hl 1 rfl) ?_
        refine lv_aload_n hx hb dX1_restore_13 rfl (lv_at hl 0 rfl) ?_
        refine g1_kep C hI dX1_restore_14 ?_
        refine lv_iload_n hx hb dX1_restore_17 rfl (lv_at hl 1 rfl) ?_
        refine l1_kp C hI k (by omega) (by omega) dX1_restore_18 ?_
        refine s1_z C hI k (by omega) (by omega) dX1_restore_19 (fun H locs hI => ?_)
        refine lv_iinc (v := iI ((k + 1 : Nat) : Int)) (lv' := [(1, .int (iI ((k + 1 : Nat) : Int))), (0, .ref (a 0))]) hx hb dX1_restore_20 hl (k := 1) rfl (iI_inc1 _) (by decide) rfl (fun ls hl => ?_)
        refine lv_goto (tgt := 2) hx hb dX1_restore_23 (by decide) ?_
        exact ih_2 (k + 1) (up g k (kp k)) (by omega) (by omega) (lt_s (fun j hj => by rw [up_n (by omega)]; exact hg j hj) (up_s _ _ _)) _ _ hI ls (lv_sub hl [1, 0] rfl)
  exact lp_2 21 0 z (by omega) (by omega) (fun j hj => absurd hj (Nat.not_lt_zero j)) _ _ hI ls (lv_sub hl [1, 0] rfl)
abbrev ps1_transpose  (z : Nat → Int) (kp : Nat → Int) (t : Nat → Int) : (Nat → Int) → (Nat → Int) → (Nat → Int) → Prop := fun z1 kp1 t1 => trz z = z1 ∧ True
set_option maxHeartbeats 4000000 in
set_option maxRecDepth 100000 in
theorem met1_transpose (l : Launch) (z : Nat → Int) (kp : Nat → Int) (t : Nat → Int) : M1v l yX1_transpose cX1_transpose 2 none rm1_transpose [] z kp t (ps1_transpose z kp t) := by
  refine M1v.of (by decide) rfl (fun _ => Nat.le_of_ble_eq_true rfl) ?_
  intro p e s m args below meth c D a ca A ls C hr hlocks hA hl hI
  have hx := C.1
  have hb := C.2.1
  have hl : lv_has ls 2 [(0, .ref (a 0))] := hl
  refine lv_aload_n hx hb dX1_transpose_0 rfl (lv_at hl 0 rfl) ?_
  refine c1_v (As := []) C hA hI (met1_keep l z kp t ) (cw1_keep C.2.2.2.2 ⟨Nat.le_of_ble_eq_true rfl, Nat.le_of_ble_eq_true rfl⟩) rfl hl.1 rfl (Nat.le_of_ble_eq_true rfl) dX1_transpose_1 ⟨Nat.le_refl _, Nat.le_refl _⟩ (fun z_1 kp_1 t_1 H locs hp_1 hI => ?_)
  obtain ⟨rfl, rfl, rfl⟩ := hp_1
  refine z_iconst hx hb dX1_transpose_4 ?_
  refine lv_istore_n (lv' := [(1, .int (iI 0)), (0, .ref (a 0))]) hx hb dX1_transpose_5 rfl hl (by decide) rfl (fun ls hl => ?_)
  have lp_6 : ∀ (n_6 : Nat) (j : Nat), (hf_6 : 16 < j + n_6) → (hj : j ≤ 16) → ∀ (H : Heap) (locs : List Loc), I1 D A s a ca (trm z j) z t H locs → ∀ (ls : Array Slot), lv_has ls 2 [(0, .ref (a 0)), (1, .int (iI (j : Int)))] → W p l e rm1_transpose s m args below meth c H locs 0 0 (E1v D a ca A (ps1_transpose z kp t) below args s) (F0 m 6 ls []) := by
    intro n_6
    induction n_6 with
    | zero =>
      intro j hf_6 hj H locs hI ls hl
      exfalso; omega
    | succ n_6 ih_6 =>
      intro j hf_6 hj H locs hI ls hl
      refine lv_iload_n hx hb dX1_transpose_6 rfl (lv_at hl 1 rfl) ?_
      refine z_bipush hx hb dX1_transpose_7 (by decide +kernel) ?_
      refine z_icmp_ge hx hb 46 dX1_transpose_9 (by decide) (by omega) (by omega) (fun c_2 => ?_) (fun c_2 => ?_)
      · have hj16 : j = 16 := by omega
        rw [hj16] at hI
        have hI := hI.cz (trz z) trm_16
        exact r1_v C hr hlocks hI (⟨rfl, trivial⟩) dX1_transpose_46
      · refine lv_aload_n hx hb dX1_transpose_12 rfl (lv_at hl 0 rfl) ?_
        refine g1_cel C hI dX1_transpose_13 ?_
        refine z_iconst hx hb dX1_transpose_16 ?_
        refine lv_iload_n hx hb dX1_transpose_17 rfl (lv_at hl 1 rfl) ?_
        refine z_iconst hx hb dX1_transpose_18 ?_
        refine z_idivN hx hb j 4 dX1_transpose_19 (by omega) (by omega) (by omega) ?_
        refine z_imul hx hb dX1_transpose_20 ?_
        refine lv_iload_n hx hb dX1_transpose_21 rfl (lv_at hl 1 rfl) ?_
        refine z_iconst hx hb dX1_transpose_22 ?_
        refine z_iremN hx hb j 4 dX1_transpose_23 (by omega) (by omega) (by omega) ?_
        refine z_iadd hx hb dX1_transpose_24 ?_
        refine lv_aload_n hx hb dX1_transpose_25 rfl (lv_at hl 0 rfl) ?_
        refine g1_kep C hI dX1_transpose_26 ?_
        refine z_iconst hx hb dX1_transpose_29 ?_
        refine lv_iload_n hx hb dX1_transpose_30 rfl (lv_at hl 1 rfl) ?_
        refine z_iconst hx hb dX1_transpose_31 ?_
        refine z_iremN hx hb j 4 dX1_transpose_32 (by omega) (by omega) (by omega) ?_
        refine z_imul hx hb dX1_transpose_33 ?_
        refine lv_iload_n hx hb dX1_transpose_34 rfl (lv_at hl 1 rfl) ?_
        refine z_iconst hx hb dX1_transpose_35 ?_
        refine z_idivN hx hb j 4 dX1_transpose_36 (by omega) (by omega) (by omega) ?_
        refine z_iadd hx hb dX1_transpose_37 ?_
        refine l1_kp C hI ((5 * (j % 4)) + (j / 4)) (by omega) (by omega) dX1_transpose_38 ?_
        refine s1_z C hI ((5 * (j / 4)) + (j % 4)) (by omega) (by omega) dX1_transpose_39 (fun H locs hI => ?_)
        refine lv_iinc (v := iI ((j + 1 : Nat) : Int)) (lv' := [(1, .int (iI ((j + 1 : Nat) : Int))), (0, .ref (a 0))]) hx hb dX1_transpose_40 hl (k := 1) rfl (iI_inc1 _) (by decide) rfl (fun ls hl => ?_)
        refine lv_goto (tgt := 6) hx hb dX1_transpose_43 (by decide) ?_
        rw [trm_s] at hI
        exact ih_6 (j + 1) (by omega) (by omega) _ _ hI ls (lv_sub hl [1, 0] rfl)
  exact lp_6 17 0 (by omega) (by omega) _ _ (by rw [trm_0]; exact hI) ls (lv_sub hl [1, 0] rfl)
end
section
set_option maxRecDepth 100000
abbrev ps1_ones (x1 : Nat) (z : Nat → Int) (kp : Nat → Int) (t : Nat → Int) : Int → (Nat → Int) → (Nat → Int) → (Nat → Int) → Prop := fun r z1 kp1 t1 => ((on x1 : Nat) : Int) = r ∧ z = z1 ∧ kp = kp1 ∧ t = t1
set_option maxHeartbeats 4000000 in
set_option maxRecDepth 100000 in
theorem met1_ones (l : Launch) (x1 : Nat) (z : Nat → Int) (kp : Nat → Int) (t : Nat → Int) (h1 : x1 < 2147483648) : M1i l yX1_ones cX1_ones 4 (some .int) rm1_ones [.int (iI (x1 : Int))] z kp t (ps1_ones x1 z kp t) := by
  refine M1i.of (by decide) rfl (fun _ => Nat.le_of_ble_eq_true rfl) ?_
  intro p e s m args below meth c D a ca A ls C hr hlocks hA hl hI
  have hx := C.1
  have hb := C.2.1
  have hl : lv_has ls 4 [(0, .ref (a 0)), (1, .int (iI (x1 : Int)))] := hl
  refine z_iconst hx hb dX1_ones_0 ?_
  refine lv_istore_n (lv' := [(2, .int (iI 0)), (0, .ref (a 0)), (1, .int (iI (x1 : Int)))]) hx hb dX1_ones_1 rfl hl (by decide) rfl (fun ls hl => ?_)
  refine z_iconst hx hb dX1_ones_2 ?_
  refine lv_istore_n (lv' := [(3, .int (iI 0)), (2, .int (iI 0)), (0, .ref (a 0)), (1, .int (iI (x1 : Int)))]) hx hb dX1_ones_3 rfl hl (by decide) rfl (fun ls hl => ?_)
  have lp_4 : ∀ (n_4 : Nat) (k : Nat) (nn : Nat), (hf_4 : 5 < k + n_4) → (hk : k ≤ 5) → (hn : nn = onk x1 k) → ∀ (H : Heap) (locs : List Loc), I1 D A s a ca z kp t H locs → ∀ (ls : Array Slot), lv_has ls 4 [(0, .ref (a 0)), (1, .int (iI (x1 : Int))), (2, .int (iI (nn : Int))), (3, .int (iI (k : Int)))] → W p l e rm1_ones s m args below meth c H locs 0 0 (E1i D a ca A (ps1_ones x1 z kp t) below args s) (F0 m 4 ls []) := by
    intro n_4
    induction n_4 with
    | zero =>
      intro k nn hf_4 hk hn H locs hI ls hl
      exfalso; omega
    | succ n_4 ih_4 =>
      intro k nn hf_4 hk hn H locs hI ls hl
      refine lv_iload_n hx hb dX1_ones_4 rfl (lv_at hl 3 rfl) ?_
      refine z_iconst hx hb dX1_ones_5 ?_
      refine z_icmp_ge hx hb 23 dX1_ones_6 (by decide) (by omega) (by omega) (fun c_1 => ?_) (fun c_1 => ?_)
      · refine lv_iload_n hx hb dX1_ones_23 rfl (lv_at hl 2 rfl) ?_
        have hk5 : k = 5 := by omega
        subst hk5
        exact r1_i C hr hlocks hI (⟨by rw [hn], rfl, rfl, rfl⟩) dX1_ones_24
      · refine lv_iload_n hx hb dX1_ones_9 rfl (lv_at hl 2 rfl) ?_
        refine lv_iload_n hx hb dX1_ones_10 rfl (lv_at hl 1 rfl) ?_
        refine lv_iload_n hx hb dX1_ones_11 rfl (lv_at hl 3 rfl) ?_
        refine z_ishrN hx hb x1 k dX1_ones_12 (by omega) (by omega) (by omega) ?_
        refine z_iconst hx hb dX1_ones_13 ?_
        refine z_iand hx hb ((x1 / 2 ^ k % 2 : Nat) : Int) dX1_ones_14 (iI_and1 (Nat.lt_of_le_of_lt (Nat.div_le_self _ _) (by omega))) ?_
        refine z_iadd hx hb dX1_ones_15 ?_
        refine z_rei (z := ((nn + x1 / 2 ^ k % 2 : Nat) : Int)) (by omega) ?_
        refine lv_istore_n (lv' := [(2, .int (iI ((nn + x1 / 2 ^ k % 2 : Nat) : Int))), (0, .ref (a 0)), (1, .int (iI (x1 : Int))), (3, .int (iI (k : Int)))]) hx hb dX1_ones_16 rfl hl (by decide) rfl (fun ls hl => ?_)
        refine lv_iinc (v := iI ((k + 1 : Nat) : Int)) (lv' := [(3, .int (iI ((k + 1 : Nat) : Int))), (2, .int (iI ((nn + x1 / 2 ^ k % 2 : Nat) : Int))), (0, .ref (a 0)), (1, .int (iI (x1 : Int)))]) hx hb dX1_ones_17 hl (k := 3) rfl (iI_inc1 _) (by decide) rfl (fun ls hl => ?_)
        refine lv_goto (tgt := 4) hx hb dX1_ones_20 (by decide) ?_
        exact ih_4 (k + 1) (nn + x1 / 2 ^ k % 2) (by omega) (by omega) (by rw [hn]; rfl) _ _ hI ls (lv_sub hl [2, 3, 1, 0] rfl)
  exact lp_4 6 0 0 (by omega) (by omega) rfl _ _ hI ls (lv_sub hl [2, 3, 1, 0] rfl)
abbrev ps1_expand (x1 : Nat) (x2 : Nat) (z : Nat → Int) (kp : Nat → Int) (t : Nat → Int) : Int → (Nat → Int) → (Nat → Int) → (Nat → Int) → Prop := fun r z1 kp1 t1 => exk (row z x1) t x2 5 = r ∧ z = z1 ∧ kp = kp1 ∧ t = t1
set_option maxHeartbeats 4000000 in
set_option maxRecDepth 100000 in
theorem met1_expand (l : Launch) (x1 : Nat) (x2 : Nat) (z : Nat → Int) (kp : Nat → Int) (t : Nat → Int) (h1 : x1 < 4 ∧ x2 < 32) (hz : ∀ k, k < 20 → -1000 ≤ z k ∧ z k ≤ 1000) : M1l l yX1_expand cX1_expand 8 (some .long) rm1_expand [.int (iI (x1 : Int)), .int (iI (x2 : Int))] z kp t (ps1_expand x1 x2 z kp t) := by
  refine M1l.of (by decide) rfl (fun _ => Nat.le_of_ble_eq_true rfl) ?_
  intro p e s m args below meth c D a ca A ls C hr hlocks hA hl hI
  have hx := C.1
  have hb := C.2.1
  have hl : lv_has ls 8 [(0, .ref (a 0)), (1, .int (iI (x1 : Int))), (2, .int (iI (x2 : Int)))] := hl
  refine z_lconst0 hx hb dX1_expand_0 ?_
  refine lv_lstore_n (lv' := [(3, .long (iL 0)), (0, .ref (a 0)), (1, .int (iI (x1 : Int))), (2, .int (iI (x2 : Int)))]) hx hb dX1_expand_1 rfl hl (by decide) rfl (fun ls hl => ?_)
  refine z_iconst hx hb dX1_expand_2 ?_
  refine lv_istore (lv' := [(5, .int (iI 0)), (3, .long (iL 0)), (0, .ref (a 0)), (1, .int (iI (x1 : Int))), (2, .int (iI (x2 : Int)))]) hx hb dX1_expand_3 hl (by decide) rfl (fun ls hl => ?_)
  have lp_5 : ∀ (n_5 : Nat) (j : Nat) (ss : Int), (hf_5 : 5 < j + n_5) → (hj : j ≤ 5) → (hs : ss = exk (row z x1) t x2 j) → ∀ (H : Heap) (locs : List Loc), I1 D A s a ca z kp t H locs → ∀ (ls : Array Slot), lv_has ls 8 [(0, .ref (a 0)), (1, .int (iI (x1 : Int))), (2, .int (iI (x2 : Int))), (3, .long (iL ss)), (5, .int (iI (j : Int)))] → W p l e rm1_expand s m args below meth c H locs 0 0 (E1l D a ca A (ps1_expand x1 x2 z kp t) below args s) (F0 m 5 ls []) := by
    intro n_5
    induction n_5 with
    | zero =>
      intro j ss hf_5 hj hs H locs hI ls hl
      exfalso; omega
    | succ n_5 ih_5 =>
      intro j ss hf_5 hj hs H locs hI ls hl
      refine lv_iload hx hb dX1_expand_5 (lv_at hl 4 rfl) ?_
      refine z_iconst hx hb dX1_expand_7 ?_
      refine z_icmp_ge hx hb 82 dX1_expand_8 (by decide) (by omega) (by omega) (fun c_1 => ?_) (fun c_1 => ?_)
      · refine lv_lload_n hx hb dX1_expand_82 rfl (lv_at hl 3 rfl) ?_
        have hj5 : j = 5 := by omega
        subst hj5
        exact r1_l C hr hlocks hI (⟨hs.symm, rfl, rfl, rfl⟩) dX1_expand_83
      · refine lv_iload_n hx hb dX1_expand_11 rfl (lv_at hl 2 rfl) ?_
        refine lv_iload hx hb dX1_expand_12 (lv_at hl 4 rfl) ?_
        refine z_ishrN hx hb x2 j dX1_expand_14 (by omega) (by omega) (by omega) ?_
        refine z_iconst hx hb dX1_expand_15 ?_
        refine z_iand hx hb ((x2 / 2 ^ j % 2 : Nat) : Int) dX1_expand_16 (iI_and1 (Nat.lt_of_le_of_lt (Nat.div_le_self _ _) (by omega))) ?_
        refine z_iconst hx hb dX1_expand_17 ?_
        refine z_icmp_ne hx hb 76 dX1_expand_18 (by decide) (by omega) (by omega) (fun c_2 => ?_) (fun c_2 => ?_)
        · refine lv_iinc (v := iI ((j + 1 : Nat) : Int)) (lv' := [(5, .int (iI ((j + 1 : Nat) : Int))), (0, .ref (a 0)), (1, .int (iI (x1 : Int))), (2, .int (iI (x2 : Int))), (3, .long (iL ss))]) hx hb dX1_expand_76 hl (k := 4) rfl (iI_inc1 _) (by decide) rfl (fun ls hl => ?_)
          refine lv_goto (tgt := 5) hx hb dX1_expand_79 (by decide) ?_
          exact ih_5 (j + 1) ss (by omega) (by omega) (by rw [hs]; exact exk_n (by omega)) _ _ hI ls (lv_sub hl [1, 2, 3, 4, 0] rfl)
        · refine lv_aload_n hx hb dX1_expand_21 rfl (lv_at hl 0 rfl) ?_
          refine g1_cel C hI dX1_expand_22 ?_
          refine z_iconst hx hb dX1_expand_25 ?_
          refine lv_iload_n hx hb dX1_expand_26 rfl (lv_at hl 1 rfl) ?_
          refine z_imul hx hb dX1_expand_27 ?_
          refine lv_iload hx hb dX1_expand_28 (lv_at hl 4 rfl) ?_
          refine z_iadd hx hb dX1_expand_30 ?_
          refine l1_z C hI (x1 * 5 + j) (by omega) (by omega) dX1_expand_31 ?_
          refine z_i2l hx hb dX1_expand_32 (by have := hz (x1 * 5 + j) (by omega); omega) ?_
          refine lv_aload_n hx hb dX1_expand_33 rfl (lv_at hl 0 rfl) ?_
          refine g1_tab C hI dX1_expand_34 ?_
          refine lv_iload_n hx hb dX1_expand_37 rfl (lv_at hl 2 rfl) ?_
          refine z_iconst hx hb dX1_expand_38 ?_
          refine lv_iload hx hb dX1_expand_39 (lv_at hl 4 rfl) ?_
          refine z_ishl hx hb ((2 ^ j : Nat) : Int) dX1_expand_41 (iI_shl j (by omega)) ?_
          refine z_iconst hx hb dX1_expand_42 ?_
          refine z_ixor hx hb (-((2 ^ j : Nat) : Int) - 1) dX1_expand_43 (iI_not (2 ^ j) (p2_lt (by omega))) ?_
          refine z_iand hx hb ((bd x2 (2 ^ j) : Nat) : Int) dX1_expand_44 (iI_cut x2 (by omega) (2 ^ j) (p2_lt (by omega))) ?_
          refine l1_t C hI (bd x2 (2 ^ j)) (by omega) (Nat.lt_of_le_of_lt (bd_le _ _) h1.2) dX1_expand_45 ?_
          refine z_lmul hx hb dX1_expand_46 ?_
          refine lv_lstore (lv' := [(6, .long (iL ((z (x1 * 5 + j)) * (t (bd x2 (2 ^ j)))))), (0, .ref (a 0)), (1, .int (iI (x1 : Int))), (2, .int (iI (x2 : Int))), (3, .long (iL ss)), (5, .int (iI (j : Int)))]) hx hb dX1_expand_47 hl (by decide) rfl (fun ls hl => ?_)
          refine lv_aload_n hx hb dX1_expand_49 rfl (lv_at hl 1 rfl) ?_
          refine lv_iload_n hx hb dX1_expand_50 rfl (lv_at hl 3 rfl) ?_
          refine lv_iload hx hb dX1_expand_51 (lv_at hl 5 rfl) ?_
          refine z_iconst hx hb dX1_expand_53 ?_
          refine z_iadd hx hb dX1_expand_54 ?_
          refine z_rei (z := ((j + 1 : Nat) : Int)) (by omega) ?_
          refine z_ishrN hx hb x2 (j + 1) dX1_expand_55 (by omega) (by omega) (by omega) ?_
          refine c1_i (As := [.int (iI ((x2 / 2 ^ (j + 1) : Nat) : Int))]) C hA hI (met1_ones l (x2 / 2 ^ (j + 1)) z kp t (Nat.lt_of_le_of_lt (Nat.div_le_self _ _) (by omega))) (cw1_ones C.2.2.2.2 ⟨Nat.le_of_ble_eq_true rfl, Nat.le_of_ble_eq_true rfl⟩) rfl hl.1 rfl (Nat.le_of_ble_eq_true rfl) dX1_expand_56 ⟨Nat.le_refl _, Nat.le_refl _⟩ (fun r_3 z_3 kp_3 t_3 H locs hp_3 hI => ?_)
          obtain ⟨rfl, rfl, rfl, rfl⟩ := hp_3
          have hon : on (x2 / 2 ^ (j + 1)) ≤ 5 := onk_le (x2 / 2 ^ (j + 1)) 5
          refine z_iconst hx hb dX1_expand_59 ?_
          refine z_iremN hx hb (on (x2 / 2 ^ (j + 1))) 2 dX1_expand_60 (by omega) (by omega) (by omega) ?_
          refine z_if_ne hx hb 71 dX1_expand_61 (by decide) (by omega) (fun c_4 => ?_) (fun c_4 => ?_)
          · refine lv_lload_n hx hb dX1_expand_71 rfl (lv_at hl 4 rfl) ?_
            refine lv_lload hx hb dX1_expand_72 (lv_at hl 0 rfl) ?_
            refine z_lsub hx hb dX1_expand_74 ?_
            refine lv_lstore_n (lv' := [(3, .long (iL (ss - ((z (x1 * 5 + j)) * (t (bd x2 (2 ^ j))))))), (6, .long (iL ((z (x1 * 5 + j)) * (t (bd x2 (2 ^ j)))))), (0, .ref (a 0)), (1, .int (iI (x1 : Int))), (2, .int (iI (x2 : Int))), (5, .int (iI (j : Int)))]) hx hb dX1_expand_75 rfl hl (by decide) rfl (fun ls hl => ?_)
            refine lv_iinc (v := iI ((j + 1 : Nat) : Int)) (lv' := [(5, .int (iI ((j + 1 : Nat) : Int))), (3, .long (iL (ss - ((z (x1 * 5 + j)) * (t (bd x2 (2 ^ j))))))), (6, .long (iL ((z (x1 * 5 + j)) * (t (bd x2 (2 ^ j)))))), (0, .ref (a 0)), (1, .int (iI (x1 : Int))), (2, .int (iI (x2 : Int)))]) hx hb dX1_expand_76 hl (k := 5) rfl (iI_inc1 _) (by decide) rfl (fun ls hl => ?_)
            refine lv_goto (tgt := 5) hx hb dX1_expand_79 (by decide) ?_
            exact ih_5 (j + 1) (ss - z (x1 * 5 + j) * t (bd x2 (2 ^ j))) (by omega) (by omega) (by rw [hs]; exact exk_m (by omega) (by omega)) _ _ hI ls (lv_sub hl [3, 4, 5, 1, 0] rfl)
          · refine lv_lload_n hx hb dX1_expand_64 rfl (lv_at hl 4 rfl) ?_
            refine lv_lload hx hb dX1_expand_65 (lv_at hl 0 rfl) ?_
            refine z_ladd hx hb dX1_expand_67 ?_
            refine lv_goto (tgt := 75) hx hb dX1_expand_68 (by decide) ?_
            refine lv_lstore_n (lv' := [(3, .long (iL (ss + ((z (x1 * 5 + j)) * (t (bd x2 (2 ^ j))))))), (6, .long (iL ((z (x1 * 5 + j)) * (t (bd x2 (2 ^ j)))))), (0, .ref (a 0)), (1, .int (iI (x1 : Int))), (2, .int (iI (x2 : Int))), (5, .int (iI (j : Int)))]) hx hb dX1_expand_75 rfl hl (by decide) rfl (fun ls hl => ?_)
            refine lv_iinc (v := iI ((j + 1 : Nat) : Int)) (lv' := [(5, .int (iI ((j + 1 : Nat) : Int))), (3, .long (iL (ss + ((z (x1 * 5 + j)) * (t (bd x2 (2 ^ j))))))), (6, .long (iL ((z (x1 * 5 + j)) * (t (bd x2 (2 ^ j)))))), (0, .ref (a 0)), (1, .int (iI (x1 : Int))), (2, .int (iI (x2 : Int)))]) hx hb dX1_expand_76 hl (k := 5) rfl (iI_inc1 _) (by decide) rfl (fun ls hl => ?_)
            refine lv_goto (tgt := 5) hx hb dX1_expand_79 (by decide) ?_
            exact ih_5 (j + 1) (ss + z (x1 * 5 + j) * t (bd x2 (2 ^ j))) (by omega) (by omega) (by rw [hs]; exact exk_p (by omega) (by omega)) _ _ hI ls (lv_sub hl [3, 4, 5, 1, 0] rfl)
  exact lp_5 6 0 0 (by omega) (by omega) rfl _ _ hI ls (lv_sub hl [2, 3, 4, 1, 0] rfl)
abbrev ps1_part (x1 : Nat) (x2 : Nat) (z : Nat → Int) (kp : Nat → Int) (t : Nat → Int) : Int → (Nat → Int) → (Nat → Int) → (Nat → Int) → Prop := fun r z1 kp1 t1 => mt (rl z x1 4) x2 = r ∧ z = z1 ∧ kp = kp1
set_option maxHeartbeats 4000000 in
set_option maxRecDepth 100000 in
theorem met1_part (l : Launch) (x1 : Nat) (x2 : Nat) (z : Nat → Int) (kp : Nat → Int) (t : Nat → Int) (h1 : x1 < 16 ∧ x2 < 32 ∧ 1 ≤ onk x1 4 ∧ on x2 = onk x1 4) (hz : ∀ k, k < 20 → -1000 ≤ z k ∧ z k ≤ 1000) : M1l l yX1_part cX1_part 6 (some .long) rm1_part [.int (iI (x1 : Int)), .int (iI (x2 : Int))] z kp t (ps1_part x1 x2 z kp t) := by
  refine M1l.of (by decide) rfl (fun _ => Nat.le_of_ble_eq_true rfl) ?_
  intro p e s m args below meth c D a ca A ls C hr hlocks hA hl hI
  have hx := C.1
  have hb := C.2.1
  have hl : lv_has ls 6 [(0, .ref (a 0)), (1, .int (iI (x1 : Int))), (2, .int (iI (x2 : Int)))] := hl
  refine lv_aload_n hx hb dX1_part_0 rfl (lv_at hl 0 rfl) ?_
  refine g1_tab C hI dX1_part_1 ?_
  refine z_iconst hx hb dX1_part_4 ?_
  refine z_lconst1 hx hb dX1_part_5 ?_
  refine s1_t C hI 0 (by omega) (by omega) dX1_part_6 (fun H locs hI => ?_)
  refine z_iconst hx hb dX1_part_7 ?_
  refine lv_istore_n (lv' := [(3, .int (iI 0)), (0, .ref (a 0)), (1, .int (iI (x1 : Int))), (2, .int (iI (x2 : Int)))]) hx hb dX1_part_8 rfl hl (by decide) rfl (fun ls hl => ?_)
  refine z_iconst hx hb dX1_part_9 ?_
  refine lv_istore (lv' := [(4, .int (iI 0)), (3, .int (iI 0)), (0, .ref (a 0)), (1, .int (iI (x1 : Int))), (2, .int (iI (x2 : Int)))]) hx hb dX1_part_10 hl (by decide) rfl (fun ls hl => ?_)
  have lp_12 : ∀ (n_12 : Nat) (i : Nat) (sz : Nat) (T : Nat → Int), (hf_12 : 4 < i + n_12) → (hi : i ≤ 4) → (hsb : sz ≤ i) → (hsz : onk x1 i = sz) → (hT : ∀ S, S < 32 → on S = sz → T S = mt (rl z x1 i) S) → ∀ (H : Heap) (locs : List Loc), I1 D A s a ca z kp T H locs → ∀ (ls : Array Slot), lv_has ls 6 [(0, .ref (a 0)), (1, .int (iI (x1 : Int))), (2, .int (iI (x2 : Int))), (3, .int (iI (sz : Int))), (4, .int (iI (i : Int)))] → W p l e rm1_part s m args below meth c H locs 0 0 (E1l D a ca A (ps1_part x1 x2 z kp t) below args s) (F0 m 12 ls []) := by
    intro n_12
    induction n_12 with
    | zero =>
      intro i sz T hf_12 hi hsb hsz hT H locs hI ls hl
      exfalso; omega
    | succ n_12 ih_12 =>
      intro i sz T hf_12 hi hsb hsz hT H locs hI ls hl
      refine lv_iload hx hb dX1_part_12 (lv_at hl 4 rfl) ?_
      refine z_iconst hx hb dX1_part_14 ?_
      refine z_icmp_ge hx hb 88 dX1_part_15 (by decide) (by omega) (by omega) (fun c_1 => ?_) (fun c_1 => ?_)
      · have hi4 : i = 4 := by omega
        subst hi4
        refine lv_iload_n hx hb dX1_part_88 rfl (lv_at hl 3 rfl) ?_
        refine z_if_ne hx hb 96 dX1_part_89 (by decide) (by omega) (fun c_2 => ?_) (fun c_2 => ?_)
        · refine lv_aload_n hx hb dX1_part_96 rfl (lv_at hl 0 rfl) ?_
          refine g1_tab C hI dX1_part_97 ?_
          refine lv_iload_n hx hb dX1_part_100 rfl (lv_at hl 2 rfl) ?_
          refine l1_t C hI x2 (by omega) (by omega) dX1_part_101 ?_
          exact r1_l C hr hlocks hI (⟨(hT x2 (by omega) (by omega)).symm, rfl, rfl⟩) dX1_part_102
        · exfalso; omega
      · refine lv_iload_n hx hb dX1_part_18 rfl (lv_at hl 1 rfl) ?_
        refine lv_iload hx hb dX1_part_19 (lv_at hl 4 rfl) ?_
        refine z_ishrN hx hb x1 i dX1_part_21 (by omega) (by omega) (by omega) ?_
        refine z_iconst hx hb dX1_part_22 ?_
        refine z_iand hx hb ((x1 / 2 ^ i % 2 : Nat) : Int) dX1_part_23 (iI_and1 (Nat.lt_of_le_of_lt (Nat.div_le_self _ _) (by omega))) ?_
        refine z_iconst hx hb dX1_part_24 ?_
        refine z_icmp_ne hx hb 82 dX1_part_25 (by decide) (by omega) (by omega) (fun c_3 => ?_) (fun c_3 => ?_)
        · refine lv_iinc (v := iI ((i + 1 : Nat) : Int)) (lv' := [(4, .int (iI ((i + 1 : Nat) : Int))), (0, .ref (a 0)), (1, .int (iI (x1 : Int))), (2, .int (iI (x2 : Int))), (3, .int (iI (sz : Int)))]) hx hb dX1_part_82 hl (k := 4) rfl (iI_inc1 _) (by decide) rfl (fun ls hl => ?_)
          refine lv_goto (tgt := 12) hx hb dX1_part_85 (by decide) ?_
          exact ih_12 (i + 1) sz T (by omega) (by omega) (by omega) ((onk_n (by omega)).trans hsz) (by rw [rl_n (by omega)]; exact hT) _ _ hI ls (lv_sub hl [1, 2, 3, 4, 0] rfl)
        · refine lv_iinc (v := iI ((sz + 1 : Nat) : Int)) (lv' := [(3, .int (iI ((sz + 1 : Nat) : Int))), (0, .ref (a 0)), (1, .int (iI (x1 : Int))), (2, .int (iI (x2 : Int))), (4, .int (iI (i : Int)))]) hx hb dX1_part_28 hl (k := 3) rfl (iI_inc1 _) (by decide) rfl (fun ls hl => ?_)
          refine z_iconst hx hb dX1_part_31 ?_
          refine lv_istore (lv' := [(5, .int (iI 1)), (3, .int (iI ((sz + 1 : Nat) : Int))), (0, .ref (a 0)), (1, .int (iI (x1 : Int))), (2, .int (iI (x2 : Int))), (4, .int (iI (i : Int)))]) hx hb dX1_part_32 hl (by decide) rfl (fun ls hl => ?_)
          have lp_34 : ∀ (n_34 : Nat) (k : Nat) (T2 : Nat → Int), (hf_34 : 32 < k + n_34) → (hk : 1 ≤ k ∧ k ≤ 32) → (h2 : ∀ S, S < 32 → on S = sz → T2 S = mt (rl z x1 i) S) → (h3 : ∀ S, S < k → on S = sz + 1 → T2 S = mt (row z i :: rl z x1 i) S) → ∀ (H : Heap) (locs : List Loc), I1 D A s a ca z kp T2 H locs → ∀ (ls : Array Slot), lv_has ls 6 [(0, .ref (a 0)), (1, .int (iI (x1 : Int))), (2, .int (iI (x2 : Int))), (3, .int (iI ((sz + 1 : Nat) : Int))), (4, .int (iI (i : Int))), (5, .int (iI (k : Int)))] → W p l e rm1_part s m args below meth c H locs 0 0 (E1l D a ca A (ps1_part x1 x2 z kp t) below args s) (F0 m 34 ls []) := by
            intro n_34
            induction n_34 with
            | zero =>
              intro k T2 hf_34 hk h2 h3 H locs hI ls hl
              exfalso; omega
            | succ n_34 ih_34 =>
              intro k T2 hf_34 hk h2 h3 H locs hI ls hl
              refine lv_iload hx hb dX1_part_34 (lv_at hl 5 rfl) ?_
              refine z_bipush hx hb dX1_part_36 (by decide +kernel) ?_
              refine z_icmp_ge hx hb 82 dX1_part_38 (by decide) (by omega) (by omega) (fun c_4 => ?_) (fun c_4 => ?_)
              · refine lv_iinc (v := iI ((i + 1 : Nat) : Int)) (lv' := [(4, .int (iI ((i + 1 : Nat) : Int))), (0, .ref (a 0)), (1, .int (iI (x1 : Int))), (2, .int (iI (x2 : Int))), (3, .int (iI ((sz + 1 : Nat) : Int))), (5, .int (iI (k : Int)))]) hx hb dX1_part_82 hl (k := 4) rfl (iI_inc1 _) (by decide) rfl (fun ls hl => ?_)
                refine lv_goto (tgt := 12) hx hb dX1_part_85 (by decide) ?_
                exact ih_12 (i + 1) (sz + 1) T2 (by omega) (by omega) (by omega) (by rw [onk_y (by omega), hsz]) (by rw [rl_y (by omega)]; exact fun S g1 g2 => h3 S (by omega) g2) _ _ hI ls (lv_sub hl [1, 2, 3, 4, 0] rfl)
              · refine lv_aload_n hx hb dX1_part_41 rfl (lv_at hl 0 rfl) ?_
                refine g1_tab C hI dX1_part_42 ?_
                refine lv_iload hx hb dX1_part_45 (lv_at hl 5 rfl) ?_
                refine lv_aload_n hx hb dX1_part_47 rfl (lv_at hl 0 rfl) ?_
                refine lv_iload hx hb dX1_part_48 (lv_at hl 5 rfl) ?_
                refine c1_i (As := [.int (iI (k : Int))]) C hA hI (met1_ones l k z kp T2 (by omega)) (cw1_ones C.2.2.2.2 ⟨Nat.le_of_ble_eq_true rfl, Nat.le_of_ble_eq_true rfl⟩) rfl hl.1 rfl (Nat.le_of_ble_eq_true rfl) dX1_part_50 ⟨Nat.le_refl _, Nat.le_refl _⟩ (fun r_5 z_5 kp_5 t_5 H locs hp_5 hI => ?_)
                obtain ⟨rfl, rfl, rfl, rfl⟩ := hp_5
                have hon : on k ≤ 5 := onk_le k 5
                refine lv_iload_n hx hb dX1_part_53 rfl (lv_at hl 3 rfl) ?_
                refine z_icmp_ne hx hb 68 dX1_part_54 (by decide) (by omega) (by omega) (fun c_6 => ?_) (fun c_6 => ?_)
                · refine lv_aload_n hx hb dX1_part_68 rfl (lv_at hl 0 rfl) ?_
                  refine g1_tab C hI dX1_part_69 ?_
                  refine lv_iload hx hb dX1_part_72 (lv_at hl 5 rfl) ?_
                  refine l1_t C hI k (by omega) (by omega) dX1_part_74 ?_
                  refine s1_t C hI k (by omega) (by omega) dX1_part_75 (fun H locs hI => ?_)
                  refine lv_iinc (v := iI ((k + 1 : Nat) : Int)) (lv' := [(5, .int (iI ((k + 1 : Nat) : Int))), (0, .ref (a 0)), (1, .int (iI (x1 : Int))), (2, .int (iI (x2 : Int))), (3, .int (iI ((sz + 1 : Nat) : Int))), (4, .int (iI (i : Int)))]) hx hb dX1_part_76 hl (k := 5) rfl (iI_inc1 _) (by decide) rfl (fun ls hl => ?_)
                  refine lv_goto (tgt := 34) hx hb dX1_part_79 (by decide) ?_
                  rw [up_id] at hI
                  exact ih_34 (k + 1) T2 (by omega) (by omega) h2 (lt_s h3 (fun g => absurd g (by omega))) _ _ hI ls (lv_sub hl [1, 2, 3, 4, 5, 0] rfl)
                · refine lv_aload_n hx hb dX1_part_57 rfl (lv_at hl 0 rfl) ?_
                  refine lv_iload hx hb dX1_part_58 (lv_at hl 4 rfl) ?_
                  refine lv_iload hx hb dX1_part_60 (lv_at hl 5 rfl) ?_
                  refine c1_l (As := [.int (iI (i : Int)), .int (iI (k : Int))]) C hA hI (met1_expand l i k z kp T2 (by omega) hz) (cw1_expand C.2.2.2.2 ⟨Nat.le_of_ble_eq_true rfl, Nat.le_of_ble_eq_true rfl⟩) rfl hl.1 rfl (Nat.le_of_ble_eq_true rfl) dX1_part_62 ⟨Nat.le_refl _, Nat.le_refl _⟩ (fun r_7 z_7 kp_7 t_7 H locs hp_7 hI => ?_)
                  obtain ⟨rfl, rfl, rfl, rfl⟩ := hp_7
                  refine lv_goto (tgt := 75) hx hb dX1_part_65 (by decide) ?_
                  refine s1_t C hI k (by omega) (by omega) dX1_part_75 (fun H locs hI => ?_)
                  refine lv_iinc (v := iI ((k + 1 : Nat) : Int)) (lv' := [(5, .int (iI ((k + 1 : Nat) : Int))), (0, .ref (a 0)), (1, .int (iI (x1 : Int))), (2, .int (iI (x2 : Int))), (3, .int (iI ((sz + 1 : Nat) : Int))), (4, .int (iI (i : Int)))]) hx hb dX1_part_76 hl (k := 5) rfl (iI_inc1 _) (by decide) rfl (fun ls hl => ?_)
                  refine lv_goto (tgt := 34) hx hb dX1_part_79 (by decide) ?_
                  exact ih_34 (k + 1) (up T2 k (exk (row z i) T2 k 5)) (by omega) (by omega) (fun S g1 g2 => by rw [up_n (fun e => by rw [e] at g2; omega)]; exact h2 S g1 g2) (lt_s (fun S g1 g2 => by rw [up_n (by omega)]; exact h3 S g1 g2) (fun g => by rw [up_s]; exact exk_cg (fun j hj hb => h2 _ (Nat.lt_of_le_of_lt (bd_le _ _) (by omega)) (by have := on_bd k (by omega) j hj hb; omega)))) _ _ hI ls (lv_sub hl [1, 2, 3, 4, 5, 0] rfl)
          exact lp_34 33 1 T (by omega) (by omega) hT (fun S g1 g2 => absurd (show on S = 0 by rw [show S = 0 by omega]; rfl) (by omega)) _ _ hI ls (lv_sub hl [2, 3, 4, 1, 5, 0] rfl)
  exact lp_12 5 0 0 (up t 0 1) (by omega) (by omega) (by omega) rfl (fun S g1 g2 => by rw [on_0 S g1 g2, up_s]; rfl) _ _ hI ls (lv_sub hl [2, 3, 4, 1, 0] rfl)
end
section
set_option maxRecDepth 100000
theorem mt_15 (z : Nat → Int) : mt (rl z 15 4) 15 = td z 0 4 := m4_15 _ _ _ _
theorem mn_h : ∀ i, i < 4 → ∀ j, j < 4 → bd 15 (2 ^ i) < 16 ∧ bd 15 (2 ^ j) < 32 ∧ 1 ≤ onk (bd 15 (2 ^ i)) 4 ∧ on (bd 15 (2 ^ j)) = onk (bd 15 (2 ^ i)) 4 := by decide +kernel
theorem mt_mn (z : Nat → Int) {i j : Nat} (hi : i < 4) (hj : j < 4) : mt (rl z (bd 15 (2 ^ i)) 4) (bd 15 (2 ^ j)) = mnz z i j := by
  have qi : i = 0 ∨ i = 1 ∨ i = 2 ∨ i = 3 := by omega
  have qj : j = 0 ∨ j = 1 ∨ j = 2 ∨ j = 3 := by omega
  rcases qj with rfl | rfl | rfl | rfl
  · rcases qi with rfl | rfl | rfl | rfl <;> exact m3_14 _ _ _
  · rcases qi with rfl | rfl | rfl | rfl <;> exact m3_13 _ _ _
  · rcases qi with rfl | rfl | rfl | rfl <;> exact m3_11 _ _ _
  · rcases qi with rfl | rfl | rfl | rfl <;> exact m3_7 _ _ _
abbrev ps1_determinant  (z : Nat → Int) (kp : Nat → Int) (t : Nat → Int) : Int → (Nat → Int) → (Nat → Int) → (Nat → Int) → Prop := fun r z1 kp1 t1 => td z 0 4 = r ∧ z = z1 ∧ kp = kp1
set_option maxHeartbeats 4000000 in
set_option maxRecDepth 100000 in
theorem met1_determinant (l : Launch) (z : Nat → Int) (kp : Nat → Int) (t : Nat → Int) (hz : ∀ k, k < 20 → -1000 ≤ z k ∧ z k ≤ 1000) : M1i l yX1_determinant cX1_determinant 1 (some .int) rm1_determinant [] z kp t (ps1_determinant z kp t) := by
  refine M1i.of (by decide) rfl (fun _ => Nat.le_of_ble_eq_true rfl) ?_
  intro p e s m args below meth c D a ca A ls C hr hlocks hA hl hI
  have hx := C.1
  have hb := C.2.1
  have hl : lv_has ls 1 [(0, .ref (a 0))] := hl
  refine lv_aload_n hx hb dX1_determinant_0 rfl (lv_at hl 0 rfl) ?_
  refine z_bipush hx hb dX1_determinant_1 (by decide +kernel) ?_
  refine z_bipush hx hb dX1_determinant_3 (by decide +kernel) ?_
  refine c1_l (As := [.int (iI 15), .int (iI 15)]) C hA hI (met1_part l 15 15 z kp t (by decide) hz) (cw1_part C.2.2.2.2 ⟨Nat.le_of_ble_eq_true rfl, Nat.le_of_ble_eq_true rfl⟩) rfl hl.1 rfl (Nat.le_of_ble_eq_true rfl) dX1_determinant_5 ⟨Nat.le_refl _, Nat.le_refl _⟩ (fun rd z_1 kp_1 t_1 H locs hp_1 hI => ?_)
  obtain ⟨hd, rfl, rfl⟩ := hp_1
  refine z_l2i hx hb dX1_determinant_8 ?_
  exact r1_i C hr hlocks hI (⟨(mt_15 z).symm.trans hd, rfl, rfl⟩) dX1_determinant_9
abbrev ps1_minor (i : Int) (j : Int) (z : Nat → Int) (kp : Nat → Int) (t : Nat → Int) : Int → (Nat → Int) → (Nat → Int) → (Nat → Int) → Prop := fun r z1 kp1 t1 => an_minor z i j = r ∧ z = z1 ∧ kp = kp1
set_option maxHeartbeats 4000000 in
set_option maxRecDepth 100000 in
theorem met1_minor (l : Launch) (i : Int) (j : Int) (z : Nat → Int) (kp : Nat → Int) (t : Nat → Int) (hi : -2147483648 ≤ i ∧ i < 2147483648) (hj0 : -2147483648 ≤ j ∧ j < 2147483648) (hz : ∀ k, k < 20 → -50 ≤ z k ∧ z k ≤ 50) : M1i l yX1_minor cX1_minor 3 (some .int) rm1_minor [.int (iI i), .int (iI j)] z kp t (ps1_minor i j z kp t) := by
  refine M1i.of (by decide) rfl (fun _ => Nat.le_of_ble_eq_true rfl) ?_
  intro p e s m args below meth c D a ca A ls C hr hlocks hA hl hI
  have hx := C.1
  have hb := C.2.1
  have hl : lv_has ls 3 [(0, .ref (a 0)), (1, .int (iI i)), (2, .int (iI j))] := hl
  refine lv_aload_n hx hb dX1_minor_0 rfl (lv_at hl 0 rfl) ?_
  refine lv_iload_n hx hb dX1_minor_1 rfl (lv_at hl 1 rfl) ?_
  refine c1_i (As := [.int (iI i)]) C hA hI (met1_row l i z kp t (by omega)) (cw1_row C.2.2.2.2 ⟨Nat.le_of_ble_eq_true rfl, Nat.le_of_ble_eq_true rfl⟩) rfl hl.1 rfl (Nat.le_of_ble_eq_true rfl) dX1_minor_2 ⟨Nat.le_refl _, Nat.le_refl _⟩ (fun r_1 z_1 kp_1 t_1 H locs hp_1 hI => ?_)
  obtain ⟨hp_1, rfl, rfl, rfl⟩ := hp_1
  refine z_if_eq hx hb 40 dX1_minor_5 (by decide) (by omega) (fun c_2 => ?_) (fun c_2 => ?_)
  · refine z_ldc hx hb (-1000000000) C.2.2.2.1 (C.2.2.2.2 _ q234) (by decide +kernel) dX1_minor_40 ?_
    exact r1_i C hr hlocks hI (⟨by unfold an_minor; rw [if_neg (by omega)]; rfl, rfl, rfl⟩) dX1_minor_42
  · refine lv_aload_n hx hb dX1_minor_8 rfl (lv_at hl 0 rfl) ?_
    refine lv_iload_n hx hb dX1_minor_9 rfl (lv_at hl 2 rfl) ?_
    refine c1_i (As := [.int (iI j)]) C hA hI (met1_row l j z kp t (by omega)) (cw1_row C.2.2.2.2 ⟨Nat.le_of_ble_eq_true rfl, Nat.le_of_ble_eq_true rfl⟩) rfl hl.1 rfl (Nat.le_of_ble_eq_true rfl) dX1_minor_10 ⟨Nat.le_refl _, Nat.le_refl _⟩ (fun r_3 z_3 kp_3 t_3 H locs hp_3 hI => ?_)
    obtain ⟨hp_3, rfl, rfl, rfl⟩ := hp_3
    refine z_if_eq hx hb 40 dX1_minor_13 (by decide) (by omega) (fun c_4 => ?_) (fun c_4 => ?_)
    · refine z_ldc hx hb (-1000000000) C.2.2.2.1 (C.2.2.2.2 _ q234) (by decide +kernel) dX1_minor_40 ?_
      exact r1_i C hr hlocks hI (⟨by unfold an_minor; rw [if_neg (by omega)]; rfl, rfl, rfl⟩) dX1_minor_42
    · obtain ⟨n1, rfl⟩ := Int.eq_ofNat_of_zero_le (show 0 ≤ i by omega)
      obtain ⟨n2, rfl⟩ := Int.eq_ofNat_of_zero_le (show 0 ≤ j by omega)
      refine lv_aload_n hx hb dX1_minor_16 rfl (lv_at hl 0 rfl) ?_
      refine z_bipush hx hb dX1_minor_17 (by decide +kernel) ?_
      refine z_iconst hx hb dX1_minor_19 ?_
      refine lv_iload_n hx hb dX1_minor_20 rfl (lv_at hl 1 rfl) ?_
      refine z_ishl hx hb ((2 ^ n1 : Nat) : Int) dX1_minor_21 (iI_shl n1 (by omega)) ?_
      refine z_iconst hx hb dX1_minor_22 ?_
      refine z_ixor hx hb (-((2 ^ n1 : Nat) : Int) - 1) dX1_minor_23 (iI_not (2 ^ n1) (p2_lt (by omega))) ?_
      refine z_iand hx hb ((bd 15 (2 ^ n1) : Nat) : Int) dX1_minor_24 (iI_cut 15 (by omega) (2 ^ n1) (p2_lt (by omega))) ?_
      refine z_bipush hx hb dX1_minor_25 (by decide +kernel) ?_
      refine z_iconst hx hb dX1_minor_27 ?_
      refine lv_iload_n hx hb dX1_minor_28 rfl (lv_at hl 2 rfl) ?_
      refine z_ishl hx hb ((2 ^ n2 : Nat) : Int) dX1_minor_29 (iI_shl n2 (by omega)) ?_
      refine z_iconst hx hb dX1_minor_30 ?_
      refine z_ixor hx hb (-((2 ^ n2 : Nat) : Int) - 1) dX1_minor_31 (iI_not (2 ^ n2) (p2_lt (by omega))) ?_
      refine z_iand hx hb ((bd 15 (2 ^ n2) : Nat) : Int) dX1_minor_32 (iI_cut 15 (by omega) (2 ^ n2) (p2_lt (by omega))) ?_
      refine c1_l (As := [.int (iI ((bd 15 (2 ^ n1) : Nat) : Int)), .int (iI ((bd 15 (2 ^ n2) : Nat) : Int))]) C hA hI (met1_part l (bd 15 (2 ^ n1)) (bd 15 (2 ^ n2)) z kp t (mn_h n1 (by omega) n2 (by omega)) (fun k hk => by have := hz k hk; omega)) (cw1_part C.2.2.2.2 ⟨Nat.le_of_ble_eq_true rfl, Nat.le_of_ble_eq_true rfl⟩) rfl hl.1 rfl (Nat.le_of_ble_eq_true rfl) dX1_minor_33 ⟨Nat.le_refl _, Nat.le_refl _⟩ (fun rd z_5 kp_5 t_5 H locs hp_5 hI => ?_)
      obtain ⟨hd, rfl, rfl⟩ := hp_5
      refine z_l2i hx hb dX1_minor_36 ?_
      refine lv_goto (tgt := 42) hx hb dX1_minor_37 (by decide) ?_
      exact r1_i C hr hlocks hI (⟨by unfold an_minor; rw [if_pos (by omega), Int.toNat_natCast, Int.toNat_natCast]; exact (mt_mn z (by omega) (by omega)).symm.trans hd, rfl, rfl⟩) dX1_minor_42
abbrev ps1_replaced (i : Int) (z : Nat → Int) (kp : Nat → Int) (t : Nat → Int) : Int → (Nat → Int) → (Nat → Int) → (Nat → Int) → Prop := fun r z1 kp1 t1 => an_repl z i = r ∧ z = z1
set_option maxHeartbeats 4000000 in
set_option maxRecDepth 100000 in
theorem met1_replaced (l : Launch) (i : Int) (z : Nat → Int) (kp : Nat → Int) (t : Nat → Int) (hi : -2147483648 ≤ i ∧ i < 2147483648) (hz : ∀ k, k < 20 → -50 ≤ z k ∧ z k ≤ 50) : M1i l yX1_replaced cX1_replaced 3 (some .int) rm1_replaced [.int (iI i)] z kp t (ps1_replaced i z kp t) := by
  refine M1i.of (by decide) rfl (fun _ => Nat.le_of_ble_eq_true rfl) ?_
  intro p e s m args below meth c D a ca A ls C hr hlocks hA hl hI
  have hx := C.1
  have hb := C.2.1
  have hl : lv_has ls 3 [(0, .ref (a 0)), (1, .int (iI i))] := hl
  refine lv_aload_n hx hb dX1_replaced_0 rfl (lv_at hl 0 rfl) ?_
  refine lv_iload_n hx hb dX1_replaced_1 rfl (lv_at hl 1 rfl) ?_
  refine c1_i (As := [.int (iI i)]) C hA hI (met1_row l i z kp t (by omega)) (cw1_row C.2.2.2.2 ⟨Nat.le_of_ble_eq_true rfl, Nat.le_of_ble_eq_true rfl⟩) rfl hl.1 rfl (Nat.le_of_ble_eq_true rfl) dX1_replaced_2 ⟨Nat.le_refl _, Nat.le_refl _⟩ (fun r_1 z_1 kp_1 t_1 H locs hp_1 hI => ?_)
  obtain ⟨hp_1, rfl, rfl, rfl⟩ := hp_1
  refine z_if_ne hx hb 11 dX1_replaced_5 (by decide) (by omega) (fun c_2 => ?_) (fun c_2 => ?_)
  · obtain ⟨n1, rfl⟩ := Int.eq_ofNat_of_zero_le (show 0 ≤ i by omega)
    refine lv_aload_n hx hb dX1_replaced_11 rfl (lv_at hl 0 rfl) ?_
    refine c1_v (As := []) C hA hI (met1_keep l z kp t ) (cw1_keep C.2.2.2.2 ⟨Nat.le_of_ble_eq_true rfl, Nat.le_of_ble_eq_true rfl⟩) rfl hl.1 rfl (Nat.le_of_ble_eq_true rfl) dX1_replaced_12 ⟨Nat.le_refl _, Nat.le_refl _⟩ (fun z_3 kp_3 t_3 H locs hp_3 hI => ?_)
    obtain ⟨rfl, rfl, rfl⟩ := hp_3
    refine z_iconst hx hb dX1_replaced_15 ?_
    refine lv_istore_n (lv' := [(2, .int (iI 0)), (0, .ref (a 0)), (1, .int (iI (n1 : Int)))]) hx hb dX1_replaced_16 rfl hl (by decide) rfl (fun ls hl => ?_)
    have lp_17 : ∀ (n_17 : Nat) (k : Nat), (hf_17 : 4 < k + n_17) → (hk : k ≤ 4) → ∀ (H : Heap) (locs : List Loc), I1 D A s a ca (rpc z n1 k) z t H locs → ∀ (ls : Array Slot), lv_has ls 3 [(0, .ref (a 0)), (1, .int (iI (n1 : Int))), (2, .int (iI (k : Int)))] → W p l e rm1_replaced s m args below meth c H locs 0 0 (E1i D a ca A (ps1_replaced n1 z kp t) below args s) (F0 m 17 ls []) := by
      intro n_17
      induction n_17 with
      | zero =>
        intro k hf_17 hk H locs hI ls hl
        exfalso; omega
      | succ n_17 ih_17 =>
        intro k hf_17 hk H locs hI ls hl
        refine lv_iload_n hx hb dX1_replaced_17 rfl (lv_at hl 2 rfl) ?_
        refine z_iconst hx hb dX1_replaced_18 ?_
        refine z_icmp_ge hx hb 48 dX1_replaced_19 (by decide) (by omega) (by omega) (fun c_4 => ?_) (fun c_4 => ?_)
        · have hk4 : k = 4 := by omega
          rw [hk4] at hI
          have hI := hI.cz (repz z n1) (rpc_4 z n1)
          refine lv_aload_n hx hb dX1_replaced_48 rfl (lv_at hl 0 rfl) ?_
          refine c1_i (As := []) C hA hI (met1_determinant l (repz z n1) z t (fun k hk => by have := repz_50 (j := n1) hz k hk; omega)) (cw1_determinant C.2.2.2.2 ⟨Nat.le_of_ble_eq_true rfl, Nat.le_of_ble_eq_true rfl⟩) rfl hl.1 rfl (Nat.le_of_ble_eq_true rfl) dX1_replaced_49 ⟨Nat.le_refl _, Nat.le_refl _⟩ (fun rd z_5 kp_5 t_5 H locs hp_5 hI => ?_)
          obtain ⟨hd, rfl, rfl⟩ := hp_5
          refine lv_istore_n (lv' := [(2, .int (iI rd)), (0, .ref (a 0)), (1, .int (iI (n1 : Int)))]) hx hb dX1_replaced_52 rfl hl (by decide) rfl (fun ls hl => ?_)
          refine lv_aload_n hx hb dX1_replaced_53 rfl (lv_at hl 1 rfl) ?_
          refine c1_v (As := []) C hA hI (met1_restore l (repz z n1) z t_5 ) (cw1_restore C.2.2.2.2 ⟨Nat.le_of_ble_eq_true rfl, Nat.le_of_ble_eq_true rfl⟩) rfl hl.1 rfl (Nat.le_of_ble_eq_true rfl) dX1_replaced_54 ⟨Nat.le_refl _, Nat.le_refl _⟩ (fun z_6 kp_6 t_6 H locs hp_6 hI => ?_)
          obtain ⟨rfl, rfl, rfl⟩ := hp_6
          refine lv_iload_n hx hb dX1_replaced_57 rfl (lv_at hl 0 rfl) ?_
          exact r1_i C hr hlocks hI (⟨by unfold an_repl; rw [if_pos (by omega), Int.toNat_natCast]; exact hd, rfl⟩) dX1_replaced_58
        · refine lv_aload_n hx hb dX1_replaced_22 rfl (lv_at hl 0 rfl) ?_
          refine g1_cel C hI dX1_replaced_23 ?_
          refine z_iconst hx hb dX1_replaced_26 ?_
          refine lv_iload_n hx hb dX1_replaced_27 rfl (lv_at hl 2 rfl) ?_
          refine z_imul hx hb dX1_replaced_28 ?_
          refine lv_iload_n hx hb dX1_replaced_29 rfl (lv_at hl 1 rfl) ?_
          refine z_iadd hx hb dX1_replaced_30 ?_
          refine lv_aload_n hx hb dX1_replaced_31 rfl (lv_at hl 0 rfl) ?_
          refine g1_cel C hI dX1_replaced_32 ?_
          refine z_iconst hx hb dX1_replaced_35 ?_
          refine lv_iload_n hx hb dX1_replaced_36 rfl (lv_at hl 2 rfl) ?_
          refine z_imul hx hb dX1_replaced_37 ?_
          refine z_iconst hx hb dX1_replaced_38 ?_
          refine z_iadd hx hb dX1_replaced_39 ?_
          refine l1_z C hI (k * 5 + 4) (by omega) (by omega) dX1_replaced_40 ?_
          refine s1_z C hI (k * 5 + n1) (by omega) (by omega) dX1_replaced_41 (fun H locs hI => ?_)
          refine lv_iinc (v := iI ((k + 1 : Nat) : Int)) (lv' := [(2, .int (iI ((k + 1 : Nat) : Int))), (0, .ref (a 0)), (1, .int (iI (n1 : Int)))]) hx hb dX1_replaced_42 hl (k := 2) rfl (iI_inc1 _) (by decide) rfl (fun ls hl => ?_)
          refine lv_goto (tgt := 17) hx hb dX1_replaced_45 (by decide) ?_
          rw [rpc_s (by omega)] at hI
          exact ih_17 (k + 1) (by omega) (by omega) _ _ hI ls (lv_sub hl [1, 2, 0] rfl)
    exact lp_17 5 0 (by omega) (by omega) _ _ (by rw [rpc_0]; exact hI) ls (lv_sub hl [1, 2, 0] rfl)
  · refine z_ldc hx hb (-1000000000) C.2.2.2.1 (C.2.2.2.2 _ q234) (by decide +kernel) dX1_replaced_8 ?_
    exact r1_i C hr hlocks hI (⟨by unfold an_repl; rw [if_neg (by omega)]; rfl, rfl⟩) dX1_replaced_10
abbrev ps1_determinantWith (i : Int) (j : Int) (y : Int) (z : Nat → Int) (kp : Nat → Int) (t : Nat → Int) : Int → (Nat → Int) → (Nat → Int) → (Nat → Int) → Prop := fun r z1 kp1 t1 => an_with z i j y = r ∧ z = z1
set_option maxHeartbeats 4000000 in
set_option maxRecDepth 100000 in
theorem met1_determinantWith (l : Launch) (i : Int) (j : Int) (y : Int) (z : Nat → Int) (kp : Nat → Int) (t : Nat → Int) (hi : -2147483648 ≤ i ∧ i < 2147483648) (hj0 : -2147483648 ≤ j ∧ j < 2147483648) (hy : -2147483648 ≤ y ∧ y < 2147483648) (hz : ∀ k, k < 20 → -50 ≤ z k ∧ z k ≤ 50) : M1i l yX1_determinantWith cX1_determinantWith 6 (some .int) rm1_determinantWith [.int (iI i), .int (iI j), .int (iI y)] z kp t (ps1_determinantWith i j y z kp t) := by
  refine M1i.of (by decide) rfl (fun _ => Nat.le_of_ble_eq_true rfl) ?_
  intro p e s m args below meth c D a ca A ls C hr hlocks hA hl hI
  have hx := C.1
  have hb := C.2.1
  have hl : lv_has ls 6 [(0, .ref (a 0)), (1, .int (iI i)), (2, .int (iI j)), (3, .int (iI y))] := hl
  refine lv_aload_n hx hb dX1_determinantWith_0 rfl (lv_at hl 0 rfl) ?_
  refine lv_iload_n hx hb dX1_determinantWith_1 rfl (lv_at hl 1 rfl) ?_
  refine lv_iload_n hx hb dX1_determinantWith_2 rfl (lv_at hl 2 rfl) ?_
  refine lv_iload_n hx hb dX1_determinantWith_3 rfl (lv_at hl 3 rfl) ?_
  refine c1_i (As := [.int (iI i), .int (iI j), .int (iI y)]) C hA hI (met1_fits l i j y z kp t (by omega) (by omega) (by omega)) (cw1_fits C.2.2.2.2 ⟨Nat.le_of_ble_eq_true rfl, Nat.le_of_ble_eq_true rfl⟩) rfl hl.1 rfl (Nat.le_of_ble_eq_true rfl) dX1_determinantWith_4 ⟨Nat.le_refl _, Nat.le_refl _⟩ (fun r_1 z_1 kp_1 t_1 H locs hp_1 hI => ?_)
  obtain ⟨hp_1, rfl, rfl, rfl⟩ := hp_1
  refine z_if_eq hx hb 15 dX1_determinantWith_7 (by decide) (by omega) (fun c_2 => ?_) (fun c_2 => ?_)
  · refine z_ldc hx hb (-1000000000) C.2.2.2.1 (C.2.2.2.2 _ q234) (by decide +kernel) dX1_determinantWith_15 ?_
    exact r1_i C hr hlocks hI (⟨by unfold an_with; rw [if_neg (by omega)]; rfl, rfl⟩) dX1_determinantWith_17
  · refine lv_iload_n hx hb dX1_determinantWith_10 rfl (lv_at hl 2 rfl) ?_
    refine z_iconst hx hb dX1_determinantWith_11 ?_
    refine z_icmp_ne hx hb 18 dX1_determinantWith_12 (by decide) (by omega) (by omega) (fun c_3 => ?_) (fun c_3 => ?_)
    · obtain ⟨n1, rfl⟩ := Int.eq_ofNat_of_zero_le (show 0 ≤ i by omega)
      obtain ⟨n2, rfl⟩ := Int.eq_ofNat_of_zero_le (show 0 ≤ j by omega)
      refine lv_aload_n hx hb dX1_determinantWith_18 rfl (lv_at hl 0 rfl) ?_
      refine g1_cel C hI dX1_determinantWith_19 ?_
      refine z_iconst hx hb dX1_determinantWith_22 ?_
      refine lv_iload_n hx hb dX1_determinantWith_23 rfl (lv_at hl 1 rfl) ?_
      refine z_imul hx hb dX1_determinantWith_24 ?_
      refine lv_iload_n hx hb dX1_determinantWith_25 rfl (lv_at hl 2 rfl) ?_
      refine z_iadd hx hb dX1_determinantWith_26 ?_
      refine l1_z C hI (n1 * 5 + n2) (by omega) (by omega) dX1_determinantWith_27 ?_
      refine lv_istore (lv' := [(4, .int (iI (z (n1 * 5 + n2)))), (0, .ref (a 0)), (1, .int (iI (n1 : Int))), (2, .int (iI (n2 : Int))), (3, .int (iI y))]) hx hb dX1_determinantWith_28 hl (by decide) rfl (fun ls hl => ?_)
      refine lv_aload_n hx hb dX1_determinantWith_30 rfl (lv_at hl 1 rfl) ?_
      refine g1_cel C hI dX1_determinantWith_31 ?_
      refine z_iconst hx hb dX1_determinantWith_34 ?_
      refine lv_iload_n hx hb dX1_determinantWith_35 rfl (lv_at hl 2 rfl) ?_
      refine z_imul hx hb dX1_determinantWith_36 ?_
      refine lv_iload_n hx hb dX1_determinantWith_37 rfl (lv_at hl 3 rfl) ?_
      refine z_iadd hx hb dX1_determinantWith_38 ?_
      refine lv_iload_n hx hb dX1_determinantWith_39 rfl (lv_at hl 4 rfl) ?_
      refine s1_z C hI (n1 * 5 + n2) (by omega) (by omega) dX1_determinantWith_40 (fun H locs hI => ?_)
      refine lv_aload_n hx hb dX1_determinantWith_41 rfl (lv_at hl 1 rfl) ?_
      refine c1_i (As := []) C hA hI (met1_determinant l (up z (n1 * 5 + n2) y) kp t (fun k hk => by have := up_50 (j := n1 * 5 + n2) (v := y) hz (by omega) k hk; omega)) (cw1_determinant C.2.2.2.2 ⟨Nat.le_of_ble_eq_true rfl, Nat.le_of_ble_eq_true rfl⟩) rfl hl.1 rfl (Nat.le_of_ble_eq_true rfl) dX1_determinantWith_42 ⟨Nat.le_refl _, Nat.le_refl _⟩ (fun rd z_4 kp_4 t_4 H locs hp_4 hI => ?_)
      obtain ⟨hd, rfl, rfl⟩ := hp_4
      refine lv_istore (lv' := [(5, .int (iI rd)), (4, .int (iI (z (n1 * 5 + n2)))), (0, .ref (a 0)), (1, .int (iI (n1 : Int))), (2, .int (iI (n2 : Int))), (3, .int (iI y))]) hx hb dX1_determinantWith_45 hl (by decide) rfl (fun ls hl => ?_)
      refine lv_aload_n hx hb dX1_determinantWith_47 rfl (lv_at hl 2 rfl) ?_
      refine g1_cel C hI dX1_determinantWith_48 ?_
      refine z_iconst hx hb dX1_determinantWith_51 ?_
      refine lv_iload_n hx hb dX1_determinantWith_52 rfl (lv_at hl 3 rfl) ?_
      refine z_imul hx hb dX1_determinantWith_53 ?_
      refine lv_iload_n hx hb dX1_determinantWith_54 rfl (lv_at hl 4 rfl) ?_
      refine z_iadd hx hb dX1_determinantWith_55 ?_
      refine lv_iload hx hb dX1_determinantWith_56 (lv_at hl 1 rfl) ?_
      refine s1_z C hI (n1 * 5 + n2) (by omega) (by omega) dX1_determinantWith_58 (fun H locs hI => ?_)
      refine lv_iload hx hb dX1_determinantWith_59 (lv_at hl 0 rfl) ?_
      have hI := hI.cz z (fun k _ => by by_cases e : k = n1 * 5 + n2 <;> simp [up, e])
      exact r1_i C hr hlocks hI (⟨by unfold an_with; rw [if_pos (by omega), Int.toNat_natCast, Int.toNat_natCast]; exact hd, rfl⟩) dX1_determinantWith_61
    · refine z_ldc hx hb (-1000000000) C.2.2.2.1 (C.2.2.2.2 _ q234) (by decide +kernel) dX1_determinantWith_15 ?_
      exact r1_i C hr hlocks hI (⟨by unfold an_with; rw [if_neg (by omega)]; rfl, rfl⟩) dX1_determinantWith_17
def sfz (z : Nat → Int) (v : Int) (i : Nat) : Nat → Int := fun k => if k % 6 = 0 ∧ k / 6 < i then z k + v else z k
theorem sfz_0 (z : Nat → Int) (v : Int) : sfz z v 0 = z := by
  funext k
  unfold sfz
  rw [if_neg (by omega)]
theorem sfz_at {z : Nat → Int} {v : Int} {i : Nat} : sfz z v i (6 * i) = z (6 * i) := by
  unfold sfz
  rw [if_neg (by omega)]
theorem sfz_s {z : Nat → Int} {v : Int} {i : Nat} : up (sfz z v i) (6 * i) (z (6 * i) + v) = sfz z v (i + 1) := by
  funext k
  by_cases h : k = 6 * i
  · subst h
    rw [up_s]
    unfold sfz
    rw [if_pos (by omega)]
  · rw [up_n h]
    unfold sfz
    by_cases h2 : k % 6 = 0 ∧ k / 6 < i
    · rw [if_pos h2, if_pos (by omega)]
    · rw [if_neg h2, if_neg (by omega)]
theorem sfz_4 (z : Nat → Int) (v : Int) : ∀ k, k < 20 → sfz z v 4 k = shz z v k := by
  intro k hk
  unfold sfz shz
  by_cases h : k = 0 ∨ k = 6 ∨ k = 12 ∨ k = 18
  · rw [if_pos h, if_pos (by omega)]
  · rw [if_neg h, if_neg (by omega)]
theorem shz_in {z : Nat → Int} {v : Int} (hz : ∀ k, k < 20 → -50 ≤ z k ∧ z k ≤ 50) (hv : -50 ≤ v ∧ v ≤ 50) : ∀ k, k < 20 → -1000 ≤ shz z v k ∧ shz z v k ≤ 1000 := by
  intro k hk
  have := hz k hk
  unfold shz
  split <;> omega
abbrev ps1_shifted (i : Int) (z : Nat → Int) (kp : Nat → Int) (t : Nat → Int) : Int → (Nat → Int) → (Nat → Int) → (Nat → Int) → Prop := fun r z1 kp1 t1 => an_shift z i = r ∧ z = z1
set_option maxHeartbeats 4000000 in
set_option maxRecDepth 100000 in
theorem met1_shifted (l : Launch) (i : Int) (z : Nat → Int) (kp : Nat → Int) (t : Nat → Int) (hi : -2147483648 ≤ i ∧ i < 2147483648) (hz : ∀ k, k < 20 → -50 ≤ z k ∧ z k ≤ 50) : M1i l yX1_shifted cX1_shifted 3 (some .int) rm1_shifted [.int (iI i)] z kp t (ps1_shifted i z kp t) := by
  refine M1i.of (by decide) rfl (fun _ => Nat.le_of_ble_eq_true rfl) ?_
  intro p e s m args below meth c D a ca A ls C hr hlocks hA hl hI
  have hx := C.1
  have hb := C.2.1
  have hl : lv_has ls 3 [(0, .ref (a 0)), (1, .int (iI i))] := hl
  refine lv_iload_n hx hb dX1_shifted_0 rfl (lv_at hl 1 rfl) ?_
  refine z_bipush hx hb dX1_shifted_1 (by decide +kernel) ?_
  refine z_icmp_lt hx hb 12 dX1_shifted_3 (by decide) (by omega) (by omega) (fun c_1 => ?_) (fun c_1 => ?_)
  · refine z_ldc hx hb (-1000000000) C.2.2.2.1 (C.2.2.2.2 _ q234) (by decide +kernel) dX1_shifted_12 ?_
    exact r1_i C hr hlocks hI (⟨by unfold an_shift; rw [if_neg (by omega)]; rfl, rfl⟩) dX1_shifted_14
  · refine lv_iload_n hx hb dX1_shifted_6 rfl (lv_at hl 1 rfl) ?_
    refine z_bipush hx hb dX1_shifted_7 (by decide +kernel) ?_
    refine z_icmp_le hx hb 15 dX1_shifted_9 (by decide) (by omega) (by omega) (fun c_2 => ?_) (fun c_2 => ?_)
    · refine lv_aload_n hx hb dX1_shifted_15 rfl (lv_at hl 0 rfl) ?_
      refine c1_v (As := []) C hA hI (met1_keep l z kp t ) (cw1_keep C.2.2.2.2 ⟨Nat.le_of_ble_eq_true rfl, Nat.le_of_ble_eq_true rfl⟩) rfl hl.1 rfl (Nat.le_of_ble_eq_true rfl) dX1_shifted_16 ⟨Nat.le_refl _, Nat.le_refl _⟩ (fun z_3 kp_3 t_3 H locs hp_3 hI => ?_)
      obtain ⟨rfl, rfl, rfl⟩ := hp_3
      refine z_iconst hx hb dX1_shifted_19 ?_
      refine lv_istore_n (lv' := [(2, .int (iI 0)), (0, .ref (a 0)), (1, .int (iI i))]) hx hb dX1_shifted_20 rfl hl (by decide) rfl (fun ls hl => ?_)
      have lp_21 : ∀ (n_21 : Nat) (k : Nat), (hf_21 : 4 < k + n_21) → (hk : k ≤ 4) → ∀ (H : Heap) (locs : List Loc), I1 D A s a ca (sfz z i k) z t H locs → ∀ (ls : Array Slot), lv_has ls 3 [(0, .ref (a 0)), (1, .int (iI i)), (2, .int (iI (k : Int)))] → W p l e rm1_shifted s m args below meth c H locs 0 0 (E1i D a ca A (ps1_shifted i z kp t) below args s) (F0 m 21 ls []) := by
        intro n_21
        induction n_21 with
        | zero =>
          intro k hf_21 hk H locs hI ls hl
          exfalso; omega
        | succ n_21 ih_21 =>
          intro k hf_21 hk H locs hI ls hl
          refine lv_iload_n hx hb dX1_shifted_21 rfl (lv_at hl 2 rfl) ?_
          refine z_iconst hx hb dX1_shifted_22 ?_
          refine z_icmp_ge hx hb 52 dX1_shifted_23 (by decide) (by omega) (by omega) (fun c_4 => ?_) (fun c_4 => ?_)
          · have hk4 : k = 4 := by omega
            rw [hk4] at hI
            have hI := hI.cz (shz z i) (sfz_4 z i)
            refine lv_aload_n hx hb dX1_shifted_52 rfl (lv_at hl 0 rfl) ?_
            refine c1_i (As := []) C hA hI (met1_determinant l (shz z i) z t (shz_in hz (by omega))) (cw1_determinant C.2.2.2.2 ⟨Nat.le_of_ble_eq_true rfl, Nat.le_of_ble_eq_true rfl⟩) rfl hl.1 rfl (Nat.le_of_ble_eq_true rfl) dX1_shifted_53 ⟨Nat.le_refl _, Nat.le_refl _⟩ (fun rd z_5 kp_5 t_5 H locs hp_5 hI => ?_)
            obtain ⟨hd, rfl, rfl⟩ := hp_5
            refine lv_istore_n (lv' := [(2, .int (iI rd)), (0, .ref (a 0)), (1, .int (iI i))]) hx hb dX1_shifted_56 rfl hl (by decide) rfl (fun ls hl => ?_)
            refine lv_aload_n hx hb dX1_shifted_57 rfl (lv_at hl 1 rfl) ?_
            refine c1_v (As := []) C hA hI (met1_restore l (shz z i) z t_5 ) (cw1_restore C.2.2.2.2 ⟨Nat.le_of_ble_eq_true rfl, Nat.le_of_ble_eq_true rfl⟩) rfl hl.1 rfl (Nat.le_of_ble_eq_true rfl) dX1_shifted_58 ⟨Nat.le_refl _, Nat.le_refl _⟩ (fun z_6 kp_6 t_6 H locs hp_6 hI => ?_)
            obtain ⟨rfl, rfl, rfl⟩ := hp_6
            refine lv_iload_n hx hb dX1_shifted_61 rfl (lv_at hl 0 rfl) ?_
            exact r1_i C hr hlocks hI (⟨by unfold an_shift; rw [if_pos (by omega)]; exact hd, rfl⟩) dX1_shifted_62
          · refine lv_aload_n hx hb dX1_shifted_26 rfl (lv_at hl 0 rfl) ?_
            refine g1_cel C hI dX1_shifted_27 ?_
            refine z_bipush hx hb dX1_shifted_30 (by decide +kernel) ?_
            refine lv_iload_n hx hb dX1_shifted_32 rfl (lv_at hl 2 rfl) ?_
            refine z_imul hx hb dX1_shifted_33 ?_
            refine lv_aload_n hx hb dX1_shifted_34 rfl (lv_at hl 0 rfl) ?_
            refine g1_cel C hI dX1_shifted_35 ?_
            refine z_bipush hx hb dX1_shifted_38 (by decide +kernel) ?_
            refine lv_iload_n hx hb dX1_shifted_40 rfl (lv_at hl 2 rfl) ?_
            refine z_imul hx hb dX1_shifted_41 ?_
            refine l1_z C hI (6 * k) (by omega) (by omega) dX1_shifted_42 ?_
            rw [sfz_at]
            refine lv_iload_n hx hb dX1_shifted_43 rfl (lv_at hl 1 rfl) ?_
            refine z_iadd hx hb dX1_shifted_44 ?_
            refine s1_z C hI (6 * k) (by omega) (by omega) dX1_shifted_45 (fun H locs hI => ?_)
            refine lv_iinc (v := iI ((k + 1 : Nat) : Int)) (lv' := [(2, .int (iI ((k + 1 : Nat) : Int))), (0, .ref (a 0)), (1, .int (iI i))]) hx hb dX1_shifted_46 hl (k := 2) rfl (iI_inc1 _) (by decide) rfl (fun ls hl => ?_)
            refine lv_goto (tgt := 21) hx hb dX1_shifted_49 (by decide) ?_
            rw [sfz_s] at hI
            exact ih_21 (k + 1) (by omega) (by omega) _ _ hI ls (lv_sub hl [1, 2, 0] rfl)
      exact lp_21 5 0 (by omega) (by omega) _ _ (by rw [sfz_0]; exact hI) ls (lv_sub hl [1, 2, 0] rfl)
    · refine z_ldc hx hb (-1000000000) C.2.2.2.1 (C.2.2.2.2 _ q234) (by decide +kernel) dX1_shifted_12 ?_
      exact r1_i C hr hlocks hI (⟨by unfold an_shift; rw [if_neg (by omega)]; rfl, rfl⟩) dX1_shifted_14
end
section
set_option maxRecDepth 100000
theorem lc0 (a : Int) : -1 ≤ (if 0 < a then (1 : Int) else if a = 0 then 0 else -1) ∧ (if 0 < a then (1 : Int) else if a = 0 then 0 else -1) ≤ 1 ∧ ((if 0 < a then (1 : Int) else if a = 0 then 0 else -1) = 0 ↔ a = 0) := by
  by_cases h : 0 < a
  · rw [if_pos h]; omega
  · rw [if_neg h]
    by_cases h2 : a = 0
    · rw [if_pos h2]; omega
    · rw [if_neg h2]; omega
theorem on_le4 : ∀ A, A < 16 → on A ≤ 4 := by decide +kernel
abbrev ps1_rankIn (x1 : Nat) (x2 : Nat) (z : Nat → Int) (kp : Nat → Int) (t : Nat → Int) : Int → (Nat → Int) → (Nat → Int) → (Nat → Int) → Prop := fun r z1 kp1 t1 => (∃ k : Nat, (k : Int) = r ∧ ∀ m, (m = 4 ∧ x2 = 15 ∨ m = 5 ∧ x2 = 31) → isRank 0 m (Rs z x1) k) ∧ z = z1 ∧ kp = kp1
set_option maxHeartbeats 4000000 in
set_option maxRecDepth 100000 in
theorem met1_rankIn (l : Launch) (x1 : Nat) (x2 : Nat) (z : Nat → Int) (kp : Nat → Int) (t : Nat → Int) (h1 : x1 < 16 ∧ x2 < 32) (hz : ∀ k, k < 20 → -50 ≤ z k ∧ z k ≤ 50) : M1i l yX1_rankIn cX1_rankIn 7 (some .int) rm1_rankIn [.int (iI (x1 : Int)), .int (iI (x2 : Int))] z kp t (ps1_rankIn x1 x2 z kp t) := by
  refine M1i.of (by decide) rfl (fun _ => Nat.le_of_ble_eq_true rfl) ?_
  intro p e s m args below meth c D a ca A ls C hr hlocks hA hl hI
  have hx := C.1
  have hb := C.2.1
  have hl : lv_has ls 7 [(0, .ref (a 0)), (1, .int (iI (x1 : Int))), (2, .int (iI (x2 : Int)))] := hl
  refine z_iconst hx hb dX1_rankIn_0 ?_
  refine lv_istore_n (lv' := [(3, .int (iI 0)), (0, .ref (a 0)), (1, .int (iI (x1 : Int))), (2, .int (iI (x2 : Int)))]) hx hb dX1_rankIn_1 rfl hl (by decide) rfl (fun ls hl => ?_)
  refine z_iconst hx hb dX1_rankIn_2 ?_
  refine lv_istore (lv' := [(4, .int (iI 1)), (3, .int (iI 0)), (0, .ref (a 0)), (1, .int (iI (x1 : Int))), (2, .int (iI (x2 : Int)))]) hx hb dX1_rankIn_3 hl (by decide) rfl (fun ls hl => ?_)
  have lp_5 : ∀ (n_5 : Nat) (sA : Nat) (mo : Nat) (T : Nat → Int), (hf_5 : 16 < sA + n_5) → (hA1 : 1 ≤ sA ∧ sA ≤ 16) → (hm4 : mo ≤ 4) → (h2 : Rk1 z x1 x2 mo) → (h3 : Rk2 z x1 x2 sA 1 mo) → ∀ (H : Heap) (locs : List Loc), I1 D A s a ca z kp T H locs → ∀ (ls : Array Slot), lv_has ls 7 [(0, .ref (a 0)), (1, .int (iI (x1 : Int))), (2, .int (iI (x2 : Int))), (3, .int (iI (mo : Int))), (4, .int (iI (sA : Int)))] → W p l e rm1_rankIn s m args below meth c H locs 0 0 (E1i D a ca A (ps1_rankIn x1 x2 z kp t) below args s) (F0 m 5 ls []) := by
    intro n_5
    induction n_5 with
    | zero =>
      intro sA mo T hf_5 hA1 hm4 h2 h3 H locs hI ls hl
      exfalso; omega
    | succ n_5 ih_5 =>
      intro sA mo T hf_5 hA1 hm4 h2 h3 H locs hI ls hl
      refine lv_iload hx hb dX1_rankIn_5 (lv_at hl 4 rfl) ?_
      refine z_bipush hx hb dX1_rankIn_7 (by decide +kernel) ?_
      refine z_icmp_ge hx hb 113 dX1_rankIn_9 (by decide) (by omega) (by omega) (fun c_1 => ?_) (fun c_1 => ?_)
      · refine lv_iload_n hx hb dX1_rankIn_113 rfl (lv_at hl 3 rfl) ?_
        have hA16 : sA = 16 := by omega
        subst hA16
        exact r1_i C hr hlocks hI (⟨⟨mo, rfl, fun m hm => rk_end h1.1 hm h2 h3 hm4⟩, rfl, rfl⟩) dX1_rankIn_114
      · refine z_iconst hx hb dX1_rankIn_12 ?_
        refine lv_istore (lv' := [(5, .int (iI 1)), (0, .ref (a 0)), (1, .int (iI (x1 : Int))), (2, .int (iI (x2 : Int))), (3, .int (iI (mo : Int))), (4, .int (iI (sA : Int)))]) hx hb dX1_rankIn_13 hl (by decide) rfl (fun ls hl => ?_)
        have lp_15 : ∀ (n_15 : Nat) (sB : Nat) (mo : Nat) (T2 : Nat → Int), (hf_15 : 32 < sB + n_15) → (hB1 : 1 ≤ sB ∧ sB ≤ 32) → (hm4 : mo ≤ 4) → (h2 : Rk1 z x1 x2 mo) → (h3 : Rk2 z x1 x2 sA sB mo) → ∀ (H : Heap) (locs : List Loc), I1 D A s a ca z kp T2 H locs → ∀ (ls : Array Slot), lv_has ls 7 [(0, .ref (a 0)), (1, .int (iI (x1 : Int))), (2, .int (iI (x2 : Int))), (3, .int (iI (mo : Int))), (4, .int (iI (sA : Int))), (5, .int (iI (sB : Int)))] → W p l e rm1_rankIn s m args below meth c H locs 0 0 (E1i D a ca A (ps1_rankIn x1 x2 z kp t) below args s) (F0 m 15 ls []) := by
          intro n_15
          induction n_15 with
          | zero =>
            intro sB mo T2 hf_15 hB1 hm4 h2 h3 H locs hI ls hl
            exfalso; omega
          | succ n_15 ih_15 =>
            intro sB mo T2 hf_15 hB1 hm4 h2 h3 H locs hI ls hl
            have ho1 := on_le4 sA (by omega)
            have ho2 : on sB ≤ 5 := onk_le sB 5
            have hl1 := bd_le sA x1
            have hl2 := bd_le sB x2
            refine lv_iload hx hb dX1_rankIn_15 (lv_at hl 5 rfl) ?_
            refine z_bipush hx hb dX1_rankIn_17 (by decide +kernel) ?_
            refine z_icmp_ge hx hb 107 dX1_rankIn_19 (by decide) (by omega) (by omega) (fun c_2 => ?_) (fun c_2 => ?_)
            · refine lv_iinc (v := iI ((sA + 1 : Nat) : Int)) (lv' := [(4, .int (iI ((sA + 1 : Nat) : Int))), (0, .ref (a 0)), (1, .int (iI (x1 : Int))), (2, .int (iI (x2 : Int))), (3, .int (iI (mo : Int))), (5, .int (iI (sB : Int)))]) hx hb dX1_rankIn_107 hl (k := 4) rfl (iI_inc1 _) (by decide) rfl (fun ls hl => ?_)
              refine lv_goto (tgt := 5) hx hb dX1_rankIn_110 (by decide) ?_
              exact ih_5 (sA + 1) mo T2 (by omega) (by omega) hm4 h2 (rk_nx (by rw [show 32 = sB by omega]; exact h3)) _ _ hI ls (lv_sub hl [1, 2, 3, 4, 0] rfl)
            · refine lv_iload hx hb dX1_rankIn_22 (lv_at hl 4 rfl) ?_
              refine lv_iload_n hx hb dX1_rankIn_24 rfl (lv_at hl 1 rfl) ?_
              refine z_iconst hx hb dX1_rankIn_25 ?_
              refine z_ixor hx hb (-((x1 : Nat) : Int) - 1) dX1_rankIn_26 (iI_not x1 (by omega)) ?_
              refine z_iand hx hb ((bd sA x1 : Nat) : Int) dX1_rankIn_27 (iI_cut sA (by omega) x1 (by omega)) ?_
              refine z_if_ne hx hb 69 dX1_rankIn_28 (by decide) (by omega) (fun c_3 => ?_) (fun c_3 => ?_)
              · refine z_iconst hx hb dX1_rankIn_69 ?_
                refine lv_istore (lv' := [(6, .int (iI 0)), (0, .ref (a 0)), (1, .int (iI (x1 : Int))), (2, .int (iI (x2 : Int))), (3, .int (iI (mo : Int))), (4, .int (iI (sA : Int))), (5, .int (iI (sB : Int)))]) hx hb dX1_rankIn_70 hl (by decide) rfl (fun ls hl => ?_)
                refine lv_iload hx hb dX1_rankIn_72 (lv_at hl 0 rfl) ?_
                refine z_if_eq hx hb 99 dX1_rankIn_74 (by decide) (by omega) (fun c_4 => ?_) (fun c_4 => ?_)
                · refine lv_iload_n hx hb dX1_rankIn_99 rfl (lv_at hl 4 rfl) ?_
                  refine lv_istore_n (lv' := [(3, .int (iI (mo : Int))), (6, .int (iI 0)), (0, .ref (a 0)), (1, .int (iI (x1 : Int))), (2, .int (iI (x2 : Int))), (4, .int (iI (sA : Int))), (5, .int (iI (sB : Int)))]) hx hb dX1_rankIn_100 rfl hl (by decide) rfl (fun ls hl => ?_)
                  refine lv_iinc (v := iI ((sB + 1 : Nat) : Int)) (lv' := [(5, .int (iI ((sB + 1 : Nat) : Int))), (3, .int (iI (mo : Int))), (6, .int (iI 0)), (0, .ref (a 0)), (1, .int (iI (x1 : Int))), (2, .int (iI (x2 : Int))), (4, .int (iI (sA : Int)))]) hx hb dX1_rankIn_101 hl (k := 6) rfl (iI_inc1 _) (by decide) rfl (fun ls hl => ?_)
                  refine lv_goto (tgt := 15) hx hb dX1_rankIn_104 (by decide) ?_
                  exact ih_15 (sB + 1) mo T2 (by omega) (by omega) hm4 h2 (rk_no h3 (Or.inl (fun h => by have := h.1; omega))) _ _ hI ls (lv_sub hl [3, 4, 5, 1, 6, 0] rfl)
                · exfalso; omega
              · refine lv_iload hx hb dX1_rankIn_31 (lv_at hl 5 rfl) ?_
                refine lv_iload_n hx hb dX1_rankIn_33 rfl (lv_at hl 2 rfl) ?_
                refine z_iconst hx hb dX1_rankIn_34 ?_
                refine z_ixor hx hb (-((x2 : Nat) : Int) - 1) dX1_rankIn_35 (iI_not x2 (by omega)) ?_
                refine z_iand hx hb ((bd sB x2 : Nat) : Int) dX1_rankIn_36 (iI_cut sB (by omega) x2 (by omega)) ?_
                refine z_if_ne hx hb 69 dX1_rankIn_37 (by decide) (by omega) (fun c_5 => ?_) (fun c_5 => ?_)
                · refine z_iconst hx hb dX1_rankIn_69 ?_
                  refine lv_istore (lv' := [(6, .int (iI 0)), (0, .ref (a 0)), (1, .int (iI (x1 : Int))), (2, .int (iI (x2 : Int))), (3, .int (iI (mo : Int))), (4, .int (iI (sA : Int))), (5, .int (iI (sB : Int)))]) hx hb dX1_rankIn_70 hl (by decide) rfl (fun ls hl => ?_)
                  refine lv_iload hx hb dX1_rankIn_72 (lv_at hl 0 rfl) ?_
                  refine z_if_eq hx hb 99 dX1_rankIn_74 (by decide) (by omega) (fun c_6 => ?_) (fun c_6 => ?_)
                  · refine lv_iload_n hx hb dX1_rankIn_99 rfl (lv_at hl 4 rfl) ?_
                    refine lv_istore_n (lv' := [(3, .int (iI (mo : Int))), (6, .int (iI 0)), (0, .ref (a 0)), (1, .int (iI (x1 : Int))), (2, .int (iI (x2 : Int))), (4, .int (iI (sA : Int))), (5, .int (iI (sB : Int)))]) hx hb dX1_rankIn_100 rfl hl (by decide) rfl (fun ls hl => ?_)
                    refine lv_iinc (v := iI ((sB + 1 : Nat) : Int)) (lv' := [(5, .int (iI ((sB + 1 : Nat) : Int))), (3, .int (iI (mo : Int))), (6, .int (iI 0)), (0, .ref (a 0)), (1, .int (iI (x1 : Int))), (2, .int (iI (x2 : Int))), (4, .int (iI (sA : Int)))]) hx hb dX1_rankIn_101 hl (k := 6) rfl (iI_inc1 _) (by decide) rfl (fun ls hl => ?_)
                    refine lv_goto (tgt := 15) hx hb dX1_rankIn_104 (by decide) ?_
                    exact ih_15 (sB + 1) mo T2 (by omega) (by omega) hm4 h2 (rk_no h3 (Or.inl (fun h => by have := h.2.1; omega))) _ _ hI ls (lv_sub hl [3, 4, 5, 1, 6, 0] rfl)
                  · exfalso; omega
                · refine lv_aload_n hx hb dX1_rankIn_40 rfl (lv_at hl 0 rfl) ?_
                  refine lv_iload hx hb dX1_rankIn_41 (lv_at hl 4 rfl) ?_
                  refine c1_i (As := [.int (iI (sA : Int))]) C hA hI (met1_ones l sA z kp T2 (by omega)) (cw1_ones C.2.2.2.2 ⟨Nat.le_of_ble_eq_true rfl, Nat.le_of_ble_eq_true rfl⟩) rfl hl.1 rfl (Nat.le_of_ble_eq_true rfl) dX1_rankIn_43 ⟨Nat.le_refl _, Nat.le_refl _⟩ (fun r_7 z_7 kp_7 t_7 H locs hp_7 hI => ?_)
                  obtain ⟨rfl, rfl, rfl, rfl⟩ := hp_7
                  refine lv_aload_n hx hb dX1_rankIn_46 rfl (lv_at hl 0 rfl) ?_
                  refine lv_iload hx hb dX1_rankIn_47 (lv_at hl 5 rfl) ?_
                  refine c1_i (As := [.int (iI (sB : Int))]) C hA hI (met1_ones l sB z kp T2 (by omega)) (cw1_ones C.2.2.2.2 ⟨Nat.le_of_ble_eq_true rfl, Nat.le_of_ble_eq_true rfl⟩) rfl hl.1 rfl (Nat.le_of_ble_eq_true rfl) dX1_rankIn_49 ⟨Nat.le_refl _, Nat.le_refl _⟩ (fun r_8 z_8 kp_8 t_8 H locs hp_8 hI => ?_)
                  obtain ⟨rfl, rfl, rfl, rfl⟩ := hp_8
                  refine z_icmp_ne hx hb 69 dX1_rankIn_52 (by decide) (by omega) (by omega) (fun c_9 => ?_) (fun c_9 => ?_)
                  · refine z_iconst hx hb dX1_rankIn_69 ?_
                    refine lv_istore (lv' := [(6, .int (iI 0)), (0, .ref (a 0)), (1, .int (iI (x1 : Int))), (2, .int (iI (x2 : Int))), (3, .int (iI (mo : Int))), (4, .int (iI (sA : Int))), (5, .int (iI (sB : Int)))]) hx hb dX1_rankIn_70 hl (by decide) rfl (fun ls hl => ?_)
                    refine lv_iload hx hb dX1_rankIn_72 (lv_at hl 0 rfl) ?_
                    refine z_if_eq hx hb 99 dX1_rankIn_74 (by decide) (by omega) (fun c_10 => ?_) (fun c_10 => ?_)
                    · refine lv_iload_n hx hb dX1_rankIn_99 rfl (lv_at hl 4 rfl) ?_
                      refine lv_istore_n (lv' := [(3, .int (iI (mo : Int))), (6, .int (iI 0)), (0, .ref (a 0)), (1, .int (iI (x1 : Int))), (2, .int (iI (x2 : Int))), (4, .int (iI (sA : Int))), (5, .int (iI (sB : Int)))]) hx hb dX1_rankIn_100 rfl hl (by decide) rfl (fun ls hl => ?_)
                      refine lv_iinc (v := iI ((sB + 1 : Nat) : Int)) (lv' := [(5, .int (iI ((sB + 1 : Nat) : Int))), (3, .int (iI (mo : Int))), (6, .int (iI 0)), (0, .ref (a 0)), (1, .int (iI (x1 : Int))), (2, .int (iI (x2 : Int))), (4, .int (iI (sA : Int)))]) hx hb dX1_rankIn_101 hl (k := 6) rfl (iI_inc1 _) (by decide) rfl (fun ls hl => ?_)
                      refine lv_goto (tgt := 15) hx hb dX1_rankIn_104 (by decide) ?_
                      exact ih_15 (sB + 1) mo T2 (by omega) (by omega) hm4 h2 (rk_no h3 (Or.inl (fun h => by have := h.2.2.1; omega))) _ _ hI ls (lv_sub hl [3, 4, 5, 1, 6, 0] rfl)
                    · exfalso; omega
                  · refine lv_aload_n hx hb dX1_rankIn_55 rfl (lv_at hl 0 rfl) ?_
                    refine lv_iload hx hb dX1_rankIn_56 (lv_at hl 4 rfl) ?_
                    refine c1_i (As := [.int (iI (sA : Int))]) C hA hI (met1_ones l sA z kp T2 (by omega)) (cw1_ones C.2.2.2.2 ⟨Nat.le_of_ble_eq_true rfl, Nat.le_of_ble_eq_true rfl⟩) rfl hl.1 rfl (Nat.le_of_ble_eq_true rfl) dX1_rankIn_58 ⟨Nat.le_refl _, Nat.le_refl _⟩ (fun r_11 z_11 kp_11 t_11 H locs hp_11 hI => ?_)
                    obtain ⟨rfl, rfl, rfl, rfl⟩ := hp_11
                    refine lv_iload_n hx hb dX1_rankIn_61 rfl (lv_at hl 3 rfl) ?_
                    refine z_icmp_le hx hb 69 dX1_rankIn_62 (by decide) (by omega) (by omega) (fun c_12 => ?_) (fun c_12 => ?_)
                    · refine z_iconst hx hb dX1_rankIn_69 ?_
                      refine lv_istore (lv' := [(6, .int (iI 0)), (0, .ref (a 0)), (1, .int (iI (x1 : Int))), (2, .int (iI (x2 : Int))), (3, .int (iI (mo : Int))), (4, .int (iI (sA : Int))), (5, .int (iI (sB : Int)))]) hx hb dX1_rankIn_70 hl (by decide) rfl (fun ls hl => ?_)
                      refine lv_iload hx hb dX1_rankIn_72 (lv_at hl 0 rfl) ?_
                      refine z_if_eq hx hb 99 dX1_rankIn_74 (by decide) (by omega) (fun c_13 => ?_) (fun c_13 => ?_)
                      · refine lv_iload_n hx hb dX1_rankIn_99 rfl (lv_at hl 4 rfl) ?_
                        refine lv_istore_n (lv' := [(3, .int (iI (mo : Int))), (6, .int (iI 0)), (0, .ref (a 0)), (1, .int (iI (x1 : Int))), (2, .int (iI (x2 : Int))), (4, .int (iI (sA : Int))), (5, .int (iI (sB : Int)))]) hx hb dX1_rankIn_100 rfl hl (by decide) rfl (fun ls hl => ?_)
                        refine lv_iinc (v := iI ((sB + 1 : Nat) : Int)) (lv' := [(5, .int (iI ((sB + 1 : Nat) : Int))), (3, .int (iI (mo : Int))), (6, .int (iI 0)), (0, .ref (a 0)), (1, .int (iI (x1 : Int))), (2, .int (iI (x2 : Int))), (4, .int (iI (sA : Int)))]) hx hb dX1_rankIn_101 hl (k := 6) rfl (iI_inc1 _) (by decide) rfl (fun ls hl => ?_)
                        refine lv_goto (tgt := 15) hx hb dX1_rankIn_104 (by decide) ?_
                        exact ih_15 (sB + 1) mo T2 (by omega) (by omega) hm4 h2 (rk_no h3 (Or.inr (by omega))) _ _ hI ls (lv_sub hl [3, 4, 5, 1, 6, 0] rfl)
                      · exfalso; omega
                    · refine z_iconst hx hb dX1_rankIn_65 ?_
                      refine lv_goto (tgt := 70) hx hb dX1_rankIn_66 (by decide) ?_
                      refine lv_istore (lv' := [(6, .int (iI 1)), (0, .ref (a 0)), (1, .int (iI (x1 : Int))), (2, .int (iI (x2 : Int))), (3, .int (iI (mo : Int))), (4, .int (iI (sA : Int))), (5, .int (iI (sB : Int)))]) hx hb dX1_rankIn_70 hl (by decide) rfl (fun ls hl => ?_)
                      refine lv_iload hx hb dX1_rankIn_72 (lv_at hl 0 rfl) ?_
                      refine z_if_eq hx hb 99 dX1_rankIn_74 (by decide) (by omega) (fun c_14 => ?_) (fun c_14 => ?_)
                      · exfalso; omega
                      · refine lv_aload_n hx hb dX1_rankIn_77 rfl (lv_at hl 1 rfl) ?_
                        refine lv_iload hx hb dX1_rankIn_78 (lv_at hl 5 rfl) ?_
                        refine lv_iload hx hb dX1_rankIn_80 (lv_at hl 6 rfl) ?_
                        refine c1_l (As := [.int (iI (sA : Int)), .int (iI (sB : Int))]) C hA hI (met1_part l sA sB z kp T2 ⟨by omega, by omega, by rw [← on_16 sA (by omega)]; omega, by rw [← on_16 sA (by omega)]; omega⟩ (fun k hk => by have := hz k hk; omega)) (cw1_part C.2.2.2.2 ⟨Nat.le_of_ble_eq_true rfl, Nat.le_of_ble_eq_true rfl⟩) rfl hl.1 rfl (Nat.le_of_ble_eq_true rfl) dX1_rankIn_82 ⟨Nat.le_refl _, Nat.le_refl _⟩ (fun rp z_15 kp_15 t_15 H locs hp_15 hI => ?_)
                        obtain ⟨hrp, rfl, rfl⟩ := hp_15
                        have hrb := mt_bd hz sA 4 (Nat.le_refl _) sB
                        rw [hrp, show (250 : Int) ^ 4 = 3906250000 from rfl] at hrb
                        refine z_lconst0 hx hb dX1_rankIn_85 ?_
                        refine z_lcmp hx hb dX1_rankIn_86 (by omega) (by omega) ?_
                        have hsv := lc0 rp
                        generalize (if 0 < rp then (1 : Int) else if rp = 0 then 0 else -1) = sv at hsv ⊢
                        refine z_if_eq hx hb 99 dX1_rankIn_87 (by decide) (by omega) (fun c_16 => ?_) (fun c_16 => ?_)
                        · refine lv_iload_n hx hb dX1_rankIn_99 rfl (lv_at hl 4 rfl) ?_
                          refine lv_istore_n (lv' := [(3, .int (iI (mo : Int))), (6, .int (iI 1)), (0, .ref (a 0)), (1, .int (iI (x1 : Int))), (2, .int (iI (x2 : Int))), (4, .int (iI (sA : Int))), (5, .int (iI (sB : Int)))]) hx hb dX1_rankIn_100 rfl hl (by decide) rfl (fun ls hl => ?_)
                          refine lv_iinc (v := iI ((sB + 1 : Nat) : Int)) (lv' := [(5, .int (iI ((sB + 1 : Nat) : Int))), (3, .int (iI (mo : Int))), (6, .int (iI 1)), (0, .ref (a 0)), (1, .int (iI (x1 : Int))), (2, .int (iI (x2 : Int))), (4, .int (iI (sA : Int)))]) hx hb dX1_rankIn_101 hl (k := 6) rfl (iI_inc1 _) (by decide) rfl (fun ls hl => ?_)
                          refine lv_goto (tgt := 15) hx hb dX1_rankIn_104 (by decide) ?_
                          exact ih_15 (sB + 1) mo t_15 (by omega) (by omega) hm4 h2 (rk_no h3 (Or.inl (fun h => h.2.2.2 (by omega)))) _ _ hI ls (lv_sub hl [3, 4, 5, 1, 6, 0] rfl)
                        · refine lv_aload_n hx hb dX1_rankIn_90 rfl (lv_at hl 1 rfl) ?_
                          refine lv_iload hx hb dX1_rankIn_91 (lv_at hl 5 rfl) ?_
                          refine c1_i (As := [.int (iI (sA : Int))]) C hA hI (met1_ones l sA z kp t_15 (by omega)) (cw1_ones C.2.2.2.2 ⟨Nat.le_of_ble_eq_true rfl, Nat.le_of_ble_eq_true rfl⟩) rfl hl.1 rfl (Nat.le_of_ble_eq_true rfl) dX1_rankIn_93 ⟨Nat.le_refl _, Nat.le_refl _⟩ (fun r_17 z_17 kp_17 t_17 H locs hp_17 hI => ?_)
                          obtain ⟨rfl, rfl, rfl, rfl⟩ := hp_17
                          refine lv_goto (tgt := 100) hx hb dX1_rankIn_96 (by decide) ?_
                          refine lv_istore_n (lv' := [(3, .int (iI ((on sA : Nat) : Int))), (6, .int (iI 1)), (0, .ref (a 0)), (1, .int (iI (x1 : Int))), (2, .int (iI (x2 : Int))), (4, .int (iI (sA : Int))), (5, .int (iI (sB : Int)))]) hx hb dX1_rankIn_100 rfl hl (by decide) rfl (fun ls hl => ?_)
                          refine lv_iinc (v := iI ((sB + 1 : Nat) : Int)) (lv' := [(5, .int (iI ((sB + 1 : Nat) : Int))), (3, .int (iI ((on sA : Nat) : Int))), (6, .int (iI 1)), (0, .ref (a 0)), (1, .int (iI (x1 : Int))), (2, .int (iI (x2 : Int))), (4, .int (iI (sA : Int)))]) hx hb dX1_rankIn_101 hl (k := 6) rfl (iI_inc1 _) (by decide) rfl (fun ls hl => ?_)
                          refine lv_goto (tgt := 15) hx hb dX1_rankIn_104 (by decide) ?_
                          exact ih_15 (sB + 1) (on sA) t_15 (by omega) (by omega) ho1 (Or.inr ⟨sA, sB, by omega, by omega, rfl, by omega, by omega, by omega, by omega⟩) (rk_yes h3 (by omega)) _ _ hI ls (lv_sub hl [3, 4, 5, 1, 6, 0] rfl)
        exact lp_15 32 1 mo T (by omega) (by omega) hm4 h2 h3 _ _ hI ls (lv_sub hl [1, 2, 3, 4, 5, 0] rfl)
  exact lp_5 16 1 0 t (by omega) (by omega) (by omega) (Or.inl rfl) rk_0 _ _ hI ls (lv_sub hl [2, 3, 4, 1, 0] rfl)
abbrev ps1_rank  (z : Nat → Int) (kp : Nat → Int) (t : Nat → Int) : Int → (Nat → Int) → (Nat → Int) → (Nat → Int) → Prop := fun r z1 kp1 t1 => (∃ k : Nat, (k : Int) = r ∧ isRank 0 4 (Rs z 15) k) ∧ z = z1
set_option maxHeartbeats 4000000 in
set_option maxRecDepth 100000 in
theorem met1_rank (l : Launch) (z : Nat → Int) (kp : Nat → Int) (t : Nat → Int) (hz : ∀ k, k < 20 → -50 ≤ z k ∧ z k ≤ 50) : M1i l yX1_rank cX1_rank 1 (some .int) rm1_rank [] z kp t (ps1_rank z kp t) := by
  refine M1i.of (by decide) rfl (fun _ => Nat.le_of_ble_eq_true rfl) ?_
  intro p e s m args below meth c D a ca A ls C hr hlocks hA hl hI
  have hx := C.1
  have hb := C.2.1
  have hl : lv_has ls 1 [(0, .ref (a 0))] := hl
  refine lv_aload_n hx hb dX1_rank_0 rfl (lv_at hl 0 rfl) ?_
  refine z_bipush hx hb dX1_rank_1 (by decide +kernel) ?_
  refine z_bipush hx hb dX1_rank_3 (by decide +kernel) ?_
  refine c1_i (As := [.int (iI 15), .int (iI 15)]) C hA hI (met1_rankIn l 15 15 z kp t (by decide) hz) (cw1_rankIn C.2.2.2.2 ⟨Nat.le_of_ble_eq_true rfl, Nat.le_of_ble_eq_true rfl⟩) rfl hl.1 rfl (Nat.le_of_ble_eq_true rfl) dX1_rank_5 ⟨Nat.le_refl _, Nat.le_refl _⟩ (fun rr z_1 kp_1 t_1 H locs hp_1 hI => ?_)
  obtain ⟨⟨k, hk, hR⟩, rfl, rfl⟩ := hp_1
  exact r1_i C hr hlocks hI (⟨⟨k, hk, hR 4 (Or.inl ⟨rfl, rfl⟩)⟩, rfl⟩) dX1_rank_8
abbrev ps1_wideRank  (z : Nat → Int) (kp : Nat → Int) (t : Nat → Int) : Int → (Nat → Int) → (Nat → Int) → (Nat → Int) → Prop := fun r z1 kp1 t1 => (∃ k : Nat, (k : Int) = r ∧ isRank 0 5 (Rs z 15) k) ∧ z = z1
set_option maxHeartbeats 4000000 in
set_option maxRecDepth 100000 in
theorem met1_wideRank (l : Launch) (z : Nat → Int) (kp : Nat → Int) (t : Nat → Int) (hz : ∀ k, k < 20 → -50 ≤ z k ∧ z k ≤ 50) : M1i l yX1_wideRank cX1_wideRank 1 (some .int) rm1_wideRank [] z kp t (ps1_wideRank z kp t) := by
  refine M1i.of (by decide) rfl (fun _ => Nat.le_of_ble_eq_true rfl) ?_
  intro p e s m args below meth c D a ca A ls C hr hlocks hA hl hI
  have hx := C.1
  have hb := C.2.1
  have hl : lv_has ls 1 [(0, .ref (a 0))] := hl
  refine lv_aload_n hx hb dX1_wideRank_0 rfl (lv_at hl 0 rfl) ?_
  refine z_bipush hx hb dX1_wideRank_1 (by decide +kernel) ?_
  refine z_bipush hx hb dX1_wideRank_3 (by decide +kernel) ?_
  refine c1_i (As := [.int (iI 15), .int (iI 31)]) C hA hI (met1_rankIn l 15 31 z kp t (by decide) hz) (cw1_rankIn C.2.2.2.2 ⟨Nat.le_of_ble_eq_true rfl, Nat.le_of_ble_eq_true rfl⟩) rfl hl.1 rfl (Nat.le_of_ble_eq_true rfl) dX1_wideRank_5 ⟨Nat.le_refl _, Nat.le_refl _⟩ (fun rr z_1 kp_1 t_1 H locs hp_1 hI => ?_)
  obtain ⟨⟨k, hk, hR⟩, rfl, rfl⟩ := hp_1
  exact r1_i C hr hlocks hI (⟨⟨k, hk, hR 5 (Or.inr ⟨rfl, rfl⟩)⟩, rfl⟩) dX1_wideRank_8
/-- what rankOf answers -/
def rl_rank (z : Nat → Int) (i r : Int) : Prop := (0 ≤ i ∧ i ≤ 15 ∧ ∃ k : Nat, (k : Int) = r ∧ isRank 0 4 (Rs z i.toNat) k) ∨ ((i < 0 ∨ 15 < i) ∧ r = BAD_)
theorem rl_rank_fun {z : Nat → Int} {i r r' : Int} (h : rl_rank z i r) (h' : rl_rank z i r') : r = r' := by
  rcases h with ⟨a, b, k, hk, hR⟩ | ⟨a, b⟩ <;> rcases h' with ⟨a', b', k', hk', hR'⟩ | ⟨a', b'⟩
  · have := isRank_fun hR hR'
    omega
  · omega
  · omega
  · rw [b, b']
abbrev ps1_rankOf (i : Int) (z : Nat → Int) (kp : Nat → Int) (t : Nat → Int) : Int → (Nat → Int) → (Nat → Int) → (Nat → Int) → Prop := fun r z1 kp1 t1 => rl_rank z i r ∧ z = z1
set_option maxHeartbeats 4000000 in
set_option maxRecDepth 100000 in
theorem met1_rankOf (l : Launch) (i : Int) (z : Nat → Int) (kp : Nat → Int) (t : Nat → Int) (hi : -2147483648 ≤ i ∧ i < 2147483648) (hz : ∀ k, k < 20 → -50 ≤ z k ∧ z k ≤ 50) : M1i l yX1_rankOf cX1_rankOf 2 (some .int) rm1_rankOf [.int (iI i)] z kp t (ps1_rankOf i z kp t) := by
  refine M1i.of (by decide) rfl (fun _ => Nat.le_of_ble_eq_true rfl) ?_
  intro p e s m args below meth c D a ca A ls C hr hlocks hA hl hI
  have hx := C.1
  have hb := C.2.1
  have hl : lv_has ls 2 [(0, .ref (a 0)), (1, .int (iI i))] := hl
  refine lv_iload_n hx hb dX1_rankOf_0 rfl (lv_at hl 1 rfl) ?_
  refine z_if_lt hx hb 10 dX1_rankOf_1 (by decide) (by omega) (fun c_1 => ?_) (fun c_1 => ?_)
  · refine z_ldc hx hb (-1000000000) C.2.2.2.1 (C.2.2.2.2 _ q234) (by decide +kernel) dX1_rankOf_10 ?_
    refine lv_goto (tgt := 22) hx hb dX1_rankOf_12 (by decide) ?_
    exact r1_i C hr hlocks hI (⟨Or.inr ⟨by omega, rfl⟩, rfl⟩) dX1_rankOf_22
  · refine lv_iload_n hx hb dX1_rankOf_4 rfl (lv_at hl 1 rfl) ?_
    refine z_bipush hx hb dX1_rankOf_5 (by decide +kernel) ?_
    refine z_icmp_le hx hb 15 dX1_rankOf_7 (by decide) (by omega) (by omega) (fun c_2 => ?_) (fun c_2 => ?_)
    · obtain ⟨n1, rfl⟩ := Int.eq_ofNat_of_zero_le (show 0 ≤ i by omega)
      refine lv_aload_n hx hb dX1_rankOf_15 rfl (lv_at hl 0 rfl) ?_
      refine lv_iload_n hx hb dX1_rankOf_16 rfl (lv_at hl 1 rfl) ?_
      refine z_bipush hx hb dX1_rankOf_17 (by decide +kernel) ?_
      refine c1_i (As := [.int (iI (n1 : Int)), .int (iI 15)]) C hA hI (met1_rankIn l n1 15 z kp t (by omega) hz) (cw1_rankIn C.2.2.2.2 ⟨Nat.le_of_ble_eq_true rfl, Nat.le_of_ble_eq_true rfl⟩) rfl hl.1 rfl (Nat.le_of_ble_eq_true rfl) dX1_rankOf_19 ⟨Nat.le_refl _, Nat.le_refl _⟩ (fun rr z_3 kp_3 t_3 H locs hp_3 hI => ?_)
      obtain ⟨⟨k, hk, hR⟩, rfl, rfl⟩ := hp_3
      exact r1_i C hr hlocks hI (⟨Or.inl ⟨by omega, by omega, k, hk, by rw [Int.toNat_natCast]; exact hR 4 (Or.inl ⟨rfl, rfl⟩)⟩, rfl⟩) dX1_rankOf_22
    · refine z_ldc hx hb (-1000000000) C.2.2.2.1 (C.2.2.2.2 _ q234) (by decide +kernel) dX1_rankOf_10 ?_
      refine lv_goto (tgt := 22) hx hb dX1_rankOf_12 (by decide) ?_
      exact r1_i C hr hlocks hI (⟨Or.inr ⟨by omega, rfl⟩, rfl⟩) dX1_rankOf_22
abbrev ps1_principal (i : Int) (z : Nat → Int) (kp : Nat → Int) (t : Nat → Int) : Int → (Nat → Int) → (Nat → Int) → (Nat → Int) → Prop := fun r z1 kp1 t1 => an_prin z i = r ∧ z = z1
set_option maxHeartbeats 4000000 in
set_option maxRecDepth 100000 in
theorem met1_principal (l : Launch) (i : Int) (z : Nat → Int) (kp : Nat → Int) (t : Nat → Int) (hi : -2147483648 ≤ i ∧ i < 2147483648) (hz : ∀ k, k < 20 → -50 ≤ z k ∧ z k ≤ 50) : M1i l yX1_principal cX1_principal 5 (some .int) rm1_principal [.int (iI i)] z kp t (ps1_principal i z kp t) := by
  refine M1i.of (by decide) rfl (fun _ => Nat.le_of_ble_eq_true rfl) ?_
  intro p e s m args below meth c D a ca A ls C hr hlocks hA hl hI
  have hx := C.1
  have hb := C.2.1
  have hl : lv_has ls 5 [(0, .ref (a 0)), (1, .int (iI i))] := hl
  refine lv_iload_n hx hb dX1_principal_0 rfl (lv_at hl 1 rfl) ?_
  refine z_iconst hx hb dX1_principal_1 ?_
  refine z_icmp_lt hx hb 10 dX1_principal_2 (by decide) (by omega) (by omega) (fun c_1 => ?_) (fun c_1 => ?_)
  · refine z_ldc hx hb (-1000000000) C.2.2.2.1 (C.2.2.2.2 _ q234) (by decide +kernel) dX1_principal_10 ?_
    exact r1_i C hr hlocks hI (⟨by unfold an_prin; rw [if_neg (by omega)]; rfl, rfl⟩) dX1_principal_12
  · refine lv_iload_n hx hb dX1_principal_5 rfl (lv_at hl 1 rfl) ?_
    refine z_iconst hx hb dX1_principal_6 ?_
    refine z_icmp_le hx hb 13 dX1_principal_7 (by decide) (by omega) (by omega) (fun c_2 => ?_) (fun c_2 => ?_)
    · obtain ⟨n1, rfl⟩ := Int.eq_ofNat_of_zero_le (show 0 ≤ i by omega)
      refine z_lconst0 hx hb dX1_principal_13 ?_
      refine lv_lstore_n (lv' := [(2, .long (iL 0)), (0, .ref (a 0)), (1, .int (iI (n1 : Int)))]) hx hb dX1_principal_14 rfl hl (by decide) rfl (fun ls hl => ?_)
      refine z_iconst hx hb dX1_principal_15 ?_
      refine lv_istore (lv' := [(4, .int (iI 1)), (2, .long (iL 0)), (0, .ref (a 0)), (1, .int (iI (n1 : Int)))]) hx hb dX1_principal_16 hl (by decide) rfl (fun ls hl => ?_)
      have lp_18 : ∀ (n_18 : Nat) (sA : Nat) (ss : Int) (T : Nat → Int), (hf_18 : 16 < sA + n_18) → (hA1 : 1 ≤ sA ∧ sA ≤ 16) → (hs : ss = psm z n1 sA) → ∀ (H : Heap) (locs : List Loc), I1 D A s a ca z kp T H locs → ∀ (ls : Array Slot), lv_has ls 5 [(0, .ref (a 0)), (1, .int (iI (n1 : Int))), (2, .long (iL ss)), (4, .int (iI (sA : Int)))] → W p l e rm1_principal s m args below meth c H locs 0 0 (E1i D a ca A (ps1_principal n1 z kp t) below args s) (F0 m 18 ls []) := by
        intro n_18
        induction n_18 with
        | zero =>
          intro sA ss T hf_18 hA1 hs H locs hI ls hl
          exfalso; omega
        | succ n_18 ih_18 =>
          intro sA ss T hf_18 hA1 hs H locs hI ls hl
          have ho2 : on sA ≤ 5 := onk_le sA 5
          refine lv_iload hx hb dX1_principal_18 (lv_at hl 3 rfl) ?_
          refine z_bipush hx hb dX1_principal_20 (by decide +kernel) ?_
          refine z_icmp_ge hx hb 56 dX1_principal_22 (by decide) (by omega) (by omega) (fun c_3 => ?_) (fun c_3 => ?_)
          · refine lv_lload_n hx hb dX1_principal_56 rfl (lv_at hl 2 rfl) ?_
            refine z_l2i hx hb dX1_principal_57 ?_
            have hA16 : sA = 16 := by omega
            subst hA16
            exact r1_i C hr hlocks hI (⟨by unfold an_prin; rw [if_pos (by omega), Int.toNat_natCast, hs]; exact (ps_es z (by omega)).symm, rfl⟩) dX1_principal_58
          · refine lv_aload_n hx hb dX1_principal_25 rfl (lv_at hl 0 rfl) ?_
            refine lv_iload hx hb dX1_principal_26 (lv_at hl 3 rfl) ?_
            refine c1_i (As := [.int (iI (sA : Int))]) C hA hI (met1_ones l sA z kp T (by omega)) (cw1_ones C.2.2.2.2 ⟨Nat.le_of_ble_eq_true rfl, Nat.le_of_ble_eq_true rfl⟩) rfl hl.1 rfl (Nat.le_of_ble_eq_true rfl) dX1_principal_28 ⟨Nat.le_refl _, Nat.le_refl _⟩ (fun r_4 z_4 kp_4 t_4 H locs hp_4 hI => ?_)
            obtain ⟨rfl, rfl, rfl, rfl⟩ := hp_4
            refine lv_iload_n hx hb dX1_principal_31 rfl (lv_at hl 1 rfl) ?_
            refine z_icmp_ne hx hb 48 dX1_principal_32 (by decide) (by omega) (by omega) (fun c_5 => ?_) (fun c_5 => ?_)
            · refine lv_lload_n hx hb dX1_principal_48 rfl (lv_at hl 2 rfl) ?_
              refine lv_lstore_n (lv' := [(2, .long (iL ss)), (0, .ref (a 0)), (1, .int (iI (n1 : Int))), (4, .int (iI (sA : Int)))]) hx hb dX1_principal_49 rfl hl (by decide) rfl (fun ls hl => ?_)
              refine lv_iinc (v := iI ((sA + 1 : Nat) : Int)) (lv' := [(4, .int (iI ((sA + 1 : Nat) : Int))), (2, .long (iL ss)), (0, .ref (a 0)), (1, .int (iI (n1 : Int)))]) hx hb dX1_principal_50 hl (k := 3) rfl (iI_inc1 _) (by decide) rfl (fun ls hl => ?_)
              refine lv_goto (tgt := 18) hx hb dX1_principal_53 (by decide) ?_
              exact ih_18 (sA + 1) ss T (by omega) (by omega) (by rw [hs]; exact psm_n (by omega)) _ _ hI ls (lv_sub hl [2, 3, 1, 0] rfl)
            · refine lv_lload_n hx hb dX1_principal_35 rfl (lv_at hl 2 rfl) ?_
              refine lv_aload_n hx hb dX1_principal_36 rfl (lv_at hl 0 rfl) ?_
              refine lv_iload hx hb dX1_principal_37 (lv_at hl 3 rfl) ?_
              refine lv_iload hx hb dX1_principal_39 (lv_at hl 3 rfl) ?_
              refine c1_l (As := [.int (iI (sA : Int)), .int (iI (sA : Int))]) C hA hI (met1_part l sA sA z kp T ⟨by omega, by omega, by rw [← on_16 sA (by omega)]; omega, on_16 sA (by omega)⟩ (fun k hk => by have := hz k hk; omega)) (cw1_part C.2.2.2.2 ⟨Nat.le_of_ble_eq_true rfl, Nat.le_of_ble_eq_true rfl⟩) rfl hl.1 rfl (Nat.le_of_ble_eq_true rfl) dX1_principal_41 ⟨Nat.le_refl _, Nat.le_refl _⟩ (fun rp z_6 kp_6 t_6 H locs hp_6 hI => ?_)
              obtain ⟨hrp, rfl, rfl⟩ := hp_6
              refine z_ladd hx hb dX1_principal_44 ?_
              refine lv_goto (tgt := 49) hx hb dX1_principal_45 (by decide) ?_
              refine lv_lstore_n (lv' := [(2, .long (iL (ss + rp))), (0, .ref (a 0)), (1, .int (iI (n1 : Int))), (4, .int (iI (sA : Int)))]) hx hb dX1_principal_49 rfl hl (by decide) rfl (fun ls hl => ?_)
              refine lv_iinc (v := iI ((sA + 1 : Nat) : Int)) (lv' := [(4, .int (iI ((sA + 1 : Nat) : Int))), (2, .long (iL (ss + rp))), (0, .ref (a 0)), (1, .int (iI (n1 : Int)))]) hx hb dX1_principal_50 hl (k := 3) rfl (iI_inc1 _) (by decide) rfl (fun ls hl => ?_)
              refine lv_goto (tgt := 18) hx hb dX1_principal_53 (by decide) ?_
              exact ih_18 (sA + 1) (ss + rp) t_6 (by omega) (by omega) (by rw [hs, ← hrp]; exact psm_y (by omega)) _ _ hI ls (lv_sub hl [2, 3, 1, 0] rfl)
      exact lp_18 16 1 0 t (by omega) (by omega) (psm_n (z := z) (n := n1) (A := 0) (show 0 ≠ n1 by omega)) _ _ hI ls (lv_sub hl [2, 3, 1, 0] rfl)
    · refine z_ldc hx hb (-1000000000) C.2.2.2.1 (C.2.2.2.2 _ q234) (by decide +kernel) dX1_principal_10 ?_
      exact r1_i C hr hlocks hI (⟨by unfold an_prin; rw [if_neg (by omega)]; rfl, rfl⟩) dX1_principal_12
theorem cf_es {z : Nat → Int} {n : Nat} (h : n ≤ 3) : (n % 2 = 0 → cf z n = es z (4 - n)) ∧ (n % 2 ≠ 0 → cf z n = -es z (4 - n)) := by
  have q : n = 0 ∨ n = 1 ∨ n = 2 ∨ n = 3 := by omega
  rcases q with rfl | rfl | rfl | rfl
  · exact ⟨fun _ => rfl, fun h => absurd rfl h⟩
  · exact ⟨fun h => absurd h (by decide), fun _ => rfl⟩
  · exact ⟨fun _ => rfl, fun h => absurd rfl h⟩
  · exact ⟨fun h => absurd h (by decide), fun _ => rfl⟩
theorem an_prin_4 {z : Nat → Int} {n : Nat} (h : n ≤ 3) : an_prin z (4 - (n : Int)) = es z (4 - n) := by
  unfold an_prin
  rw [if_pos (by omega), show (4 - (n : Int)).toNat = 4 - n by omega]
abbrev ps1_coefficient (i : Int) (z : Nat → Int) (kp : Nat → Int) (t : Nat → Int) : Int → (Nat → Int) → (Nat → Int) → (Nat → Int) → Prop := fun r z1 kp1 t1 => an_coef z i = r ∧ z = z1
set_option maxHeartbeats 4000000 in
set_option maxRecDepth 100000 in
theorem met1_coefficient (l : Launch) (i : Int) (z : Nat → Int) (kp : Nat → Int) (t : Nat → Int) (hi : -2147483648 ≤ i ∧ i < 2147483648) (hz : ∀ k, k < 20 → -50 ≤ z k ∧ z k ≤ 50) : M1i l yX1_coefficient cX1_coefficient 3 (some .int) rm1_coefficient [.int (iI i)] z kp t (ps1_coefficient i z kp t) := by
  refine M1i.of (by decide) rfl (fun _ => Nat.le_of_ble_eq_true rfl) ?_
  intro p e s m args below meth c D a ca A ls C hr hlocks hA hl hI
  have hx := C.1
  have hb := C.2.1
  have hl : lv_has ls 3 [(0, .ref (a 0)), (1, .int (iI i))] := hl
  refine lv_iload_n hx hb dX1_coefficient_0 rfl (lv_at hl 1 rfl) ?_
  refine z_if_lt hx hb 9 dX1_coefficient_1 (by decide) (by omega) (fun c_1 => ?_) (fun c_1 => ?_)
  · refine z_ldc hx hb (-1000000000) C.2.2.2.1 (C.2.2.2.2 _ q234) (by decide +kernel) dX1_coefficient_9 ?_
    exact r1_i C hr hlocks hI (⟨by unfold an_coef; rw [if_neg (by omega)]; rfl, rfl⟩) dX1_coefficient_11
  · refine lv_iload_n hx hb dX1_coefficient_4 rfl (lv_at hl 1 rfl) ?_
    refine z_iconst hx hb dX1_coefficient_5 ?_
    refine z_icmp_le hx hb 12 dX1_coefficient_6 (by decide) (by omega) (by omega) (fun c_2 => ?_) (fun c_2 => ?_)
    · obtain ⟨n1, rfl⟩ := Int.eq_ofNat_of_zero_le (show 0 ≤ i by omega)
      refine lv_iload_n hx hb dX1_coefficient_12 rfl (lv_at hl 1 rfl) ?_
      refine z_iconst hx hb dX1_coefficient_13 ?_
      refine z_icmp_ne hx hb 21 dX1_coefficient_14 (by decide) (by omega) (by omega) (fun c_3 => ?_) (fun c_3 => ?_)
      · refine lv_aload_n hx hb dX1_coefficient_21 rfl (lv_at hl 0 rfl) ?_
        refine z_iconst hx hb dX1_coefficient_22 ?_
        refine lv_iload_n hx hb dX1_coefficient_23 rfl (lv_at hl 1 rfl) ?_
        refine z_isub hx hb dX1_coefficient_24 ?_
        refine c1_i (As := [.int (iI (4 - (n1 : Int)))]) C hA hI (met1_principal l (4 - (n1 : Int)) z kp t (by omega) hz) (cw1_principal C.2.2.2.2 ⟨Nat.le_of_ble_eq_true rfl, Nat.le_of_ble_eq_true rfl⟩) rfl hl.1 rfl (Nat.le_of_ble_eq_true rfl) dX1_coefficient_25 ⟨Nat.le_refl _, Nat.le_refl _⟩ (fun rp z_4 kp_4 t_4 H locs hp_4 hI => ?_)
        obtain ⟨hrp, rfl⟩ := hp_4
        have hrp : es z (4 - n1) = rp := (an_prin_4 (by omega)).symm.trans hrp
        refine lv_istore_n (lv' := [(2, .int (iI rp)), (0, .ref (a 0)), (1, .int (iI (n1 : Int)))]) hx hb dX1_coefficient_28 rfl hl (by decide) rfl (fun ls hl => ?_)
        refine lv_iload_n hx hb dX1_coefficient_29 rfl (lv_at hl 2 rfl) ?_
        refine z_iconst hx hb dX1_coefficient_30 ?_
        refine z_iremN hx hb n1 2 dX1_coefficient_31 (by omega) (by omega) (by omega) ?_
        refine z_if_ne hx hb 39 dX1_coefficient_32 (by decide) (by omega) (fun c_5 => ?_) (fun c_5 => ?_)
        · refine lv_iload_n hx hb dX1_coefficient_39 rfl (lv_at hl 0 rfl) ?_
          refine z_ineg hx hb dX1_coefficient_40 ?_
          exact r1_i C hr hlocks hI (⟨by unfold an_coef; rw [if_pos (by omega), Int.toNat_natCast]; rw [(cf_es (by omega)).2 (by omega), hrp], rfl⟩) dX1_coefficient_41
        · refine lv_iload_n hx hb dX1_coefficient_35 rfl (lv_at hl 0 rfl) ?_
          refine lv_goto (tgt := 41) hx hb dX1_coefficient_36 (by decide) ?_
          exact r1_i C hr hlocks hI (⟨by unfold an_coef; rw [if_pos (by omega), Int.toNat_natCast]; rw [(cf_es (by omega)).1 (by omega), hrp], rfl⟩) dX1_coefficient_41
      · refine z_iconst hx hb dX1_coefficient_17 ?_
        refine lv_goto (tgt := 28) hx hb dX1_coefficient_18 (by decide) ?_
        refine lv_istore_n (lv' := [(2, .int (iI 1)), (0, .ref (a 0)), (1, .int (iI (n1 : Int)))]) hx hb dX1_coefficient_28 rfl hl (by decide) rfl (fun ls hl => ?_)
        refine lv_iload_n hx hb dX1_coefficient_29 rfl (lv_at hl 2 rfl) ?_
        refine z_iconst hx hb dX1_coefficient_30 ?_
        refine z_iremN hx hb n1 2 dX1_coefficient_31 (by omega) (by omega) (by omega) ?_
        refine z_if_ne hx hb 39 dX1_coefficient_32 (by decide) (by omega) (fun c_6 => ?_) (fun c_6 => ?_)
        · exfalso; omega
        · refine lv_iload_n hx hb dX1_coefficient_35 rfl (lv_at hl 0 rfl) ?_
          refine lv_goto (tgt := 41) hx hb dX1_coefficient_36 (by decide) ?_
          exact r1_i C hr hlocks hI (⟨by unfold an_coef; rw [if_pos (by omega), Int.toNat_natCast]; rw [show n1 = 4 by omega]; rfl, rfl⟩) dX1_coefficient_41
    · refine z_ldc hx hb (-1000000000) C.2.2.2.1 (C.2.2.2.2 _ q234) (by decide +kernel) dX1_coefficient_9 ?_
      exact r1_i C hr hlocks hI (⟨by unfold an_coef; rw [if_neg (by omega)]; rfl, rfl⟩) dX1_coefficient_11
end
section
set_option maxRecDepth 100000
abbrev ps0_rankAtWork (x1 : Nat) (x2 : Nat) (z : Nat → Int) (pr : Int) (w : Nat → Int) (v : Nat → Int) (q : Nat → Int) (u : Nat → Int) : Int → (Nat → Int) → Int → (Nat → Int) → (Nat → Int) → (Nat → Int) → (Nat → Int) → Prop := fun r z1 pr1 w1 v1 q1 u1 => (∃ k : Nat, (k : Int) = r ∧ isRank pr x2 (Rn w x1) k) ∧ z = z1 ∧ pr = pr1 ∧ v = v1 ∧ q = q1 ∧ u = u1
set_option maxHeartbeats 4000000 in
set_option maxRecDepth 100000 in
theorem met0_rankAtWork (l : Launch) (x1 : Nat) (x2 : Nat) (z : Nat → Int) (pr : Int) (w : Nat → Int) (v : Nat → Int) (q : Nat → Int) (u : Nat → Int) (hp : pr = 32749 ∨ pr = 32719) (h1 : x1 ≤ 4 ∧ x2 ≤ 5) (hw : ∀ k, k < 20 → 0 ≤ w k ∧ w k < pr) : M0i l yX0_rankAtWork cX0_rankAtWork 6 (some .int) rm0_rankAtWork [.int (iI (x1 : Int)), .int (iI (x2 : Int))] z pr w v q u (ps0_rankAtWork x1 x2 z pr w v q u) := by
  refine M0i.of (by decide) rfl (fun _ => Nat.le_of_ble_eq_true rfl) ?_
  intro p e s m args below meth c D a ca A ls C hr hlocks hA hl hI
  have hx := C.1
  have hb := C.2.1
  have hl : lv_has ls 6 [(0, .ref (a 0)), (1, .int (iI (x1 : Int))), (2, .int (iI (x2 : Int)))] := hl
  have hp0 : 1 < pr ∧ pr ≤ 32749 := by omega
  refine z_iconst hx hb dX0_rankAtWork_0 ?_
  refine lv_istore_n (lv' := [(3, .int (iI 0)), (0, .ref (a 0)), (1, .int (iI (x1 : Int))), (2, .int (iI (x2 : Int)))]) hx hb dX0_rankAtWork_1 rfl hl (by decide) rfl (fun ls hl => ?_)
  refine z_iconst hx hb dX0_rankAtWork_2 ?_
  refine lv_istore (lv' := [(4, .int (iI 0)), (3, .int (iI 0)), (0, .ref (a 0)), (1, .int (iI (x1 : Int))), (2, .int (iI (x2 : Int)))]) hx hb dX0_rankAtWork_3 hl (by decide) rfl (fun ls hl => ?_)
  have lp_5 : ∀ (n_5 : Nat) (c0 : Nat) (r0 : Nat) (g : Nat → Int), (hf_5 : x2 < c0 + n_5) → (hc : c0 ≤ x2 ∧ r0 ≤ x1) → (hE : Eln pr w g x1 x2 c0 r0) → ∀ (H : Heap) (locs : List Loc), I0 D A s a ca z pr g v q u H locs → ∀ (ls : Array Slot), lv_has ls 6 [(0, .ref (a 0)), (1, .int (iI (x1 : Int))), (2, .int (iI (x2 : Int))), (3, .int (iI (r0 : Int))), (4, .int (iI (c0 : Int)))] → W p l e rm0_rankAtWork s m args below meth c H locs 0 0 (E0i D a ca A (ps0_rankAtWork x1 x2 z pr w v q u) below args s) (F0 m 5 ls []) := by
    intro n_5
    induction n_5 with
    | zero =>
      intro c0 r0 g hf_5 hc hE H locs hI ls hl
      exfalso; omega
    | succ n_5 ih_5 =>
      intro c0 r0 g hf_5 hc hE H locs hI ls hl
      refine lv_iload hx hb dX0_rankAtWork_5 (lv_at hl 4 rfl) ?_
      refine lv_iload_n hx hb dX0_rankAtWork_7 rfl (lv_at hl 2 rfl) ?_
      refine z_icmp_ge hx hb 55 dX0_rankAtWork_8 (by decide) (by omega) (by omega) (fun c_1 => ?_) (fun c_1 => ?_)
      · refine lv_iload_n hx hb dX0_rankAtWork_55 rfl (lv_at hl 3 rfl) ?_
        exact r0_i C hr hlocks hI (⟨⟨r0, rfl, eln_end (by omega) (by omega) (by omega) (Or.inl (by omega)) hE⟩, rfl, rfl, rfl, rfl, rfl⟩) dX0_rankAtWork_56
      · refine lv_iload_n hx hb dX0_rankAtWork_11 rfl (lv_at hl 3 rfl) ?_
        refine lv_iload_n hx hb dX0_rankAtWork_12 rfl (lv_at hl 1 rfl) ?_
        refine z_icmp_ge hx hb 55 dX0_rankAtWork_13 (by decide) (by omega) (by omega) (fun c_2 => ?_) (fun c_2 => ?_)
        · refine lv_iload_n hx hb dX0_rankAtWork_55 rfl (lv_at hl 3 rfl) ?_
          exact r0_i C hr hlocks hI (⟨⟨r0, rfl, eln_end (by omega) (by omega) (by omega) (Or.inr (by omega)) hE⟩, rfl, rfl, rfl, rfl, rfl⟩) dX0_rankAtWork_56
        · refine lv_aload_n hx hb dX0_rankAtWork_16 rfl (lv_at hl 0 rfl) ?_
          refine lv_iload_n hx hb dX0_rankAtWork_17 rfl (lv_at hl 3 rfl) ?_
          refine lv_iload_n hx hb dX0_rankAtWork_18 rfl (lv_at hl 1 rfl) ?_
          refine lv_iload hx hb dX0_rankAtWork_19 (lv_at hl 4 rfl) ?_
          refine c0_i (As := [.int (iI (r0 : Int)), .int (iI (x1 : Int)), .int (iI (c0 : Int))]) C hA hI (met0_pivotFrom l r0 x1 c0 z pr g v q u (by omega) (fun k hk => by have := hE.1 k hk; omega)) (cw0_pivotFrom C.2.2.2.2 ⟨Nat.le_of_ble_eq_true rfl, Nat.le_of_ble_eq_true rfl⟩) rfl hl.1 rfl (Nat.le_of_ble_eq_true rfl) dX0_rankAtWork_21 ⟨Nat.le_refl _, Nat.le_refl _⟩ (fun ip z_3 pr_3 w_3 v_3 q_3 u_3 H locs hp_3 hI => ?_)
          obtain ⟨hpv, rfl, rfl, rfl, rfl, rfl, rfl⟩ := hp_3
          have hb9 : -1 ≤ ip ∧ ip < 4 := by rcases hpv with ⟨h, _⟩ | ⟨i, h, _, _, _⟩ <;> omega
          refine lv_istore (lv' := [(5, .int (iI ip)), (0, .ref (a 0)), (1, .int (iI (x1 : Int))), (2, .int (iI (x2 : Int))), (3, .int (iI (r0 : Int))), (4, .int (iI (c0 : Int)))]) hx hb dX0_rankAtWork_24 hl (by decide) rfl (fun ls hl => ?_)
          refine lv_iload hx hb dX0_rankAtWork_26 (lv_at hl 0 rfl) ?_
          refine z_if_lt hx hb 49 dX0_rankAtWork_28 (by decide) (by omega) (fun c_4 => ?_) (fun c_4 => ?_)
          · refine lv_iinc (v := iI ((c0 + 1 : Nat) : Int)) (lv' := [(4, .int (iI ((c0 + 1 : Nat) : Int))), (5, .int (iI ip)), (0, .ref (a 0)), (1, .int (iI (x1 : Int))), (2, .int (iI (x2 : Int))), (3, .int (iI (r0 : Int)))]) hx hb dX0_rankAtWork_49 hl (k := 5) rfl (iI_inc1 _) (by decide) rfl (fun ls hl => ?_)
            refine lv_goto (tgt := 5) hx hb dX0_rankAtWork_52 (by decide) ?_
            exact ih_5 (c0 + 1) r0 g (by omega) (by omega) (eln_no hE (fun j q1 q2 => by rcases hpv with ⟨_, h⟩ | ⟨j2, h, _, _, _⟩; exact h j q1 q2; omega)) _ _ hI ls (lv_sub hl [2, 3, 4, 5, 0] rfl)
          · obtain ⟨i, rfl, hi1, hi2, hi3⟩ : ∃ i : Nat, ip = (i : Int) ∧ r0 ≤ i ∧ i < x1 ∧ g (i * 5 + c0) ≠ 0 := by
              rcases hpv with ⟨h, _⟩ | h
              · omega
              · exact h
            refine lv_aload_n hx hb dX0_rankAtWork_31 rfl (lv_at hl 1 rfl) ?_
            refine lv_iload hx hb dX0_rankAtWork_32 (lv_at hl 0 rfl) ?_
            refine lv_iload_n hx hb dX0_rankAtWork_34 rfl (lv_at hl 4 rfl) ?_
            refine c0_v (As := [.int (iI (i : Int)), .int (iI (r0 : Int))]) C hA hI (met0_exchange l i r0 z pr g v q u (by omega)) (cw0_exchange C.2.2.2.2 ⟨Nat.le_of_ble_eq_true rfl, Nat.le_of_ble_eq_true rfl⟩) rfl hl.1 rfl (Nat.le_of_ble_eq_true rfl) dX0_rankAtWork_35 ⟨Nat.le_refl _, Nat.le_refl _⟩ (fun z_5 pr_5 w_5 v_5 q_5 u_5 H locs hp_5 hI => ?_)
            obtain ⟨rfl, rfl, rfl, rfl, rfl, rfl⟩ := hp_5
            refine lv_aload_n hx hb dX0_rankAtWork_38 rfl (lv_at hl 1 rfl) ?_
            refine lv_iload_n hx hb dX0_rankAtWork_39 rfl (lv_at hl 4 rfl) ?_
            refine lv_iload_n hx hb dX0_rankAtWork_40 rfl (lv_at hl 2 rfl) ?_
            refine lv_iload hx hb dX0_rankAtWork_41 (lv_at hl 5 rfl) ?_
            refine c0_v (As := [.int (iI (r0 : Int)), .int (iI (x1 : Int)), .int (iI (c0 : Int))]) C hA hI (met0_clearBelow l r0 x1 c0 z pr (exch g i r0 5) v q u hp (by omega) (exch_in (by omega) hE.1)) (cw0_clearBelow C.2.2.2.2 ⟨Nat.le_of_ble_eq_true rfl, Nat.le_of_ble_eq_true rfl⟩) rfl hl.1 rfl (Nat.le_of_ble_eq_true rfl) dX0_rankAtWork_43 ⟨Nat.le_refl _, Nat.le_refl _⟩ (fun z_6 pr_6 w_6 v_6 q_6 u_6 H locs hp_6 hI => ?_)
            obtain ⟨⟨un, hun, rfl⟩, rfl, rfl, rfl, rfl, rfl⟩ := hp_6
            have hpiv : exch g i r0 5 (r0 * 5 + c0) ≠ 0 := by
              have e : row (exch g i r0 5) r0 c0 = row g i c0 := row_exch_k (by omega)
              have e2 : exch g i r0 5 (r0 * 5 + c0) = g (i * 5 + c0) := e
              rw [e2]
              exact hi3
            refine lv_iinc (v := iI ((r0 + 1 : Nat) : Int)) (lv' := [(3, .int (iI ((r0 + 1 : Nat) : Int))), (5, .int (iI (i : Int))), (0, .ref (a 0)), (1, .int (iI (x1 : Int))), (2, .int (iI (x2 : Int))), (4, .int (iI (c0 : Int)))]) hx hb dX0_rankAtWork_46 hl (k := 4) rfl (iI_inc1 _) (by decide) rfl (fun ls hl => ?_)
            refine lv_iinc (v := iI ((c0 + 1 : Nat) : Int)) (lv' := [(4, .int (iI ((c0 + 1 : Nat) : Int))), (3, .int (iI ((r0 + 1 : Nat) : Int))), (5, .int (iI (i : Int))), (0, .ref (a 0)), (1, .int (iI (x1 : Int))), (2, .int (iI (x2 : Int)))]) hx hb dX0_rankAtWork_49 hl (k := 5) rfl (iI_inc1 _) (by decide) rfl (fun ls hl => ?_)
            refine lv_goto (tgt := 5) hx hb dX0_rankAtWork_52 (by decide) ?_
            exact ih_5 (c0 + 1) (r0 + 1) (clr pr (exch g i r0 5) un r0 c0 x1 0) (by omega) (by omega) (eln_yes hp0.1 (by omega) (by omega) (by omega) hi1 hi2 hE (hun hpiv)) _ _ hI ls (lv_sub hl [3, 4, 5, 1, 0] rfl)
  exact lp_5 (x2 + 1) 0 0 w (by omega) (by omega) (eln_0 hw) _ _ hI ls (lv_sub hl [2, 3, 4, 1, 0] rfl)
abbrev ps0_keepRows (x1 : Nat) (z : Nat → Int) (pr : Int) (w : Nat → Int) (v : Nat → Int) (q : Nat → Int) (u : Nat → Int) : Int → (Nat → Int) → Int → (Nat → Int) → (Nat → Int) → (Nat → Int) → (Nat → Int) → Prop := fun r z1 pr1 w1 v1 q1 u1 => ((onk x1 4 : Nat) : Int) = r ∧ (∀ k, k < 20 → 0 ≤ w1 k ∧ w1 k < pr) ∧ Kp w w1 x1 4 (onk x1 4) ∧ z = z1 ∧ pr = pr1 ∧ v = v1 ∧ q = q1 ∧ u = u1
set_option maxHeartbeats 4000000 in
set_option maxRecDepth 100000 in
theorem met0_keepRows (l : Launch) (x1 : Nat) (z : Nat → Int) (pr : Int) (w : Nat → Int) (v : Nat → Int) (q : Nat → Int) (u : Nat → Int) (h1 : x1 < 16) (hw : ∀ k, k < 20 → 0 ≤ w k ∧ w k < pr) : M0i l yX0_keepRows cX0_keepRows 4 (some .int) rm0_keepRows [.int (iI (x1 : Int))] z pr w v q u (ps0_keepRows x1 z pr w v q u) := by
  refine M0i.of (by decide) rfl (fun _ => Nat.le_of_ble_eq_true rfl) ?_
  intro p e s m args below meth c D a ca A ls C hr hlocks hA hl hI
  have hx := C.1
  have hb := C.2.1
  have hl : lv_has ls 4 [(0, .ref (a 0)), (1, .int (iI (x1 : Int)))] := hl
  refine z_iconst hx hb dX0_keepRows_0 ?_
  refine lv_istore_n (lv' := [(2, .int (iI 0)), (0, .ref (a 0)), (1, .int (iI (x1 : Int)))]) hx hb dX0_keepRows_1 rfl hl (by decide) rfl (fun ls hl => ?_)
  refine z_iconst hx hb dX0_keepRows_2 ?_
  refine lv_istore_n (lv' := [(3, .int (iI 0)), (2, .int (iI 0)), (0, .ref (a 0)), (1, .int (iI (x1 : Int)))]) hx hb dX0_keepRows_3 rfl hl (by decide) rfl (fun ls hl => ?_)
  have lp_4 : ∀ (n_4 : Nat) (i : Nat) (n : Nat) (g : Nat → Int), (hf_4 : 4 < i + n_4) → (hi : i ≤ 4 ∧ n ≤ i) → (hn : onk x1 i = n) → (hg : ∀ k, k < 20 → 0 ≤ g k ∧ g k < pr) → (hK : Kp w g x1 i n) → ∀ (H : Heap) (locs : List Loc), I0 D A s a ca z pr g v q u H locs → ∀ (ls : Array Slot), lv_has ls 4 [(0, .ref (a 0)), (1, .int (iI (x1 : Int))), (2, .int (iI (n : Int))), (3, .int (iI (i : Int)))] → W p l e rm0_keepRows s m args below meth c H locs 0 0 (E0i D a ca A (ps0_keepRows x1 z pr w v q u) below args s) (F0 m 4 ls []) := by
    intro n_4
    induction n_4 with
    | zero =>
      intro i n g hf_4 hi hn hg hK H locs hI ls hl
      exfalso; omega
    | succ n_4 ih_4 =>
      intro i n g hf_4 hi hn hg hK H locs hI ls hl
      refine lv_iload_n hx hb dX0_keepRows_4 rfl (lv_at hl 3 rfl) ?_
      refine z_iconst hx hb dX0_keepRows_5 ?_
      refine z_icmp_ge hx hb 32 dX0_keepRows_6 (by decide) (by omega) (by omega) (fun c_1 => ?_) (fun c_1 => ?_)
      · refine lv_iload_n hx hb dX0_keepRows_32 rfl (lv_at hl 2 rfl) ?_
        have hi4 : i = 4 := by omega
        subst hi4
        subst hn
        exact r0_i C hr hlocks hI (⟨rfl, hg, hK, rfl, rfl, rfl, rfl, rfl⟩) dX0_keepRows_33
      · refine lv_iload_n hx hb dX0_keepRows_9 rfl (lv_at hl 1 rfl) ?_
        refine lv_iload_n hx hb dX0_keepRows_10 rfl (lv_at hl 3 rfl) ?_
        refine z_ishrN hx hb x1 i dX0_keepRows_11 (by omega) (by omega) (by omega) ?_
        refine z_iconst hx hb dX0_keepRows_12 ?_
        refine z_iand hx hb ((x1 / 2 ^ i % 2 : Nat) : Int) dX0_keepRows_13 (iI_and1 (Nat.lt_of_le_of_lt (Nat.div_le_self _ _) (by omega))) ?_
        refine z_if_eq hx hb 26 dX0_keepRows_14 (by decide) (by omega) (fun c_2 => ?_) (fun c_2 => ?_)
        · refine lv_iinc (v := iI ((i + 1 : Nat) : Int)) (lv' := [(3, .int (iI ((i + 1 : Nat) : Int))), (0, .ref (a 0)), (1, .int (iI (x1 : Int))), (2, .int (iI (n : Int)))]) hx hb dX0_keepRows_26 hl (k := 3) rfl (iI_inc1 _) (by decide) rfl (fun ls hl => ?_)
          refine lv_goto (tgt := 4) hx hb dX0_keepRows_29 (by decide) ?_
          exact ih_4 (i + 1) n g (by omega) (by omega) ((onk_n (by omega)).trans hn) hg (kp_no hK (by omega)) _ _ hI ls (lv_sub hl [1, 2, 3, 0] rfl)
        · refine lv_aload_n hx hb dX0_keepRows_17 rfl (lv_at hl 0 rfl) ?_
          refine lv_iload_n hx hb dX0_keepRows_18 rfl (lv_at hl 3 rfl) ?_
          refine lv_iload_n hx hb dX0_keepRows_19 rfl (lv_at hl 2 rfl) ?_
          refine c0_v (As := [.int (iI (i : Int)), .int (iI (n : Int))]) C hA hI (met0_exchange l i n z pr g v q u (by omega)) (cw0_exchange C.2.2.2.2 ⟨Nat.le_of_ble_eq_true rfl, Nat.le_of_ble_eq_true rfl⟩) rfl hl.1 rfl (Nat.le_of_ble_eq_true rfl) dX0_keepRows_20 ⟨Nat.le_refl _, Nat.le_refl _⟩ (fun z_3 pr_3 w_3 v_3 q_3 u_3 H locs hp_3 hI => ?_)
          obtain ⟨rfl, rfl, rfl, rfl, rfl, rfl⟩ := hp_3
          refine lv_iinc (v := iI ((n + 1 : Nat) : Int)) (lv' := [(2, .int (iI ((n + 1 : Nat) : Int))), (0, .ref (a 0)), (1, .int (iI (x1 : Int))), (3, .int (iI (i : Int)))]) hx hb dX0_keepRows_23 hl (k := 2) rfl (iI_inc1 _) (by decide) rfl (fun ls hl => ?_)
          refine lv_iinc (v := iI ((i + 1 : Nat) : Int)) (lv' := [(3, .int (iI ((i + 1 : Nat) : Int))), (2, .int (iI ((n + 1 : Nat) : Int))), (0, .ref (a 0)), (1, .int (iI (x1 : Int)))]) hx hb dX0_keepRows_26 hl (k := 3) rfl (iI_inc1 _) (by decide) rfl (fun ls hl => ?_)
          refine lv_goto (tgt := 4) hx hb dX0_keepRows_29 (by decide) ?_
          exact ih_4 (i + 1) (n + 1) (exch g i n 5) (by omega) (by omega) (by rw [onk_y (by omega), hn]) (exch_in (by omega) hg) (kp_yes hK (by omega)) _ _ hI ls (lv_sub hl [2, 3, 1, 0] rfl)
  exact lp_4 5 0 0 w (by omega) (by omega) rfl hw (kp_0 w x1) _ _ hI ls (lv_sub hl [2, 3, 1, 0] rfl)
abbrev ps0_rankIn (x1 : Nat) (x2 : Nat) (z : Nat → Int) (pr : Int) (w : Nat → Int) (v : Nat → Int) (q : Nat → Int) (u : Nat → Int) : Int → (Nat → Int) → Int → (Nat → Int) → (Nat → Int) → (Nat → Int) → (Nat → Int) → Prop := fun r z1 pr1 w1 v1 q1 u1 => (∃ k : Nat, (k : Int) = r ∧ isRank 0 x2 (Rs z x1) k) ∧ z = z1
set_option maxHeartbeats 4000000 in
set_option maxRecDepth 100000 in
theorem met0_rankIn (l : Launch) (x1 : Nat) (x2 : Nat) (z : Nat → Int) (pr : Int) (w : Nat → Int) (v : Nat → Int) (q : Nat → Int) (u : Nat → Int) (h1 : x1 < 16 ∧ x2 ≤ 5) (hz : ∀ k, k < 20 → -50 ≤ z k ∧ z k ≤ 50) : M0i l yX0_rankIn cX0_rankIn 6 (some .int) rm0_rankIn [.int (iI (x1 : Int)), .int (iI (x2 : Int))] z pr w v q u (ps0_rankIn x1 x2 z pr w v q u) := by
  refine M0i.of (by decide) rfl (fun _ => Nat.le_of_ble_eq_true rfl) ?_
  intro p e s m args below meth c D a ca A ls C hr hlocks hA hl hI
  have hx := C.1
  have hb := C.2.1
  have hl : lv_has ls 6 [(0, .ref (a 0)), (1, .int (iI (x1 : Int))), (2, .int (iI (x2 : Int)))] := hl
  refine lv_aload_n hx hb dX0_rankIn_0 rfl (lv_at hl 0 rfl) ?_
  refine z_sipush hx hb dX0_rankIn_1 (by decide +kernel) ?_
  refine c0_v (As := [.int (iI 32749)]) C hA hI (met0_load l 32749 z pr w v q u (by omega) hz) (cw0_load C.2.2.2.2 ⟨Nat.le_of_ble_eq_true rfl, Nat.le_of_ble_eq_true rfl⟩) rfl hl.1 rfl (Nat.le_of_ble_eq_true rfl) dX0_rankIn_4 ⟨Nat.le_refl _, Nat.le_refl _⟩ (fun z_1 pr_1 w_1 v_1 q_1 u_1 H locs hp_1 hI => ?_)
  obtain ⟨rfl, rfl, rfl, rfl, rfl, rfl⟩ := hp_1
  refine lv_aload_n hx hb dX0_rankIn_7 rfl (lv_at hl 0 rfl) ?_
  refine lv_iload_n hx hb dX0_rankIn_8 rfl (lv_at hl 1 rfl) ?_
  refine c0_i (As := [.int (iI (x1 : Int))]) C hA hI (met0_keepRows l x1 z 32749 (fun k => z k % 32749) v q u h1.1 (fun k _ => em_in (by omega))) (cw0_keepRows C.2.2.2.2 ⟨Nat.le_of_ble_eq_true rfl, Nat.le_of_ble_eq_true rfl⟩) rfl hl.1 rfl (Nat.le_of_ble_eq_true rfl) dX0_rankIn_9 ⟨Nat.le_refl _, Nat.le_refl _⟩ (fun r_2 z_2 pr_2 w_2 v_2 q_2 u_2 H locs hp_2 hI => ?_)
  obtain ⟨rfl, hg1, hK1, rfl, rfl, rfl, rfl, rfl⟩ := hp_2
  have ho4 := onk_le x1 4
  refine lv_istore_n (lv' := [(3, .int (iI ((onk x1 4 : Nat) : Int))), (0, .ref (a 0)), (1, .int (iI (x1 : Int))), (2, .int (iI (x2 : Int)))]) hx hb dX0_rankIn_12 rfl hl (by decide) rfl (fun ls hl => ?_)
  refine lv_aload_n hx hb dX0_rankIn_13 rfl (lv_at hl 1 rfl) ?_
  refine lv_iload_n hx hb dX0_rankIn_14 rfl (lv_at hl 0 rfl) ?_
  refine lv_iload_n hx hb dX0_rankIn_15 rfl (lv_at hl 3 rfl) ?_
  refine c0_i (As := [.int (iI ((onk x1 4 : Nat) : Int)), .int (iI (x2 : Int))]) C hA hI (met0_rankAtWork l (onk x1 4) x2 z 32749 w_2 v q u (by omega) (by omega) hg1) (cw0_rankAtWork C.2.2.2.2 ⟨Nat.le_of_ble_eq_true rfl, Nat.le_of_ble_eq_true rfl⟩) rfl hl.1 rfl (Nat.le_of_ble_eq_true rfl) dX0_rankIn_16 ⟨Nat.le_refl _, Nat.le_refl _⟩ (fun f1 z_3 pr_3 w_3 v_3 q_3 u_3 H locs hp_3 hI => ?_)
  obtain ⟨⟨k1, rfl, hR1⟩, rfl, rfl, rfl, rfl, rfl⟩ := hp_3
  have hr1 := hR1.1
  have hR1 := rk_kept (z := z) h1.2 hK1 hR1
  refine lv_istore (lv' := [(4, .int (iI (k1 : Int))), (3, .int (iI ((onk x1 4 : Nat) : Int))), (0, .ref (a 0)), (1, .int (iI (x1 : Int))), (2, .int (iI (x2 : Int)))]) hx hb dX0_rankIn_19 hl (by decide) rfl (fun ls hl => ?_)
  refine lv_aload_n hx hb dX0_rankIn_21 rfl (lv_at hl 2 rfl) ?_
  refine z_sipush hx hb dX0_rankIn_22 (by decide +kernel) ?_
  refine c0_v (As := [.int (iI 32719)]) C hA hI (met0_load l 32719 z 32749 w_3 v q u (by omega) hz) (cw0_load C.2.2.2.2 ⟨Nat.le_of_ble_eq_true rfl, Nat.le_of_ble_eq_true rfl⟩) rfl hl.1 rfl (Nat.le_of_ble_eq_true rfl) dX0_rankIn_25 ⟨Nat.le_refl _, Nat.le_refl _⟩ (fun z_4 pr_4 w_4 v_4 q_4 u_4 H locs hp_4 hI => ?_)
  obtain ⟨rfl, rfl, rfl, rfl, rfl, rfl⟩ := hp_4
  refine lv_aload_n hx hb dX0_rankIn_28 rfl (lv_at hl 2 rfl) ?_
  refine lv_iload_n hx hb dX0_rankIn_29 rfl (lv_at hl 3 rfl) ?_
  refine c0_i (As := [.int (iI (x1 : Int))]) C hA hI (met0_keepRows l x1 z 32719 (fun k => z k % 32719) v q u h1.1 (fun k _ => em_in (by omega))) (cw0_keepRows C.2.2.2.2 ⟨Nat.le_of_ble_eq_true rfl, Nat.le_of_ble_eq_true rfl⟩) rfl hl.1 rfl (Nat.le_of_ble_eq_true rfl) dX0_rankIn_30 ⟨Nat.le_refl _, Nat.le_refl _⟩ (fun r_5 z_5 pr_5 w_5 v_5 q_5 u_5 H locs hp_5 hI => ?_)
  obtain ⟨rfl, hg2, hK2, rfl, rfl, rfl, rfl, rfl⟩ := hp_5
  have ho4 := onk_le x1 4
  refine lv_pop hx hb dX0_rankIn_33 rfl ?_
  refine lv_aload_n hx hb dX0_rankIn_34 rfl (lv_at hl 2 rfl) ?_
  refine lv_iload_n hx hb dX0_rankIn_35 rfl (lv_at hl 1 rfl) ?_
  refine lv_iload_n hx hb dX0_rankIn_36 rfl (lv_at hl 4 rfl) ?_
  refine c0_i (As := [.int (iI ((onk x1 4 : Nat) : Int)), .int (iI (x2 : Int))]) C hA hI (met0_rankAtWork l (onk x1 4) x2 z 32719 w_5 v q u (by omega) (by omega) hg2) (cw0_rankAtWork C.2.2.2.2 ⟨Nat.le_of_ble_eq_true rfl, Nat.le_of_ble_eq_true rfl⟩) rfl hl.1 rfl (Nat.le_of_ble_eq_true rfl) dX0_rankIn_37 ⟨Nat.le_refl _, Nat.le_refl _⟩ (fun f2 z_6 pr_6 w_6 v_6 q_6 u_6 H locs hp_6 hI => ?_)
  obtain ⟨⟨k2, rfl, hR2⟩, rfl, rfl, rfl, rfl, rfl⟩ := hp_6
  have hr2 := hR2.1
  have hR2 := rk_kept (z := z) h1.2 hK2 hR2
  refine lv_istore (lv' := [(5, .int (iI (k2 : Int))), (4, .int (iI (k1 : Int))), (3, .int (iI ((onk x1 4 : Nat) : Int))), (0, .ref (a 0)), (1, .int (iI (x1 : Int))), (2, .int (iI (x2 : Int)))]) hx hb dX0_rankIn_40 hl (by decide) rfl (fun ls hl => ?_)
  refine lv_iload hx hb dX0_rankIn_42 (lv_at hl 1 rfl) ?_
  refine lv_iload hx hb dX0_rankIn_44 (lv_at hl 0 rfl) ?_
  refine z_icmp_le hx hb 54 dX0_rankIn_46 (by decide) (by omega) (by omega) (fun c_7 => ?_) (fun c_7 => ?_)
  · refine lv_iload hx hb dX0_rankIn_54 (lv_at hl 0 rfl) ?_
    exact r0_i C hr hlocks hI (⟨⟨k2, rfl, rk_max hz h1.2 hR1 hR2 (by omega)⟩, rfl⟩) dX0_rankIn_56
  · refine lv_iload hx hb dX0_rankIn_49 (lv_at hl 1 rfl) ?_
    refine lv_goto (tgt := 56) hx hb dX0_rankIn_51 (by decide) ?_
    exact r0_i C hr hlocks hI (⟨⟨k1, rfl, rk_max hz h1.2 hR1 hR2 (by omega)⟩, rfl⟩) dX0_rankIn_56
abbrev ps0_rank  (z : Nat → Int) (pr : Int) (w : Nat → Int) (v : Nat → Int) (q : Nat → Int) (u : Nat → Int) : Int → (Nat → Int) → Int → (Nat → Int) → (Nat → Int) → (Nat → Int) → (Nat → Int) → Prop := fun r z1 pr1 w1 v1 q1 u1 => (∃ k : Nat, (k : Int) = r ∧ isRank 0 4 (Rs z 15) k) ∧ z = z1
set_option maxHeartbeats 4000000 in
set_option maxRecDepth 100000 in
theorem met0_rank (l : Launch) (z : Nat → Int) (pr : Int) (w : Nat → Int) (v : Nat → Int) (q : Nat → Int) (u : Nat → Int) (hz : ∀ k, k < 20 → -50 ≤ z k ∧ z k ≤ 50) : M0i l yX0_rank cX0_rank 1 (some .int) rm0_rank [] z pr w v q u (ps0_rank z pr w v q u) := by
  refine M0i.of (by decide) rfl (fun _ => Nat.le_of_ble_eq_true rfl) ?_
  intro p e s m args below meth c D a ca A ls C hr hlocks hA hl hI
  have hx := C.1
  have hb := C.2.1
  have hl : lv_has ls 1 [(0, .ref (a 0))] := hl
  refine lv_aload_n hx hb dX0_rank_0 rfl (lv_at hl 0 rfl) ?_
  refine z_bipush hx hb dX0_rank_1 (by decide +kernel) ?_
  refine z_iconst hx hb dX0_rank_3 ?_
  refine c0_i (As := [.int (iI 15), .int (iI 4)]) C hA hI (met0_rankIn l 15 4 z pr w v q u (by decide) hz) (cw0_rankIn C.2.2.2.2 ⟨Nat.le_of_ble_eq_true rfl, Nat.le_of_ble_eq_true rfl⟩) rfl hl.1 rfl (Nat.le_of_ble_eq_true rfl) dX0_rank_4 ⟨Nat.le_refl _, Nat.le_refl _⟩ (fun rr z_1 pr_1 w_1 v_1 q_1 u_1 H locs hp_1 hI => ?_)
  obtain ⟨⟨k, hk, hR⟩, rfl⟩ := hp_1
  exact r0_i C hr hlocks hI (⟨⟨k, hk, hR⟩, rfl⟩) dX0_rank_7
abbrev ps0_wideRank  (z : Nat → Int) (pr : Int) (w : Nat → Int) (v : Nat → Int) (q : Nat → Int) (u : Nat → Int) : Int → (Nat → Int) → Int → (Nat → Int) → (Nat → Int) → (Nat → Int) → (Nat → Int) → Prop := fun r z1 pr1 w1 v1 q1 u1 => (∃ k : Nat, (k : Int) = r ∧ isRank 0 5 (Rs z 15) k) ∧ z = z1
set_option maxHeartbeats 4000000 in
set_option maxRecDepth 100000 in
theorem met0_wideRank (l : Launch) (z : Nat → Int) (pr : Int) (w : Nat → Int) (v : Nat → Int) (q : Nat → Int) (u : Nat → Int) (hz : ∀ k, k < 20 → -50 ≤ z k ∧ z k ≤ 50) : M0i l yX0_wideRank cX0_wideRank 1 (some .int) rm0_wideRank [] z pr w v q u (ps0_wideRank z pr w v q u) := by
  refine M0i.of (by decide) rfl (fun _ => Nat.le_of_ble_eq_true rfl) ?_
  intro p e s m args below meth c D a ca A ls C hr hlocks hA hl hI
  have hx := C.1
  have hb := C.2.1
  have hl : lv_has ls 1 [(0, .ref (a 0))] := hl
  refine lv_aload_n hx hb dX0_wideRank_0 rfl (lv_at hl 0 rfl) ?_
  refine z_bipush hx hb dX0_wideRank_1 (by decide +kernel) ?_
  refine z_iconst hx hb dX0_wideRank_3 ?_
  refine c0_i (As := [.int (iI 15), .int (iI 5)]) C hA hI (met0_rankIn l 15 5 z pr w v q u (by decide) hz) (cw0_rankIn C.2.2.2.2 ⟨Nat.le_of_ble_eq_true rfl, Nat.le_of_ble_eq_true rfl⟩) rfl hl.1 rfl (Nat.le_of_ble_eq_true rfl) dX0_wideRank_4 ⟨Nat.le_refl _, Nat.le_refl _⟩ (fun rr z_1 pr_1 w_1 v_1 q_1 u_1 H locs hp_1 hI => ?_)
  obtain ⟨⟨k, hk, hR⟩, rfl⟩ := hp_1
  exact r0_i C hr hlocks hI (⟨⟨k, hk, hR⟩, rfl⟩) dX0_wideRank_7
abbrev ps0_rankOf (i : Int) (z : Nat → Int) (pr : Int) (w : Nat → Int) (v : Nat → Int) (q : Nat → Int) (u : Nat → Int) : Int → (Nat → Int) → Int → (Nat → Int) → (Nat → Int) → (Nat → Int) → (Nat → Int) → Prop := fun r z1 pr1 w1 v1 q1 u1 => rl_rank z i r ∧ z = z1
set_option maxHeartbeats 4000000 in
set_option maxRecDepth 100000 in
theorem met0_rankOf (l : Launch) (i : Int) (z : Nat → Int) (pr : Int) (w : Nat → Int) (v : Nat → Int) (q : Nat → Int) (u : Nat → Int) (hi : -2147483648 ≤ i ∧ i < 2147483648) (hz : ∀ k, k < 20 → -50 ≤ z k ∧ z k ≤ 50) : M0i l yX0_rankOf cX0_rankOf 2 (some .int) rm0_rankOf [.int (iI i)] z pr w v q u (ps0_rankOf i z pr w v q u) := by
  refine M0i.of (by decide) rfl (fun _ => Nat.le_of_ble_eq_true rfl) ?_
  intro p e s m args below meth c D a ca A ls C hr hlocks hA hl hI
  have hx := C.1
  have hb := C.2.1
  have hl : lv_has ls 2 [(0, .ref (a 0)), (1, .int (iI i))] := hl
  refine lv_iload_n hx hb dX0_rankOf_0 rfl (lv_at hl 1 rfl) ?_
  refine z_if_lt hx hb 10 dX0_rankOf_1 (by decide) (by omega) (fun c_1 => ?_) (fun c_1 => ?_)
  · refine z_ldc hx hb (-1000000000) C.2.2.2.1 (C.2.2.2.2 _ q72) (by decide +kernel) dX0_rankOf_10 ?_
    refine lv_goto (tgt := 21) hx hb dX0_rankOf_12 (by decide) ?_
    exact r0_i C hr hlocks hI (⟨Or.inr ⟨by omega, rfl⟩, rfl⟩) dX0_rankOf_21
  · refine lv_iload_n hx hb dX0_rankOf_4 rfl (lv_at hl 1 rfl) ?_
    refine z_bipush hx hb dX0_rankOf_5 (by decide +kernel) ?_
    refine z_icmp_le hx hb 15 dX0_rankOf_7 (by decide) (by omega) (by omega) (fun c_2 => ?_) (fun c_2 => ?_)
    · obtain ⟨n1, rfl⟩ := Int.eq_ofNat_of_zero_le (show 0 ≤ i by omega)
      refine lv_aload_n hx hb dX0_rankOf_15 rfl (lv_at hl 0 rfl) ?_
      refine lv_iload_n hx hb dX0_rankOf_16 rfl (lv_at hl 1 rfl) ?_
      refine z_iconst hx hb dX0_rankOf_17 ?_
      refine c0_i (As := [.int (iI (n1 : Int)), .int (iI 4)]) C hA hI (met0_rankIn l n1 4 z pr w v q u (by omega) hz) (cw0_rankIn C.2.2.2.2 ⟨Nat.le_of_ble_eq_true rfl, Nat.le_of_ble_eq_true rfl⟩) rfl hl.1 rfl (Nat.le_of_ble_eq_true rfl) dX0_rankOf_18 ⟨Nat.le_refl _, Nat.le_refl _⟩ (fun rr z_3 pr_3 w_3 v_3 q_3 u_3 H locs hp_3 hI => ?_)
      obtain ⟨⟨k, hk, hR⟩, rfl⟩ := hp_3
      exact r0_i C hr hlocks hI (⟨Or.inl ⟨by omega, by omega, k, hk, by rw [Int.toNat_natCast]; exact hR⟩, rfl⟩) dX0_rankOf_21
    · refine z_ldc hx hb (-1000000000) C.2.2.2.1 (C.2.2.2.2 _ q72) (by decide +kernel) dX0_rankOf_10 ?_
      refine lv_goto (tgt := 21) hx hb dX0_rankOf_12 (by decide) ?_
      exact r0_i C hr hlocks hI (⟨Or.inr ⟨by omega, rfl⟩, rfl⟩) dX0_rankOf_21
end
section
set_option maxRecDepth 100000
theorem iI_dec {a b : Int} (h : a - 1 = b) : iI a + Int32.ofInt (-1) = iI b := by
  have e : iI a + iI (-1) = iI (a + -1) := iI_add a (-1)
  rw [show a + -1 = b by omega] at e
  exact e
/-- the product, times x - d -/
def npf (p : Int) (d : Nat) (q : Nat → Int) : Nat → Int := fun j => ((if j = 0 then 0 else q (j - 1)) - (d : Int) * q j % p) % p
theorem npf_0 {p : Int} {d : Nat} {q : Nat → Int} : npf p d q 0 = (0 - (d : Int) * q 0 % p) % p := rfl
theorem npf_s {p : Int} {d n : Nat} {q : Nat → Int} (h : n ≠ 0) : npf p d q n = (q (n - 1) - (d : Int) * q n % p) % p := by
  unfold npf
  rw [if_neg h]
theorem npf_in {p : Int} (hp : 0 < p) (d : Nat) (q : Nat → Int) : ∀ j, j < 5 → 0 ≤ npf p d q j ∧ npf p d q j < p := fun _ _ => em_in hp
theorem npf_cg {p : Int} {d : Nat} {q : Nat → Int} (h : ∀ j, j < 5 → cg p (q j) (sc d j)) : ∀ j, j < 5 → cg p (npf p d q j) (sc (d + 1) j) := by
  intro j hj
  show cg p _ ((if j = 0 then 0 else sc d (j - 1)) - (d : Int) * sc d j)
  by_cases q0 : j = 0
  · subst q0
    rw [npf_0, if_pos rfl]
    exact (cg.em p _).tr ((cg.rf p 0).sb ((cg.em p _).tr ((cg.rf p (d : Int)).ml (h 0 hj))))
  · rw [npf_s q0, if_neg q0]
    exact (cg.em p _).tr ((h (j - 1) (by omega)).sb ((cg.em p _).tr ((cg.rf p (d : Int)).ml (h j hj))))
abbrev ps0_nextProduct (x1 : Nat) (z : Nat → Int) (pr : Int) (w : Nat → Int) (v : Nat → Int) (q : Nat → Int) (u : Nat → Int) : (Nat → Int) → Int → (Nat → Int) → (Nat → Int) → (Nat → Int) → (Nat → Int) → Prop := fun z1 pr1 w1 v1 q1 u1 => npf pr x1 q = q1 ∧ z = z1 ∧ pr = pr1 ∧ w = w1 ∧ v = v1
set_option maxHeartbeats 4000000 in
set_option maxRecDepth 100000 in
theorem met0_nextProduct (l : Launch) (x1 : Nat) (z : Nat → Int) (pr : Int) (w : Nat → Int) (v : Nat → Int) (q : Nat → Int) (u : Nat → Int) (hp : pr = 32749 ∨ pr = 32719) (h1 : x1 ≤ 4) (hq : ∀ j, j < 5 → 0 ≤ q j ∧ q j < pr) : M0v l yX0_nextProduct cX0_nextProduct 5 none rm0_nextProduct [.int (iI (x1 : Int))] z pr w v q u (ps0_nextProduct x1 z pr w v q u) := by
  refine M0v.of (by decide) rfl (fun _ => Nat.le_of_ble_eq_true rfl) ?_
  intro p e s m args below meth c D a ca A ls C hr hlocks hA hl hI
  have hx := C.1
  have hb := C.2.1
  have hl : lv_has ls 5 [(0, .ref (a 0)), (1, .int (iI (x1 : Int)))] := hl
  have hp0 : 0 < pr ∧ pr ≤ 32749 := by omega
  refine z_iconst hx hb dX0_nextProduct_0 ?_
  refine z_rei (z := ((5 : Nat) : Int) - 1) (by decide) ?_
  refine lv_istore_n (lv' := [(2, .int (iI (((5 : Nat) : Int) - 1))), (0, .ref (a 0)), (1, .int (iI (x1 : Int)))]) hx hb dX0_nextProduct_1 rfl hl (by decide) rfl (fun ls hl => ?_)
  have lp_2 : ∀ (n_2 : Nat) (n : Nat) (uu : Nat → Int), (hf_2 : n < n_2) → (hn : n ≤ 5) → (hu2 : ∀ j, n ≤ j → j < 5 → uu j = npf pr x1 q j) → ∀ (H : Heap) (locs : List Loc), I0 D A s a ca z pr w v q uu H locs → ∀ (ls : Array Slot), lv_has ls 5 [(0, .ref (a 0)), (1, .int (iI (x1 : Int))), (2, .int (iI ((n : Int) - 1)))] → W p l e rm0_nextProduct s m args below meth c H locs 0 0 (E0v D a ca A (ps0_nextProduct x1 z pr w v q u) below args s) (F0 m 2 ls []) := by
    intro n_2
    induction n_2 with
    | zero =>
      intro n uu hf_2 hn hu2 H locs hI ls hl
      exfalso; omega
    | succ n_2 ih_2 =>
      intro n uu hf_2 hn hu2 H locs hI ls hl
      refine lv_iload_n hx hb dX0_nextProduct_2 rfl (lv_at hl 2 rfl) ?_
      refine z_if_lt hx hb 56 dX0_nextProduct_3 (by decide) (by omega) (fun c_1 => ?_) (fun c_1 => ?_)
      · refine z_iconst hx hb dX0_nextProduct_56 ?_
        refine lv_istore_n (lv' := [(2, .int (iI 0)), (0, .ref (a 0)), (1, .int (iI (x1 : Int)))]) hx hb dX0_nextProduct_57 rfl hl (by decide) rfl (fun ls hl => ?_)
        have lp_58 : ∀ (n_58 : Nat) (i : Nat) (qq : Nat → Int), (hf_58 : 5 < i + n_58) → (hi : i ≤ 5) → (hqq : ∀ j, j < i → qq j = npf pr x1 q j) → ∀ (H : Heap) (locs : List Loc), I0 D A s a ca z pr w v qq uu H locs → ∀ (ls : Array Slot), lv_has ls 5 [(0, .ref (a 0)), (1, .int (iI (x1 : Int))), (2, .int (iI (i : Int)))] → W p l e rm0_nextProduct s m args below meth c H locs 0 0 (E0v D a ca A (ps0_nextProduct x1 z pr w v q u) below args s) (F0 m 58 ls []) := by
          intro n_58
          induction n_58 with
          | zero =>
            intro i qq hf_58 hi hqq H locs hI ls hl
            exfalso; omega
          | succ n_58 ih_58 =>
            intro i qq hf_58 hi hqq H locs hI ls hl
            refine lv_iload_n hx hb dX0_nextProduct_58 rfl (lv_at hl 2 rfl) ?_
            refine z_iconst hx hb dX0_nextProduct_59 ?_
            refine z_icmp_gt hx hb 81 dX0_nextProduct_60 (by decide) (by omega) (by omega) (fun c_2 => ?_) (fun c_2 => ?_)
            · have hI := hI.cq (npf pr x1 q) (fun j hj => hqq j (by omega))
              exact r0_v C hr hlocks hI (⟨rfl, rfl, rfl, rfl, rfl⟩) dX0_nextProduct_81
            · refine lv_aload_n hx hb dX0_nextProduct_63 rfl (lv_at hl 0 rfl) ?_
              refine g0_prod C hI dX0_nextProduct_64 ?_
              refine lv_iload_n hx hb dX0_nextProduct_67 rfl (lv_at hl 2 rfl) ?_
              refine lv_aload_n hx hb dX0_nextProduct_68 rfl (lv_at hl 0 rfl) ?_
              refine g0_sum C hI dX0_nextProduct_69 ?_
              refine lv_iload_n hx hb dX0_nextProduct_72 rfl (lv_at hl 2 rfl) ?_
              refine l0_u C hI i (by omega) (by omega) dX0_nextProduct_73 ?_
              refine s0_q C hI i (by omega) (by omega) dX0_nextProduct_74 (fun H locs hI => ?_)
              refine lv_iinc (v := iI ((i + 1 : Nat) : Int)) (lv' := [(2, .int (iI ((i + 1 : Nat) : Int))), (0, .ref (a 0)), (1, .int (iI (x1 : Int)))]) hx hb dX0_nextProduct_75 hl (k := 2) rfl (iI_inc1 _) (by decide) rfl (fun ls hl => ?_)
              refine lv_goto (tgt := 58) hx hb dX0_nextProduct_78 (by decide) ?_
              exact ih_58 (i + 1) (up qq i (uu i)) (by omega) (by omega) (lt_s (fun j hj => by rw [up_n (by omega)]; exact hqq j hj) (by rw [up_s]; exact hu2 i (by omega) (by omega))) _ _ hI ls (lv_sub hl [1, 2, 0] rfl)
        exact lp_58 6 0 q (by omega) (by omega) (fun j hj => absurd hj (Nat.not_lt_zero j)) _ _ hI ls (lv_sub hl [1, 2, 0] rfl)
      · refine lv_iload_n hx hb dX0_nextProduct_6 rfl (lv_at hl 2 rfl) ?_
        refine z_if_le hx hb 21 dX0_nextProduct_7 (by decide) (by omega) (fun c_3 => ?_) (fun c_3 => ?_)
        · refine z_iconst hx hb dX0_nextProduct_21 ?_
          refine lv_istore_n (lv' := [(3, .int (iI 0)), (0, .ref (a 0)), (1, .int (iI (x1 : Int))), (2, .int (iI ((n : Int) - 1)))]) hx hb dX0_nextProduct_22 rfl hl (by decide) rfl (fun ls hl => ?_)
          refine lv_aload_n hx hb dX0_nextProduct_23 rfl (lv_at hl 1 rfl) ?_
          refine lv_iload_n hx hb dX0_nextProduct_24 rfl (lv_at hl 2 rfl) ?_
          refine lv_aload_n hx hb dX0_nextProduct_25 rfl (lv_at hl 1 rfl) ?_
          refine g0_prod C hI dX0_nextProduct_26 ?_
          refine lv_iload_n hx hb dX0_nextProduct_29 rfl (lv_at hl 3 rfl) ?_
          refine l0_q C hI (n - 1) (by omega) (by omega) dX0_nextProduct_30 ?_
          refine c0_i (As := [.int (iI (x1 : Int)), .int (iI (q (n - 1)))]) C hA hI (met0_times l (x1 : Int) (q (n - 1)) z pr w v q uu hp (by omega) (hq _ (by omega))) (cw0_times C.2.2.2.2 ⟨Nat.le_of_ble_eq_true rfl, Nat.le_of_ble_eq_true rfl⟩) rfl hl.1 rfl (Nat.le_of_ble_eq_true rfl) dX0_nextProduct_31 ⟨Nat.le_refl _, Nat.le_refl _⟩ (fun r_4 z_4 pr_4 w_4 v_4 q_4 u_4 H locs hp_4 hI => ?_)
          obtain ⟨rfl, rfl, rfl, rfl, rfl, rfl, rfl⟩ := hp_4
          refine lv_istore (lv' := [(4, .int (iI ((x1 : Int) * q (n - 1) % pr))), (3, .int (iI 0)), (0, .ref (a 0)), (1, .int (iI (x1 : Int))), (2, .int (iI ((n : Int) - 1)))]) hx hb dX0_nextProduct_34 hl (by decide) rfl (fun ls hl => ?_)
          have hls := em_in (y := (x1 : Int) * q (n - 1)) hp0.1
          refine lv_aload_n hx hb dX0_nextProduct_36 rfl (lv_at hl 2 rfl) ?_
          refine g0_sum C hI dX0_nextProduct_37 ?_
          refine lv_iload_n hx hb dX0_nextProduct_40 rfl (lv_at hl 4 rfl) ?_
          refine lv_aload_n hx hb dX0_nextProduct_41 rfl (lv_at hl 2 rfl) ?_
          refine lv_iload_n hx hb dX0_nextProduct_42 rfl (lv_at hl 1 rfl) ?_
          refine lv_iload hx hb dX0_nextProduct_43 (lv_at hl 0 rfl) ?_
          refine z_isub hx hb dX0_nextProduct_45 ?_
          refine c0_i (As := [.int (iI (0 - ((x1 : Int) * q (n - 1) % pr)))]) C hA hI (met0_reduce l (0 - ((x1 : Int) * q (n - 1) % pr)) z pr w v q uu hp (by omega)) (cw0_reduce C.2.2.2.2 ⟨Nat.le_of_ble_eq_true rfl, Nat.le_of_ble_eq_true rfl⟩) rfl hl.1 rfl (Nat.le_of_ble_eq_true rfl) dX0_nextProduct_46 ⟨Nat.le_refl _, Nat.le_refl _⟩ (fun r_5 z_5 pr_5 w_5 v_5 q_5 u_5 H locs hp_5 hI => ?_)
          obtain ⟨rfl, rfl, rfl, rfl, rfl, rfl, rfl⟩ := hp_5
          refine s0_u C hI (n - 1) (by omega) (by omega) dX0_nextProduct_49 (fun H locs hI => ?_)
          refine lv_iinc (v := iI (((n - 1 : Nat) : Int) - 1)) (lv' := [(2, .int (iI (((n - 1 : Nat) : Int) - 1))), (4, .int (iI ((x1 : Int) * q (n - 1) % pr))), (3, .int (iI 0)), (0, .ref (a 0)), (1, .int (iI (x1 : Int)))]) hx hb dX0_nextProduct_50 hl (k := 4) rfl (iI_dec (by omega)) (by decide) rfl (fun ls hl => ?_)
          refine lv_goto (tgt := 2) hx hb dX0_nextProduct_53 (by decide) ?_
          have hu3 : ∀ j, n - 1 ≤ j → j < 5 → up uu (n - 1) ((0 - (x1 : Int) * q (n - 1) % pr) % pr) j = npf pr x1 q j := by
            intro j g1 g2
            by_cases e : j = n - 1
            · subst e
              rw [up_s]
              rw [show n - 1 = 0 by omega]
              rfl
            · rw [up_n e]
              exact hu2 j (by omega) g2
          exact ih_2 (n - 1) (up uu (n - 1) ((0 - (x1 : Int) * q (n - 1) % pr) % pr)) (by omega) (by omega) hu3 _ _ hI ls (lv_sub hl [3, 4, 0] rfl)
        · have hup := hq (n - 2) (by omega)
          refine lv_aload_n hx hb dX0_nextProduct_10 rfl (lv_at hl 0 rfl) ?_
          refine g0_prod C hI dX0_nextProduct_11 ?_
          refine lv_iload_n hx hb dX0_nextProduct_14 rfl (lv_at hl 2 rfl) ?_
          refine z_iconst hx hb dX0_nextProduct_15 ?_
          refine z_isub hx hb dX0_nextProduct_16 ?_
          refine l0_q C hI (n - 2) (by omega) (by omega) dX0_nextProduct_17 ?_
          refine lv_goto (tgt := 22) hx hb dX0_nextProduct_18 (by decide) ?_
          refine lv_istore_n (lv' := [(3, .int (iI (q (n - 2)))), (0, .ref (a 0)), (1, .int (iI (x1 : Int))), (2, .int (iI ((n : Int) - 1)))]) hx hb dX0_nextProduct_22 rfl hl (by decide) rfl (fun ls hl => ?_)
          refine lv_aload_n hx hb dX0_nextProduct_23 rfl (lv_at hl 1 rfl) ?_
          refine lv_iload_n hx hb dX0_nextProduct_24 rfl (lv_at hl 2 rfl) ?_
          refine lv_aload_n hx hb dX0_nextProduct_25 rfl (lv_at hl 1 rfl) ?_
          refine g0_prod C hI dX0_nextProduct_26 ?_
          refine lv_iload_n hx hb dX0_nextProduct_29 rfl (lv_at hl 3 rfl) ?_
          refine l0_q C hI (n - 1) (by omega) (by omega) dX0_nextProduct_30 ?_
          refine c0_i (As := [.int (iI (x1 : Int)), .int (iI (q (n - 1)))]) C hA hI (met0_times l (x1 : Int) (q (n - 1)) z pr w v q uu hp (by omega) (hq _ (by omega))) (cw0_times C.2.2.2.2 ⟨Nat.le_of_ble_eq_true rfl, Nat.le_of_ble_eq_true rfl⟩) rfl hl.1 rfl (Nat.le_of_ble_eq_true rfl) dX0_nextProduct_31 ⟨Nat.le_refl _, Nat.le_refl _⟩ (fun r_6 z_6 pr_6 w_6 v_6 q_6 u_6 H locs hp_6 hI => ?_)
          obtain ⟨rfl, rfl, rfl, rfl, rfl, rfl, rfl⟩ := hp_6
          refine lv_istore (lv' := [(4, .int (iI ((x1 : Int) * q (n - 1) % pr))), (3, .int (iI (q (n - 2)))), (0, .ref (a 0)), (1, .int (iI (x1 : Int))), (2, .int (iI ((n : Int) - 1)))]) hx hb dX0_nextProduct_34 hl (by decide) rfl (fun ls hl => ?_)
          have hls := em_in (y := (x1 : Int) * q (n - 1)) hp0.1
          refine lv_aload_n hx hb dX0_nextProduct_36 rfl (lv_at hl 2 rfl) ?_
          refine g0_sum C hI dX0_nextProduct_37 ?_
          refine lv_iload_n hx hb dX0_nextProduct_40 rfl (lv_at hl 4 rfl) ?_
          refine lv_aload_n hx hb dX0_nextProduct_41 rfl (lv_at hl 2 rfl) ?_
          refine lv_iload_n hx hb dX0_nextProduct_42 rfl (lv_at hl 1 rfl) ?_
          refine lv_iload hx hb dX0_nextProduct_43 (lv_at hl 0 rfl) ?_
          refine z_isub hx hb dX0_nextProduct_45 ?_
          refine c0_i (As := [.int (iI ((q (n - 2)) - ((x1 : Int) * q (n - 1) % pr)))]) C hA hI (met0_reduce l ((q (n - 2)) - ((x1 : Int) * q (n - 1) % pr)) z pr w v q uu hp (by omega)) (cw0_reduce C.2.2.2.2 ⟨Nat.le_of_ble_eq_true rfl, Nat.le_of_ble_eq_true rfl⟩) rfl hl.1 rfl (Nat.le_of_ble_eq_true rfl) dX0_nextProduct_46 ⟨Nat.le_refl _, Nat.le_refl _⟩ (fun r_7 z_7 pr_7 w_7 v_7 q_7 u_7 H locs hp_7 hI => ?_)
          obtain ⟨rfl, rfl, rfl, rfl, rfl, rfl, rfl⟩ := hp_7
          refine s0_u C hI (n - 1) (by omega) (by omega) dX0_nextProduct_49 (fun H locs hI => ?_)
          refine lv_iinc (v := iI (((n - 1 : Nat) : Int) - 1)) (lv' := [(2, .int (iI (((n - 1 : Nat) : Int) - 1))), (4, .int (iI ((x1 : Int) * q (n - 1) % pr))), (3, .int (iI (q (n - 2)))), (0, .ref (a 0)), (1, .int (iI (x1 : Int)))]) hx hb dX0_nextProduct_50 hl (k := 4) rfl (iI_dec (by omega)) (by decide) rfl (fun ls hl => ?_)
          refine lv_goto (tgt := 2) hx hb dX0_nextProduct_53 (by decide) ?_
          have hu3 : ∀ j, n - 1 ≤ j → j < 5 → up uu (n - 1) ((q (n - 2) - (x1 : Int) * q (n - 1) % pr) % pr) j = npf pr x1 q j := by
            intro j g1 g2
            by_cases e : j = n - 1
            · subst e
              rw [up_s]
              rw [npf_s (by omega), show n - 1 - 1 = n - 2 by omega]
            · rw [up_n e]
              exact hu2 j (by omega) g2
          exact ih_2 (n - 1) (up uu (n - 1) ((q (n - 2) - (x1 : Int) * q (n - 1) % pr) % pr)) (by omega) (by omega) hu3 _ _ hI ls (lv_sub hl [3, 4, 0] rfl)
  exact lp_2 6 5 u (by omega) (by omega) (fun j g1 g2 => by omega) _ _ hI ls (lv_sub hl [1, 2, 0] rfl)
/-- the differences: x of them taken -/
def ndw (p : Int) (v : Nat → Int) (x : Nat) : Nat → Int := fun k => if k < x then (v (k + 1) - v k) % p else v k
theorem ndw_0 (p : Int) (v : Nat → Int) : ndw p v 0 = v := by
  funext k
  unfold ndw
  rw [if_neg (by omega)]
theorem ndw_n {p : Int} {v : Nat → Int} {x k : Nat} (h : x ≤ k) : ndw p v x k = v k := by
  unfold ndw
  rw [if_neg (by omega)]
theorem ndw_y {p : Int} {v : Nat → Int} {x k : Nat} (h : k < x) : ndw p v x k = (v (k + 1) - v k) % p := by
  unfold ndw
  rw [if_pos h]
theorem ndw_s {p : Int} {v : Nat → Int} {x : Nat} : up (ndw p v x) x ((v (x + 1) - v x) % p) = ndw p v (x + 1) := by
  funext k
  by_cases h : k = x
  · subst h
    rw [up_s, ndw_y (Nat.lt_succ_self k)]
  · rw [up_n h]
    by_cases h2 : k < x
    · rw [ndw_y h2, ndw_y (by omega)]
    · rw [ndw_n (by omega), ndw_n (by omega)]
theorem ndw_in {p : Int} (hp : 0 < p) {v : Nat → Int} {x : Nat} (hv : ∀ j, j < 5 → 0 ≤ v j ∧ v j < p) : ∀ j, j < 5 → 0 ≤ ndw p v x j ∧ ndw p v x j < p := by
  intro j hj
  unfold ndw
  split
  · exact em_in hp
  · exact hv j hj
theorem ndw_cg {p : Int} {f v : Nat → Int} {d : Nat} (h : ∀ x, x + d ≤ 4 → cg p (v x) (df f d x)) : ∀ x, x + (d + 1) ≤ 4 → cg p (ndw p v (4 - d) x) (df f (d + 1) x) := by
  intro x hx
  rw [ndw_y (by omega)]
  exact (cg.em p _).tr ((h (x + 1) (by omega)).sb (h x (by omega)))
abbrev ps0_nextDifferences (x1 : Nat) (z : Nat → Int) (pr : Int) (w : Nat → Int) (v : Nat → Int) (q : Nat → Int) (u : Nat → Int) : (Nat → Int) → Int → (Nat → Int) → (Nat → Int) → (Nat → Int) → (Nat → Int) → Prop := fun z1 pr1 w1 v1 q1 u1 => z = z1 ∧ pr = pr1 ∧ w = w1 ∧ ndw pr v (4 - x1) = v1 ∧ q = q1 ∧ u = u1
set_option maxHeartbeats 4000000 in
set_option maxRecDepth 100000 in
theorem met0_nextDifferences (l : Launch) (x1 : Nat) (z : Nat → Int) (pr : Int) (w : Nat → Int) (v : Nat → Int) (q : Nat → Int) (u : Nat → Int) (hp : pr = 32749 ∨ pr = 32719) (h1 : x1 ≤ 4) (hv : ∀ j, j < 5 → 0 ≤ v j ∧ v j < pr) : M0v l yX0_nextDifferences cX0_nextDifferences 3 none rm0_nextDifferences [.int (iI (x1 : Int))] z pr w v q u (ps0_nextDifferences x1 z pr w v q u) := by
  refine M0v.of (by decide) rfl (fun _ => Nat.le_of_ble_eq_true rfl) ?_
  intro p e s m args below meth c D a ca A ls C hr hlocks hA hl hI
  have hx := C.1
  have hb := C.2.1
  have hl : lv_has ls 3 [(0, .ref (a 0)), (1, .int (iI (x1 : Int)))] := hl
  refine z_iconst hx hb dX0_nextDifferences_0 ?_
  refine lv_istore_n (lv' := [(2, .int (iI 0)), (0, .ref (a 0)), (1, .int (iI (x1 : Int)))]) hx hb dX0_nextDifferences_1 rfl hl (by decide) rfl (fun ls hl => ?_)
  have lp_2 : ∀ (n_2 : Nat) (y : Nat), (hf_2 : 4 < y + n_2) → (hy : y + x1 ≤ 4) → ∀ (H : Heap) (locs : List Loc), I0 D A s a ca z pr w (ndw pr v y) q u H locs → ∀ (ls : Array Slot), lv_has ls 3 [(0, .ref (a 0)), (1, .int (iI (x1 : Int))), (2, .int (iI (y : Int)))] → W p l e rm0_nextDifferences s m args below meth c H locs 0 0 (E0v D a ca A (ps0_nextDifferences x1 z pr w v q u) below args s) (F0 m 2 ls []) := by
    intro n_2
    induction n_2 with
    | zero =>
      intro y hf_2 hy H locs hI ls hl
      exfalso; omega
    | succ n_2 ih_2 =>
      intro y hf_2 hy H locs hI ls hl
      refine lv_iload_n hx hb dX0_nextDifferences_2 rfl (lv_at hl 2 rfl) ?_
      refine lv_iload_n hx hb dX0_nextDifferences_3 rfl (lv_at hl 1 rfl) ?_
      refine z_iadd hx hb dX0_nextDifferences_4 ?_
      refine z_iconst hx hb dX0_nextDifferences_5 ?_
      refine z_icmp_ge hx hb 40 dX0_nextDifferences_6 (by decide) (by omega) (by omega) (fun c_1 => ?_) (fun c_1 => ?_)
      · have hy4 : y = 4 - x1 := by omega
        subst hy4
        exact r0_v C hr hlocks hI (⟨rfl, rfl, rfl, rfl, rfl, rfl⟩) dX0_nextDifferences_40
      · refine lv_aload_n hx hb dX0_nextDifferences_9 rfl (lv_at hl 0 rfl) ?_
        refine g0_vals C hI dX0_nextDifferences_10 ?_
        refine lv_iload_n hx hb dX0_nextDifferences_13 rfl (lv_at hl 2 rfl) ?_
        refine lv_aload_n hx hb dX0_nextDifferences_14 rfl (lv_at hl 0 rfl) ?_
        refine lv_aload_n hx hb dX0_nextDifferences_15 rfl (lv_at hl 0 rfl) ?_
        refine g0_vals C hI dX0_nextDifferences_16 ?_
        refine lv_iload_n hx hb dX0_nextDifferences_19 rfl (lv_at hl 2 rfl) ?_
        refine z_iconst hx hb dX0_nextDifferences_20 ?_
        refine z_iadd hx hb dX0_nextDifferences_21 ?_
        refine l0_v C hI (y + 1) (by omega) (by omega) dX0_nextDifferences_22 ?_
        rw [ndw_n (by omega)]
        have hv1 := hv (y + 1) (by omega)
        have hv2 := hv y (by omega)
        refine lv_aload_n hx hb dX0_nextDifferences_23 rfl (lv_at hl 0 rfl) ?_
        refine g0_vals C hI dX0_nextDifferences_24 ?_
        refine lv_iload_n hx hb dX0_nextDifferences_27 rfl (lv_at hl 2 rfl) ?_
        refine l0_v C hI y (by omega) (by omega) dX0_nextDifferences_28 ?_
        rw [ndw_n (Nat.le_refl y)]
        refine z_isub hx hb dX0_nextDifferences_29 ?_
        refine c0_i (As := [.int (iI ((v (y + 1)) - (v y)))]) C hA hI (met0_reduce l ((v (y + 1)) - (v y)) z pr w (ndw pr v y) q u hp (by omega)) (cw0_reduce C.2.2.2.2 ⟨Nat.le_of_ble_eq_true rfl, Nat.le_of_ble_eq_true rfl⟩) rfl hl.1 rfl (Nat.le_of_ble_eq_true rfl) dX0_nextDifferences_30 ⟨Nat.le_refl _, Nat.le_refl _⟩ (fun r_2 z_2 pr_2 w_2 v_2 q_2 u_2 H locs hp_2 hI => ?_)
        obtain ⟨rfl, rfl, rfl, rfl, rfl, rfl, rfl⟩ := hp_2
        refine s0_v C hI y (by omega) (by omega) dX0_nextDifferences_33 (fun H locs hI => ?_)
        refine lv_iinc (v := iI ((y + 1 : Nat) : Int)) (lv' := [(2, .int (iI ((y + 1 : Nat) : Int))), (0, .ref (a 0)), (1, .int (iI (x1 : Int)))]) hx hb dX0_nextDifferences_34 hl (k := 2) rfl (iI_inc1 _) (by decide) rfl (fun ls hl => ?_)
        refine lv_goto (tgt := 2) hx hb dX0_nextDifferences_37 (by decide) ?_
        rw [ndw_s] at hI
        exact ih_2 (y + 1) (by omega) (by omega) _ _ hI ls (lv_sub hl [1, 2, 0] rfl)
  exact lp_2 5 0 (by omega) (by omega) _ _ (by rw [ndw_0]; exact hI) ls (lv_sub hl [1, 2, 0] rfl)
def ngw (p : Int) (z : Nat → Int) (i : Nat) : Nat → Int := fun k => if k < i then -(z k % p) % p else z k % p
theorem ngw_0 (p : Int) (z : Nat → Int) : ngw p z 0 = fun k => z k % p := by
  funext k
  unfold ngw
  rw [if_neg (by omega)]
theorem ngw_i {p : Int} {z : Nat → Int} {i : Nat} : ngw p z i i = z i % p := by
  unfold ngw
  rw [if_neg (by omega)]
theorem ngw_s {p : Int} {z : Nat → Int} {i : Nat} : up (ngw p z i) i (-(z i % p) % p) = ngw p z (i + 1) := by
  funext k
  by_cases h : k = i
  · subst h
    rw [up_s]
    unfold ngw
    rw [if_pos (by omega)]
  · rw [up_n h]
    unfold ngw
    by_cases h2 : k < i
    · rw [if_pos h2, if_pos (by omega)]
    · rw [if_neg h2, if_neg (by omega)]
theorem ngw_in {p : Int} (hp : 0 < p) (z : Nat → Int) (i : Nat) : ∀ k, k < 20 → 0 ≤ ngw p z i k ∧ ngw p z i k < p := by
  intro k hk
  unfold ngw
  split <;> exact em_in hp
theorem ngw_cg {p : Int} {z : Nat → Int} : ∀ k, k < 20 → cg p (ngw p z 20 k) (-z k) := by
  intro k hk
  unfold ngw
  rw [if_pos hk]
  exact (cg.em p _).tr (cg.em p _).ng
theorem fx_at {p : Int} {z : Nat → Int} {x : Nat} : cg p (td (sfw p (ngw p z 20) (x : Int) 4) 0 4) (fx z x) := td_cg (by omega) (sfw_cg (z := fun k => -z k) ngw_cg)
/-- what is known while the coefficient is summed up -/
def Cfn (p : Int) (z vv qq : Nat → Int) (k d : Nat) (rr : Int) : Prop := (∀ j, j < 5 → 0 ≤ vv j ∧ vv j < p) ∧ (∀ x, x + d ≤ 4 → cg p (vv x) (df (fx z) d x)) ∧ (∀ j, j < 5 → 0 ≤ qq j ∧ qq j < p) ∧ (∀ j, j < 5 → cg p (qq j) (sc d j)) ∧ (0 ≤ rr ∧ rr < p) ∧ cg p rr (nsm z k d)
theorem cfn_0 {p : Int} {z vv qq : Nat → Int} {k : Nat} (hp : 1 < p) (hv : ∀ y, y < 5 → 0 ≤ vv y ∧ vv y < p ∧ cg p (vv y) (fx z y)) (h0 : qq 0 = 1) (hq : ∀ j, 1 ≤ j → j < 5 → qq j = 0) : Cfn p z vv qq k 0 0 := by
  refine ⟨fun j hj => ⟨(hv j hj).1, (hv j hj).2.1⟩, fun x hx => (hv x (by omega)).2.2, fun j hj => ?_, fun j hj => ?_, ⟨by omega, by omega⟩, cg.rf p 0⟩
  · by_cases e : j = 0
    · subst e; omega
    · have := hq j (by omega) hj; omega
  · show cg p (qq j) (if j = 0 then 1 else 0)
    by_cases e : j = 0
    · subst e; rw [if_pos rfl, h0]; exact cg.rf p 1
    · rw [if_neg e, hq j (by omega) hj]; exact cg.rf p 0
theorem cfn_s {p : Int} {z vv qq : Nat → Int} {k d : Nat} {rr un : Int} (hp : 1 < p) (hk : k ≤ 4) (hd : d ≤ 4) (h : Cfn p z vv qq k d rr) (hu : fc d * un % p = 1) : Cfn p z (ndw p vv (4 - d)) (npf p d qq) k (d + 1) ((rr + vv 0 * un % p * qq k % p) % p) := by
  obtain ⟨h1, h2, h3, h4, h5, h6⟩ := h
  refine ⟨ndw_in (by omega) h1, ndw_cg h2, npf_in (by omega) d qq, npf_cg h4, em_in (by omega), ?_⟩
  show cg p _ (nsm z k d + nd z d * sc d k)
  have g1 : cg p (vv 0 * un) (nd z d) := by
    have e := (h2 0 (by omega)).ml (cg.rf p un)
    rw [nd_df z hd] at e
    refine e.tr ?_
    have e2 : cg p (fc d * un) 1 := cg.fr (by rw [hu, Int.emod_eq_of_lt (by omega) hp])
    refine (cg.of (show fc d * nd z d * un = fc d * un * nd z d by grind)).tr ?_
    exact (e2.ml (cg.rf p _)).tr (cg.of (Int.one_mul _))
  exact (cg.em p _).tr (h6.ad ((cg.em p _).tr (((cg.em p _).tr g1).ml (h4 k (by omega)))))
theorem cfn_e {p : Int} {z vv qq : Nat → Int} {k : Nat} {rr : Int} (hk : k ≤ 4) (h : Cfn p z vv qq k 5 rr) : cf z k % p = rr := by
  obtain ⟨_, _, _, _, h5, h6⟩ := h
  rw [nsm_cf z hk] at h6
  rw [← h6.eq, Int.emod_eq_of_lt h5.1 h5.2]
theorem fc_s {p : Int} {d : Nat} (hp : 120 < p) (hd : d ≤ 4) : fc d * ((d : Int) + 1) % p = fc (d + 1) := by
  have h := fc_bd (d + 1) (by omega)
  have e : fc (d + 1) = fc d * ((d : Int) + 1) := rfl
  rw [← e]
  exact Int.emod_eq_of_lt (by omega) (by omega)
abbrev ps0_coefficientFor (x1 : Int) (x2 : Nat) (z : Nat → Int) (pr : Int) (w : Nat → Int) (v : Nat → Int) (q : Nat → Int) (u : Nat → Int) : Int → (Nat → Int) → Int → (Nat → Int) → (Nat → Int) → (Nat → Int) → (Nat → Int) → Prop := fun r z1 pr1 w1 v1 q1 u1 => cf z x2 % x1 = r ∧ z = z1
set_option maxHeartbeats 4000000 in
set_option maxRecDepth 100000 in
theorem met0_coefficientFor (l : Launch) (x1 : Int) (x2 : Nat) (z : Nat → Int) (pr : Int) (w : Nat → Int) (v : Nat → Int) (q : Nat → Int) (u : Nat → Int) (hp : x1 = 32749 ∨ x1 = 32719) (h2 : x2 ≤ 4) (hz : ∀ k, k < 20 → -50 ≤ z k ∧ z k ≤ 50) : M0i l yX0_coefficientFor cX0_coefficientFor 9 (some .int) rm0_coefficientFor [.int (iI x1), .int (iI (x2 : Int))] z pr w v q u (ps0_coefficientFor x1 x2 z pr w v q u) := by
  refine M0i.of (by decide) rfl (fun _ => Nat.le_of_ble_eq_true rfl) ?_
  intro p e s m args below meth c D a ca A ls C hr hlocks hA hl hI
  have hx := C.1
  have hb := C.2.1
  have hl : lv_has ls 9 [(0, .ref (a 0)), (1, .int (iI x1)), (2, .int (iI (x2 : Int)))] := hl
  have hp0 : 120 < x1 ∧ x1 ≤ 32749 := by omega
  refine z_iconst hx hb dX0_coefficientFor_0 ?_
  refine lv_istore_n (lv' := [(3, .int (iI 0)), (0, .ref (a 0)), (1, .int (iI x1)), (2, .int (iI (x2 : Int)))]) hx hb dX0_coefficientFor_1 rfl hl (by decide) rfl (fun ls hl => ?_)
  have lp_2 : ∀ (n_2 : Nat) (y : Nat) (pr0 : Int) (g : Nat → Int) (vv : Nat → Int), (hf_2 : 5 < y + n_2) → (hy : y ≤ 5) → (hvv : ∀ j, j < y → 0 ≤ vv j ∧ vv j < x1 ∧ cg x1 (vv j) (fx z j)) → (hpr : 1 ≤ y → x1 = pr0) → ∀ (H : Heap) (locs : List Loc), I0 D A s a ca z pr0 g vv q u H locs → ∀ (ls : Array Slot), lv_has ls 9 [(0, .ref (a 0)), (1, .int (iI x1)), (2, .int (iI (x2 : Int))), (3, .int (iI (y : Int)))] → W p l e rm0_coefficientFor s m args below meth c H locs 0 0 (E0i D a ca A (ps0_coefficientFor x1 x2 z pr w v q u) below args s) (F0 m 2 ls []) := by
    intro n_2
    induction n_2 with
    | zero =>
      intro y pr0 g vv hf_2 hy hvv hpr H locs hI ls hl
      exfalso; omega
    | succ n_2 ih_2 =>
      intro y pr0 g vv hf_2 hy hvv hpr H locs hI ls hl
      refine lv_iload_n hx hb dX0_coefficientFor_2 rfl (lv_at hl 3 rfl) ?_
      refine z_iconst hx hb dX0_coefficientFor_3 ?_
      refine z_icmp_gt hx hb 69 dX0_coefficientFor_4 (by decide) (by omega) (by omega) (fun c_1 => ?_) (fun c_1 => ?_)
      · have hpr := hpr (by omega)
        subst hpr
        refine lv_aload_n hx hb dX0_coefficientFor_69 rfl (lv_at hl 0 rfl) ?_
        refine g0_prod C hI dX0_coefficientFor_70 ?_
        refine z_iconst hx hb dX0_coefficientFor_73 ?_
        refine z_iconst hx hb dX0_coefficientFor_74 ?_
        refine s0_q C hI 0 (by omega) (by omega) dX0_coefficientFor_75 (fun H locs hI => ?_)
        refine z_iconst hx hb dX0_coefficientFor_76 ?_
        refine lv_istore_n (lv' := [(3, .int (iI 1)), (0, .ref (a 0)), (1, .int (iI x1)), (2, .int (iI (x2 : Int)))]) hx hb dX0_coefficientFor_77 rfl hl (by decide) rfl (fun ls hl => ?_)
        have lp_78 : ∀ (n_78 : Nat) (i : Nat) (qq : Nat → Int), (hf_78 : 5 < i + n_78) → (hi : 1 ≤ i ∧ i ≤ 5) → (hq0 : qq 0 = 1) → (hqq : ∀ j, 1 ≤ j → j < i → qq j = 0) → ∀ (H : Heap) (locs : List Loc), I0 D A s a ca z x1 g vv qq u H locs → ∀ (ls : Array Slot), lv_has ls 9 [(0, .ref (a 0)), (1, .int (iI x1)), (2, .int (iI (x2 : Int))), (3, .int (iI (i : Int)))] → W p l e rm0_coefficientFor s m args below meth c H locs 0 0 (E0i D a ca A (ps0_coefficientFor x1 x2 z pr w v q u) below args s) (F0 m 78 ls []) := by
          intro n_78
          induction n_78 with
          | zero =>
            intro i qq hf_78 hi hq0 hqq H locs hI ls hl
            exfalso; omega
          | succ n_78 ih_78 =>
            intro i qq hf_78 hi hq0 hqq H locs hI ls hl
            refine lv_iload_n hx hb dX0_coefficientFor_78 rfl (lv_at hl 3 rfl) ?_
            refine z_iconst hx hb dX0_coefficientFor_79 ?_
            refine z_icmp_gt hx hb 96 dX0_coefficientFor_80 (by decide) (by omega) (by omega) (fun c_2 => ?_) (fun c_2 => ?_)
            · refine z_iconst hx hb dX0_coefficientFor_96 ?_
              refine lv_istore_n (lv' := [(3, .int (iI 1)), (0, .ref (a 0)), (1, .int (iI x1)), (2, .int (iI (x2 : Int)))]) hx hb dX0_coefficientFor_97 rfl hl (by decide) rfl (fun ls hl => ?_)
              refine z_iconst hx hb dX0_coefficientFor_98 ?_
              refine lv_istore (lv' := [(4, .int (iI 0)), (3, .int (iI 1)), (0, .ref (a 0)), (1, .int (iI x1)), (2, .int (iI (x2 : Int)))]) hx hb dX0_coefficientFor_99 hl (by decide) rfl (fun ls hl => ?_)
              refine z_iconst hx hb dX0_coefficientFor_101 ?_
              refine lv_istore (lv' := [(5, .int (iI 0)), (4, .int (iI 0)), (3, .int (iI 1)), (0, .ref (a 0)), (1, .int (iI x1)), (2, .int (iI (x2 : Int)))]) hx hb dX0_coefficientFor_102 hl (by decide) rfl (fun ls hl => ?_)
              have lp_104 : ∀ (n_104 : Nat) (d : Nat) (rr : Int) (v2 : Nat → Int) (q2 : Nat → Int) (u2 : Nat → Int), (hf_104 : 5 < d + n_104) → (hd5 : d ≤ 5) → (hC : Cfn x1 z v2 q2 x2 d rr) → ∀ (H : Heap) (locs : List Loc), I0 D A s a ca z x1 g v2 q2 u2 H locs → ∀ (ls : Array Slot), lv_has ls 9 [(0, .ref (a 0)), (1, .int (iI x1)), (2, .int (iI (x2 : Int))), (3, .int (iI (fc d))), (4, .int (iI rr)), (5, .int (iI (d : Int)))] → W p l e rm0_coefficientFor s m args below meth c H locs 0 0 (E0i D a ca A (ps0_coefficientFor x1 x2 z pr w v q u) below args s) (F0 m 104 ls []) := by
                intro n_104
                induction n_104 with
                | zero =>
                  intro d rr v2 q2 u2 hf_104 hd5 hC H locs hI ls hl
                  exfalso; omega
                | succ n_104 ih_104 =>
                  intro d rr v2 q2 u2 hf_104 hd5 hC H locs hI ls hl
                  have hfc := fc_bd d (by omega)
                  have hrr := hC.2.2.2.2.1
                  refine lv_iload hx hb dX0_coefficientFor_104 (lv_at hl 5 rfl) ?_
                  refine z_iconst hx hb dX0_coefficientFor_106 ?_
                  refine z_icmp_gt hx hb 184 dX0_coefficientFor_107 (by decide) (by omega) (by omega) (fun c_3 => ?_) (fun c_3 => ?_)
                  · refine lv_iload hx hb dX0_coefficientFor_184 (lv_at hl 4 rfl) ?_
                    have hd6 : d = 5 := by omega
                    subst hd6
                    exact r0_i C hr hlocks hI (⟨cfn_e h2 hC, rfl⟩) dX0_coefficientFor_186
                  · refine lv_aload_n hx hb dX0_coefficientFor_110 rfl (lv_at hl 0 rfl) ?_
                    refine lv_iload_n hx hb dX0_coefficientFor_111 rfl (lv_at hl 3 rfl) ?_
                    refine c0_i (As := [.int (iI (fc d))]) C hA hI (met0_inverse l (fc d) z x1 g v2 q2 u2 hp (by omega)) (cw0_inverse C.2.2.2.2 ⟨Nat.le_of_ble_eq_true rfl, Nat.le_of_ble_eq_true rfl⟩) rfl hl.1 rfl (Nat.le_of_ble_eq_true rfl) dX0_coefficientFor_112 ⟨Nat.le_refl _, Nat.le_refl _⟩ (fun un z_4 pr_4 w_4 v_4 q_4 u_4 H locs hp_4 hI => ?_)
                    obtain ⟨hun, rfl, rfl, rfl, rfl, rfl, rfl⟩ := hp_4
                    refine lv_istore (lv' := [(6, .int (iI un)), (0, .ref (a 0)), (1, .int (iI x1)), (2, .int (iI (x2 : Int))), (3, .int (iI (fc d))), (4, .int (iI rr)), (5, .int (iI (d : Int)))]) hx hb dX0_coefficientFor_115 hl (by decide) rfl (fun ls hl => ?_)
                    refine lv_aload_n hx hb dX0_coefficientFor_117 rfl (lv_at hl 1 rfl) ?_
                    refine lv_aload_n hx hb dX0_coefficientFor_118 rfl (lv_at hl 1 rfl) ?_
                    refine g0_vals C hI dX0_coefficientFor_119 ?_
                    refine z_iconst hx hb dX0_coefficientFor_122 ?_
                    refine l0_v C hI 0 (by omega) (by omega) dX0_coefficientFor_123 ?_
                    refine lv_iload hx hb dX0_coefficientFor_124 (lv_at hl 0 rfl) ?_
                    refine c0_i (As := [.int (iI (v2 0)), .int (iI un)]) C hA hI (met0_times l (v2 0) un z x1 g v2 q2 u2 hp (hC.1 0 (by omega)) ⟨hun.1, hun.2.1⟩) (cw0_times C.2.2.2.2 ⟨Nat.le_of_ble_eq_true rfl, Nat.le_of_ble_eq_true rfl⟩) rfl hl.1 rfl (Nat.le_of_ble_eq_true rfl) dX0_coefficientFor_126 ⟨Nat.le_refl _, Nat.le_refl _⟩ (fun r_5 z_5 pr_5 w_5 v_5 q_5 u_5 H locs hp_5 hI => ?_)
                    obtain ⟨rfl, rfl, rfl, rfl, rfl, rfl, rfl⟩ := hp_5
                    refine lv_istore (lv' := [(7, .int (iI (v2 0 * un % x1))), (6, .int (iI un)), (0, .ref (a 0)), (1, .int (iI x1)), (2, .int (iI (x2 : Int))), (3, .int (iI (fc d))), (4, .int (iI rr)), (5, .int (iI (d : Int)))]) hx hb dX0_coefficientFor_129 hl (by decide) rfl (fun ls hl => ?_)
                    refine lv_aload_n hx hb dX0_coefficientFor_131 rfl (lv_at hl 2 rfl) ?_
                    refine lv_iload hx hb dX0_coefficientFor_132 (lv_at hl 0 rfl) ?_
                    refine lv_aload_n hx hb dX0_coefficientFor_134 rfl (lv_at hl 2 rfl) ?_
                    refine g0_prod C hI dX0_coefficientFor_135 ?_
                    refine lv_iload_n hx hb dX0_coefficientFor_138 rfl (lv_at hl 4 rfl) ?_
                    refine l0_q C hI x2 (by omega) (by omega) dX0_coefficientFor_139 ?_
                    refine c0_i (As := [.int (iI (v2 0 * un % x1)), .int (iI (q2 x2))]) C hA hI (met0_times l (v2 0 * un % x1) (q2 x2) z x1 g v2 q2 u2 hp (em_in (by omega)) (hC.2.2.1 x2 (by omega))) (cw0_times C.2.2.2.2 ⟨Nat.le_of_ble_eq_true rfl, Nat.le_of_ble_eq_true rfl⟩) rfl hl.1 rfl (Nat.le_of_ble_eq_true rfl) dX0_coefficientFor_140 ⟨Nat.le_refl _, Nat.le_refl _⟩ (fun r_6 z_6 pr_6 w_6 v_6 q_6 u_6 H locs hp_6 hI => ?_)
                    obtain ⟨rfl, rfl, rfl, rfl, rfl, rfl, rfl⟩ := hp_6
                    refine lv_istore (lv' := [(8, .int (iI (v2 0 * un % x1 * q2 x2 % x1))), (7, .int (iI (v2 0 * un % x1))), (6, .int (iI un)), (0, .ref (a 0)), (1, .int (iI x1)), (2, .int (iI (x2 : Int))), (3, .int (iI (fc d))), (4, .int (iI rr)), (5, .int (iI (d : Int)))]) hx hb dX0_coefficientFor_143 hl (by decide) rfl (fun ls hl => ?_)
                    refine lv_aload_n hx hb dX0_coefficientFor_145 rfl (lv_at hl 3 rfl) ?_
                    refine lv_iload hx hb dX0_coefficientFor_146 (lv_at hl 7 rfl) ?_
                    refine lv_iload hx hb dX0_coefficientFor_148 (lv_at hl 0 rfl) ?_
                    refine z_iadd hx hb dX0_coefficientFor_150 ?_
                    refine c0_i (As := [.int (iI (rr + (v2 0 * un % x1 * q2 x2 % x1)))]) C hA hI (met0_reduce l (rr + (v2 0 * un % x1 * q2 x2 % x1)) z x1 g v2 q2 u2 hp (by have := em_in (y := v2 0 * un % x1 * q2 x2) (p := x1) (by omega); omega)) (cw0_reduce C.2.2.2.2 ⟨Nat.le_of_ble_eq_true rfl, Nat.le_of_ble_eq_true rfl⟩) rfl hl.1 rfl (Nat.le_of_ble_eq_true rfl) dX0_coefficientFor_151 ⟨Nat.le_refl _, Nat.le_refl _⟩ (fun r_7 z_7 pr_7 w_7 v_7 q_7 u_7 H locs hp_7 hI => ?_)
                    obtain ⟨rfl, rfl, rfl, rfl, rfl, rfl, rfl⟩ := hp_7
                    refine lv_istore (lv' := [(4, .int (iI ((rr + v2 0 * un % x1 * q2 x2 % x1) % x1))), (8, .int (iI (v2 0 * un % x1 * q2 x2 % x1))), (7, .int (iI (v2 0 * un % x1))), (6, .int (iI un)), (0, .ref (a 0)), (1, .int (iI x1)), (2, .int (iI (x2 : Int))), (3, .int (iI (fc d))), (5, .int (iI (d : Int)))]) hx hb dX0_coefficientFor_154 hl (by decide) rfl (fun ls hl => ?_)
                    refine lv_aload_n hx hb dX0_coefficientFor_156 rfl (lv_at hl 4 rfl) ?_
                    refine lv_iload hx hb dX0_coefficientFor_157 (lv_at hl 8 rfl) ?_
                    refine c0_v (As := [.int (iI (d : Int))]) C hA hI (met0_nextProduct l d z x1 g v2 q2 u2 hp (by omega) hC.2.2.1) (cw0_nextProduct C.2.2.2.2 ⟨Nat.le_of_ble_eq_true rfl, Nat.le_of_ble_eq_true rfl⟩) rfl hl.1 rfl (Nat.le_of_ble_eq_true rfl) dX0_coefficientFor_159 ⟨Nat.le_refl _, Nat.le_refl _⟩ (fun z_8 pr_8 w_8 v_8 q_8 u_8 H locs hp_8 hI => ?_)
                    obtain ⟨rfl, rfl, rfl, rfl, rfl⟩ := hp_8
                    refine lv_aload_n hx hb dX0_coefficientFor_162 rfl (lv_at hl 4 rfl) ?_
                    refine lv_iload hx hb dX0_coefficientFor_163 (lv_at hl 8 rfl) ?_
                    refine c0_v (As := [.int (iI (d : Int))]) C hA hI (met0_nextDifferences l d z x1 g v2 (npf x1 d q2) u_8 hp (by omega) hC.1) (cw0_nextDifferences C.2.2.2.2 ⟨Nat.le_of_ble_eq_true rfl, Nat.le_of_ble_eq_true rfl⟩) rfl hl.1 rfl (Nat.le_of_ble_eq_true rfl) dX0_coefficientFor_165 ⟨Nat.le_refl _, Nat.le_refl _⟩ (fun z_9 pr_9 w_9 v_9 q_9 u_9 H locs hp_9 hI => ?_)
                    obtain ⟨rfl, rfl, rfl, rfl, rfl, rfl⟩ := hp_9
                    refine lv_aload_n hx hb dX0_coefficientFor_168 rfl (lv_at hl 4 rfl) ?_
                    refine lv_iload_n hx hb dX0_coefficientFor_169 rfl (lv_at hl 7 rfl) ?_
                    refine lv_iload hx hb dX0_coefficientFor_170 (lv_at hl 8 rfl) ?_
                    refine z_iconst hx hb dX0_coefficientFor_172 ?_
                    refine z_iadd hx hb dX0_coefficientFor_173 ?_
                    refine c0_i (As := [.int (iI (fc d)), .int (iI ((d : Int) + 1))]) C hA hI (met0_times l (fc d) ((d : Int) + 1) z x1 g (ndw x1 v2 (4 - d)) (npf x1 d q2) u_8 hp (by omega) (by omega)) (cw0_times C.2.2.2.2 ⟨Nat.le_of_ble_eq_true rfl, Nat.le_of_ble_eq_true rfl⟩) rfl hl.1 rfl (Nat.le_of_ble_eq_true rfl) dX0_coefficientFor_174 ⟨Nat.le_refl _, Nat.le_refl _⟩ (fun r_10 z_10 pr_10 w_10 v_10 q_10 u_10 H locs hp_10 hI => ?_)
                    obtain ⟨hp_10, rfl, rfl, rfl, rfl, rfl, rfl⟩ := hp_10
                    rw [fc_s hp0.1 (by omega)] at hp_10
                    subst hp_10
                    refine lv_istore_n (lv' := [(3, .int (iI (fc (d + 1)))), (4, .int (iI ((rr + v2 0 * un % x1 * q2 x2 % x1) % x1))), (8, .int (iI (v2 0 * un % x1 * q2 x2 % x1))), (7, .int (iI (v2 0 * un % x1))), (6, .int (iI un)), (0, .ref (a 0)), (1, .int (iI x1)), (2, .int (iI (x2 : Int))), (5, .int (iI (d : Int)))]) hx hb dX0_coefficientFor_177 rfl hl (by decide) rfl (fun ls hl => ?_)
                    refine lv_iinc (v := iI ((d + 1 : Nat) : Int)) (lv' := [(5, .int (iI ((d + 1 : Nat) : Int))), (3, .int (iI (fc (d + 1)))), (4, .int (iI ((rr + v2 0 * un % x1 * q2 x2 % x1) % x1))), (8, .int (iI (v2 0 * un % x1 * q2 x2 % x1))), (7, .int (iI (v2 0 * un % x1))), (6, .int (iI un)), (0, .ref (a 0)), (1, .int (iI x1)), (2, .int (iI (x2 : Int)))]) hx hb dX0_coefficientFor_178 hl (k := 8) rfl (iI_inc1 _) (by decide) rfl (fun ls hl => ?_)
                    refine lv_goto (tgt := 104) hx hb dX0_coefficientFor_181 (by decide) ?_
                    exact ih_104 (d + 1) ((rr + v2 0 * un % x1 * q2 x2 % x1) % x1) (ndw x1 v2 (4 - d)) (npf x1 d q2) u_8 (by omega) (by omega) (cfn_s (by omega) h2 (by omega) hC (hun.2.2 (by omega))) _ _ hI ls (lv_sub hl [6, 7, 8, 1, 2, 0] rfl)
              exact lp_104 6 0 0 vv qq u (by omega) (by omega) (cfn_0 (by omega) (fun y hy => hvv y (by omega)) hq0 (fun j g1 g2 => hqq j g1 (by omega))) _ _ hI ls (lv_sub hl [3, 4, 5, 2, 1, 0] rfl)
            · refine lv_aload_n hx hb dX0_coefficientFor_83 rfl (lv_at hl 0 rfl) ?_
              refine g0_prod C hI dX0_coefficientFor_84 ?_
              refine lv_iload_n hx hb dX0_coefficientFor_87 rfl (lv_at hl 3 rfl) ?_
              refine z_iconst hx hb dX0_coefficientFor_88 ?_
              refine s0_q C hI i (by omega) (by omega) dX0_coefficientFor_89 (fun H locs hI => ?_)
              refine lv_iinc (v := iI ((i + 1 : Nat) : Int)) (lv' := [(3, .int (iI ((i + 1 : Nat) : Int))), (0, .ref (a 0)), (1, .int (iI x1)), (2, .int (iI (x2 : Int)))]) hx hb dX0_coefficientFor_90 hl (k := 3) rfl (iI_inc1 _) (by decide) rfl (fun ls hl => ?_)
              refine lv_goto (tgt := 78) hx hb dX0_coefficientFor_93 (by decide) ?_
              exact ih_78 (i + 1) (up qq i 0) (by omega) (by omega) (by rw [up_n (by omega)]; exact hq0) (fun j g1 g2 => by by_cases e : j = i; rw [e, up_s]; rw [up_n e]; exact hqq j g1 (by omega)) _ _ hI ls (lv_sub hl [1, 2, 3, 0] rfl)
        exact lp_78 5 1 (up q 0 1) (by omega) (by omega) (up_s _ _ _) (fun j g1 g2 => by omega) _ _ hI ls (lv_sub hl [1, 2, 3, 0] rfl)
      · refine lv_aload_n hx hb dX0_coefficientFor_7 rfl (lv_at hl 0 rfl) ?_
        refine lv_iload_n hx hb dX0_coefficientFor_8 rfl (lv_at hl 1 rfl) ?_
        refine c0_v (As := [.int (iI x1)]) C hA hI (met0_load l x1 z pr0 g vv q u hp hz) (cw0_load C.2.2.2.2 ⟨Nat.le_of_ble_eq_true rfl, Nat.le_of_ble_eq_true rfl⟩) rfl hl.1 rfl (Nat.le_of_ble_eq_true rfl) dX0_coefficientFor_9 ⟨Nat.le_refl _, Nat.le_refl _⟩ (fun z_11 pr_11 w_11 v_11 q_11 u_11 H locs hp_11 hI => ?_)
        obtain ⟨rfl, rfl, rfl, rfl, rfl, rfl⟩ := hp_11
        refine z_iconst hx hb dX0_coefficientFor_12 ?_
        refine lv_istore (lv' := [(4, .int (iI 0)), (0, .ref (a 0)), (1, .int (iI x1)), (2, .int (iI (x2 : Int))), (3, .int (iI (y : Int)))]) hx hb dX0_coefficientFor_13 hl (by decide) rfl (fun ls hl => ?_)
        have lp_15 : ∀ (n_15 : Nat) (i : Nat), (hf_15 : 20 < i + n_15) → (hi : i ≤ 20) → ∀ (H : Heap) (locs : List Loc), I0 D A s a ca z x1 (ngw x1 z i) vv q u H locs → ∀ (ls : Array Slot), lv_has ls 9 [(0, .ref (a 0)), (1, .int (iI x1)), (2, .int (iI (x2 : Int))), (3, .int (iI (y : Int))), (4, .int (iI (i : Int)))] → W p l e rm0_coefficientFor s m args below meth c H locs 0 0 (E0i D a ca A (ps0_coefficientFor x1 x2 z pr w v q u) below args s) (F0 m 15 ls []) := by
          intro n_15
          induction n_15 with
          | zero =>
            intro i hf_15 hi H locs hI ls hl
            exfalso; omega
          | succ n_15 ih_15 =>
            intro i hf_15 hi H locs hI ls hl
            refine lv_iload hx hb dX0_coefficientFor_15 (lv_at hl 4 rfl) ?_
            refine z_bipush hx hb dX0_coefficientFor_17 (by decide +kernel) ?_
            refine z_icmp_ge hx hb 47 dX0_coefficientFor_19 (by decide) (by omega) (by omega) (fun c_12 => ?_) (fun c_12 => ?_)
            · have hi20 : i = 20 := by omega
              subst hi20
              refine lv_aload_n hx hb dX0_coefficientFor_47 rfl (lv_at hl 0 rfl) ?_
              refine lv_iload_n hx hb dX0_coefficientFor_48 rfl (lv_at hl 3 rfl) ?_
              refine c0_v (As := [.int (iI (y : Int))]) C hA hI (met0_shift l (y : Int) z x1 (ngw x1 z 20) vv q u hp (by omega) (ngw_in (by omega) z 20)) (cw0_shift C.2.2.2.2 ⟨Nat.le_of_ble_eq_true rfl, Nat.le_of_ble_eq_true rfl⟩) rfl hl.1 rfl (Nat.le_of_ble_eq_true rfl) dX0_coefficientFor_49 ⟨Nat.le_refl _, Nat.le_refl _⟩ (fun z_13 pr_13 w_13 v_13 q_13 u_13 H locs hp_13 hI => ?_)
              obtain ⟨rfl, rfl, rfl, rfl, rfl, rfl⟩ := hp_13
              refine lv_aload_n hx hb dX0_coefficientFor_52 rfl (lv_at hl 0 rfl) ?_
              refine g0_vals C hI dX0_coefficientFor_53 ?_
              refine lv_iload_n hx hb dX0_coefficientFor_56 rfl (lv_at hl 3 rfl) ?_
              refine lv_aload_n hx hb dX0_coefficientFor_57 rfl (lv_at hl 0 rfl) ?_
              refine z_iconst hx hb dX0_coefficientFor_58 ?_
              refine c0_i (As := [.int (iI 4)]) C hA hI (met0_determinantOf l 4 z x1 (sfw x1 (ngw x1 z 20) (y : Int) 4) vv q u hp (by omega) (sfw_in (by omega) (ngw_in (by omega) z 20))) (cw0_determinantOf C.2.2.2.2 ⟨Nat.le_of_ble_eq_true rfl, Nat.le_of_ble_eq_true rfl⟩) rfl hl.1 rfl (Nat.le_of_ble_eq_true rfl) dX0_coefficientFor_59 ⟨Nat.le_refl _, Nat.le_refl _⟩ (fun rd z_14 pr_14 w_14 v_14 q_14 u_14 H locs hp_14 hI => ?_)
              obtain ⟨hd, rfl, rfl, rfl, rfl, rfl⟩ := hp_14
              refine s0_v C hI y (by omega) (by omega) dX0_coefficientFor_62 (fun H locs hI => ?_)
              refine lv_iinc (v := iI ((y + 1 : Nat) : Int)) (lv' := [(3, .int (iI ((y + 1 : Nat) : Int))), (0, .ref (a 0)), (1, .int (iI x1)), (2, .int (iI (x2 : Int))), (4, .int (iI ((20 : Nat) : Int)))]) hx hb dX0_coefficientFor_63 hl (k := 3) rfl (iI_inc1 _) (by decide) rfl (fun ls hl => ?_)
              refine lv_goto (tgt := 2) hx hb dX0_coefficientFor_66 (by decide) ?_
              exact ih_2 (y + 1) x1 w_14 (up vv y rd) (by omega) (by omega) (lt_s (fun j hj => by rw [up_n (by omega)]; exact hvv j hj) (by rw [up_s, ← hd]; exact ⟨(em_in (by omega)).1, (em_in (by omega)).2, (cg.em x1 _).tr fx_at⟩)) (fun _ => rfl) _ _ hI ls (lv_sub hl [1, 2, 3, 0] rfl)
            · refine lv_aload_n hx hb dX0_coefficientFor_22 rfl (lv_at hl 0 rfl) ?_
              refine g0_work C hI dX0_coefficientFor_23 ?_
              refine lv_iload hx hb dX0_coefficientFor_26 (lv_at hl 4 rfl) ?_
              refine lv_aload_n hx hb dX0_coefficientFor_28 rfl (lv_at hl 0 rfl) ?_
              refine lv_aload_n hx hb dX0_coefficientFor_29 rfl (lv_at hl 0 rfl) ?_
              refine g0_work C hI dX0_coefficientFor_30 ?_
              refine lv_iload hx hb dX0_coefficientFor_33 (lv_at hl 4 rfl) ?_
              refine l0_w C hI i (by omega) (by omega) dX0_coefficientFor_35 ?_
              rw [ngw_i]
              have hzi := em_in (y := z i) (p := x1) (by omega)
              refine z_ineg hx hb dX0_coefficientFor_36 ?_
              refine c0_i (As := [.int (iI (-(z i % x1)))]) C hA hI (met0_reduce l (-(z i % x1)) z x1 (ngw x1 z i) vv q u hp (by omega)) (cw0_reduce C.2.2.2.2 ⟨Nat.le_of_ble_eq_true rfl, Nat.le_of_ble_eq_true rfl⟩) rfl hl.1 rfl (Nat.le_of_ble_eq_true rfl) dX0_coefficientFor_37 ⟨Nat.le_refl _, Nat.le_refl _⟩ (fun r_15 z_15 pr_15 w_15 v_15 q_15 u_15 H locs hp_15 hI => ?_)
              obtain ⟨rfl, rfl, rfl, rfl, rfl, rfl, rfl⟩ := hp_15
              refine s0_w C hI i (by omega) (by omega) dX0_coefficientFor_40 (fun H locs hI => ?_)
              refine lv_iinc (v := iI ((i + 1 : Nat) : Int)) (lv' := [(4, .int (iI ((i + 1 : Nat) : Int))), (0, .ref (a 0)), (1, .int (iI x1)), (2, .int (iI (x2 : Int))), (3, .int (iI (y : Int)))]) hx hb dX0_coefficientFor_41 hl (k := 4) rfl (iI_inc1 _) (by decide) rfl (fun ls hl => ?_)
              refine lv_goto (tgt := 15) hx hb dX0_coefficientFor_44 (by decide) ?_
              rw [ngw_s] at hI
              exact ih_15 (i + 1) (by omega) (by omega) _ _ hI ls (lv_sub hl [1, 2, 3, 4, 0] rfl)
        exact lp_15 21 0 (by omega) (by omega) _ _ (by rw [ngw_0]; exact hI) ls (lv_sub hl [1, 2, 3, 4, 0] rfl)
  exact lp_2 6 0 pr w v (by omega) (by omega) (fun j hj => absurd hj (Nat.not_lt_zero j)) (fun h => by omega) _ _ hI ls (lv_sub hl [1, 2, 3, 0] rfl)
abbrev ps0_coefficient (i : Int) (z : Nat → Int) (pr : Int) (w : Nat → Int) (v : Nat → Int) (q : Nat → Int) (u : Nat → Int) : Int → (Nat → Int) → Int → (Nat → Int) → (Nat → Int) → (Nat → Int) → (Nat → Int) → Prop := fun r z1 pr1 w1 v1 q1 u1 => an_coef z i = r ∧ z = z1
set_option maxHeartbeats 4000000 in
set_option maxRecDepth 100000 in
theorem met0_coefficient (l : Launch) (i : Int) (z : Nat → Int) (pr : Int) (w : Nat → Int) (v : Nat → Int) (q : Nat → Int) (u : Nat → Int) (hi : -2147483648 ≤ i ∧ i < 2147483648) (hz : ∀ k, k < 20 → -50 ≤ z k ∧ z k ≤ 50) : M0i l yX0_coefficient cX0_coefficient 4 (some .int) rm0_coefficient [.int (iI i)] z pr w v q u (ps0_coefficient i z pr w v q u) := by
  refine M0i.of (by decide) rfl (fun _ => Nat.le_of_ble_eq_true rfl) ?_
  intro p e s m args below meth c D a ca A ls C hr hlocks hA hl hI
  have hx := C.1
  have hb := C.2.1
  have hl : lv_has ls 4 [(0, .ref (a 0)), (1, .int (iI i))] := hl
  refine lv_iload_n hx hb dX0_coefficient_0 rfl (lv_at hl 1 rfl) ?_
  refine z_if_lt hx hb 9 dX0_coefficient_1 (by decide) (by omega) (fun c_1 => ?_) (fun c_1 => ?_)
  · refine z_ldc hx hb (-1000000000) C.2.2.2.1 (C.2.2.2.2 _ q72) (by decide +kernel) dX0_coefficient_9 ?_
    exact r0_i C hr hlocks hI (⟨by unfold an_coef; rw [if_neg (by omega)]; rfl, rfl⟩) dX0_coefficient_11
  · refine lv_iload_n hx hb dX0_coefficient_4 rfl (lv_at hl 1 rfl) ?_
    refine z_iconst hx hb dX0_coefficient_5 ?_
    refine z_icmp_le hx hb 12 dX0_coefficient_6 (by decide) (by omega) (by omega) (fun c_2 => ?_) (fun c_2 => ?_)
    · obtain ⟨n1, rfl⟩ := Int.eq_ofNat_of_zero_le (show 0 ≤ i by omega)
      refine lv_aload_n hx hb dX0_coefficient_12 rfl (lv_at hl 0 rfl) ?_
      refine z_sipush hx hb dX0_coefficient_13 (by decide +kernel) ?_
      refine lv_iload_n hx hb dX0_coefficient_16 rfl (lv_at hl 1 rfl) ?_
      refine c0_i (As := [.int (iI 32749), .int (iI (n1 : Int))]) C hA hI (met0_coefficientFor l 32749 n1 z pr w v q u (by omega) (by omega) hz) (cw0_coefficientFor C.2.2.2.2 ⟨Nat.le_of_ble_eq_true rfl, Nat.le_of_ble_eq_true rfl⟩) rfl hl.1 rfl (Nat.le_of_ble_eq_true rfl) dX0_coefficient_17 ⟨Nat.le_refl _, Nat.le_refl _⟩ (fun f1 z_3 pr_3 w_3 v_3 q_3 u_3 H locs hp_3 hI => ?_)
      obtain ⟨e1, rfl⟩ := hp_3
      refine lv_istore_n (lv' := [(2, .int (iI f1)), (0, .ref (a 0)), (1, .int (iI (n1 : Int)))]) hx hb dX0_coefficient_20 rfl hl (by decide) rfl (fun ls hl => ?_)
      refine lv_aload_n hx hb dX0_coefficient_21 rfl (lv_at hl 1 rfl) ?_
      refine z_sipush hx hb dX0_coefficient_22 (by decide +kernel) ?_
      refine lv_iload_n hx hb dX0_coefficient_25 rfl (lv_at hl 2 rfl) ?_
      refine c0_i (As := [.int (iI 32719), .int (iI (n1 : Int))]) C hA hI (met0_coefficientFor l 32719 n1 z pr_3 w_3 v_3 q_3 u_3 (by omega) (by omega) hz) (cw0_coefficientFor C.2.2.2.2 ⟨Nat.le_of_ble_eq_true rfl, Nat.le_of_ble_eq_true rfl⟩) rfl hl.1 rfl (Nat.le_of_ble_eq_true rfl) dX0_coefficient_26 ⟨Nat.le_refl _, Nat.le_refl _⟩ (fun f2 z_4 pr_4 w_4 v_4 q_4 u_4 H locs hp_4 hI => ?_)
      obtain ⟨e2, rfl⟩ := hp_4
      refine lv_istore_n (lv' := [(3, .int (iI f2)), (2, .int (iI f1)), (0, .ref (a 0)), (1, .int (iI (n1 : Int)))]) hx hb dX0_coefficient_29 rfl hl (by decide) rfl (fun ls hl => ?_)
      refine lv_aload_n hx hb dX0_coefficient_30 rfl (lv_at hl 2 rfl) ?_
      refine lv_iload_n hx hb dX0_coefficient_31 rfl (lv_at hl 1 rfl) ?_
      refine lv_iload_n hx hb dX0_coefficient_32 rfl (lv_at hl 0 rfl) ?_
      refine c0_i (As := [.int (iI f1), .int (iI f2)]) C hA hI (met0_join l f1 f2 z pr_4 w_4 v_4 q_4 u_4 (by rw [← e1]; exact em_in (by omega)) (by rw [← e2]; exact em_in (by omega))) (cw0_join C.2.2.2.2 ⟨Nat.le_of_ble_eq_true rfl, Nat.le_of_ble_eq_true rfl⟩) rfl hl.1 rfl (Nat.le_of_ble_eq_true rfl) dX0_coefficient_33 ⟨Nat.le_refl _, Nat.le_refl _⟩ (fun rj z_5 pr_5 w_5 v_5 q_5 u_5 H locs hp_5 hI => ?_)
      obtain ⟨hj, rfl, rfl, rfl, rfl, rfl, rfl⟩ := hp_5
      have hcb := cf_bd hz n1
      exact r0_i C hr hlocks hI (⟨by unfold an_coef; rw [if_pos (by omega), Int.toNat_natCast]; exact (hj _ (by omega) (by omega) e1 e2).symm, rfl⟩) dX0_coefficient_36
    · refine z_ldc hx hb (-1000000000) C.2.2.2.1 (C.2.2.2.2 _ q72) (by decide +kernel) dX0_coefficient_9 ?_
      exact r0_i C hr hlocks hI (⟨by unfold an_coef; rw [if_neg (by omega)]; rfl, rfl⟩) dX0_coefficient_11
theorem es_cf {z : Nat → Int} {n : Nat} (h : 1 ≤ n ∧ n ≤ 4) : (n % 2 = 0 → es z n = an_coef z (4 - (n : Int))) ∧ (n % 2 ≠ 0 → es z n = -an_coef z (4 - (n : Int))) := by
  have q : n = 1 ∨ n = 2 ∨ n = 3 ∨ n = 4 := by omega
  rcases q with rfl | rfl | rfl | rfl
  · exact ⟨fun h => absurd h (by decide), fun _ => (Int.neg_neg (es z 1)).symm⟩
  · exact ⟨fun _ => rfl, fun h => absurd rfl h⟩
  · exact ⟨fun h => absurd h (by decide), fun _ => (Int.neg_neg (es z 3)).symm⟩
  · exact ⟨fun _ => rfl, fun h => absurd rfl h⟩
abbrev ps0_principal (i : Int) (z : Nat → Int) (pr : Int) (w : Nat → Int) (v : Nat → Int) (q : Nat → Int) (u : Nat → Int) : Int → (Nat → Int) → Int → (Nat → Int) → (Nat → Int) → (Nat → Int) → (Nat → Int) → Prop := fun r z1 pr1 w1 v1 q1 u1 => an_prin z i = r ∧ z = z1
set_option maxHeartbeats 4000000 in
set_option maxRecDepth 100000 in
theorem met0_principal (l : Launch) (i : Int) (z : Nat → Int) (pr : Int) (w : Nat → Int) (v : Nat → Int) (q : Nat → Int) (u : Nat → Int) (hi : -2147483648 ≤ i ∧ i < 2147483648) (hz : ∀ k, k < 20 → -50 ≤ z k ∧ z k ≤ 50) : M0i l yX0_principal cX0_principal 3 (some .int) rm0_principal [.int (iI i)] z pr w v q u (ps0_principal i z pr w v q u) := by
  refine M0i.of (by decide) rfl (fun _ => Nat.le_of_ble_eq_true rfl) ?_
  intro p e s m args below meth c D a ca A ls C hr hlocks hA hl hI
  have hx := C.1
  have hb := C.2.1
  have hl : lv_has ls 3 [(0, .ref (a 0)), (1, .int (iI i))] := hl
  refine lv_iload_n hx hb dX0_principal_0 rfl (lv_at hl 1 rfl) ?_
  refine z_iconst hx hb dX0_principal_1 ?_
  refine z_icmp_lt hx hb 10 dX0_principal_2 (by decide) (by omega) (by omega) (fun c_1 => ?_) (fun c_1 => ?_)
  · refine z_ldc hx hb (-1000000000) C.2.2.2.1 (C.2.2.2.2 _ q72) (by decide +kernel) dX0_principal_10 ?_
    exact r0_i C hr hlocks hI (⟨by unfold an_prin; rw [if_neg (by omega)]; rfl, rfl⟩) dX0_principal_12
  · refine lv_iload_n hx hb dX0_principal_5 rfl (lv_at hl 1 rfl) ?_
    refine z_iconst hx hb dX0_principal_6 ?_
    refine z_icmp_le hx hb 13 dX0_principal_7 (by decide) (by omega) (by omega) (fun c_2 => ?_) (fun c_2 => ?_)
    · obtain ⟨n1, rfl⟩ := Int.eq_ofNat_of_zero_le (show 0 ≤ i by omega)
      refine lv_aload_n hx hb dX0_principal_13 rfl (lv_at hl 0 rfl) ?_
      refine z_iconst hx hb dX0_principal_14 ?_
      refine lv_iload_n hx hb dX0_principal_15 rfl (lv_at hl 1 rfl) ?_
      refine z_isub hx hb dX0_principal_16 ?_
      refine c0_i (As := [.int (iI (4 - (n1 : Int)))]) C hA hI (met0_coefficient l (4 - (n1 : Int)) z pr w v q u (by omega) hz) (cw0_coefficient C.2.2.2.2 ⟨Nat.le_of_ble_eq_true rfl, Nat.le_of_ble_eq_true rfl⟩) rfl hl.1 rfl (Nat.le_of_ble_eq_true rfl) dX0_principal_17 ⟨Nat.le_refl _, Nat.le_refl _⟩ (fun rc z_3 pr_3 w_3 v_3 q_3 u_3 H locs hp_3 hI => ?_)
      obtain ⟨hc, rfl⟩ := hp_3
      refine lv_istore_n (lv' := [(2, .int (iI rc)), (0, .ref (a 0)), (1, .int (iI (n1 : Int)))]) hx hb dX0_principal_20 rfl hl (by decide) rfl (fun ls hl => ?_)
      refine lv_iload_n hx hb dX0_principal_21 rfl (lv_at hl 2 rfl) ?_
      refine z_iconst hx hb dX0_principal_22 ?_
      refine z_iand hx hb ((n1 % 2 : Nat) : Int) dX0_principal_23 (iI_and1 (by omega)) ?_
      refine z_if_ne hx hb 31 dX0_principal_24 (by decide) (by omega) (fun c_4 => ?_) (fun c_4 => ?_)
      · refine lv_iload_n hx hb dX0_principal_31 rfl (lv_at hl 0 rfl) ?_
        refine z_ineg hx hb dX0_principal_32 ?_
        exact r0_i C hr hlocks hI (⟨by unfold an_prin; rw [if_pos (by omega), Int.toNat_natCast, (es_cf (by omega)).2 (by omega), hc], rfl⟩) dX0_principal_33
      · refine lv_iload_n hx hb dX0_principal_27 rfl (lv_at hl 0 rfl) ?_
        refine lv_goto (tgt := 33) hx hb dX0_principal_28 (by decide) ?_
        exact r0_i C hr hlocks hI (⟨by unfold an_prin; rw [if_pos (by omega), Int.toNat_natCast, (es_cf (by omega)).1 (by omega), hc], rfl⟩) dX0_principal_33
    · refine z_ldc hx hb (-1000000000) C.2.2.2.1 (C.2.2.2.2 _ q72) (by decide +kernel) dX0_principal_10 ?_
      exact r0_i C hr hlocks hI (⟨by unfold an_prin; rw [if_neg (by omega)]; rfl, rfl⟩) dX0_principal_12
end
section
set_option maxRecDepth 100000
abbrev zz0 : Nat → Int := fun _ => 0
abbrev f0_0 : List Value := [.null, .int (iI 0), .null, .null, .null, .null]
abbrev f1_0 : List Value := [.null, .null, .null]
abbrev rm0_init : Room := { frames := 1, cells := 5, slots := 55, locals := 12 }
abbrev rm1_init : Room := { frames := 1, cells := 3, slots := 72, locals := 12 }
abbrev SI : Type := (Nat → Nat) × (Nat → ClassId)
abbrev BI0 (D : va_G) (A : Nat → Prop) (h0 : Nat) (S : SI) (t : State) : Prop := S.1 0 = h0 ∧ va_P D vwCl (w0 S.1 S.2 zz0 0 zz0 zz0 zz0 zz0) t.heap ∧ va_K D vwCl (ty0 S.2) t ∧ va_D A (w0 S.1 S.2 zz0 0 zz0 zz0 zz0 zz0)
abbrev BI1 (D : va_G) (A : Nat → Prop) (h0 : Nat) (S : SI) (t : State) : Prop := S.1 0 = h0 ∧ va_P D vwCl (w1 S.1 S.2 zz0 zz0 zz0) t.heap ∧ va_K D vwCl (ty1 S.2) t ∧ va_D A (w1 S.1 S.2 zz0 zz0 zz0)
set_option maxHeartbeats 4000000 in
set_option maxRecDepth 100000 in
theorem met0_init (l : Launch) (D : va_G) (h0 sz : Nat) : Met l yX0_init (ws_ yX0_init cX0_init 1 none) rm0_init (va_Pc [.ref h0] (fun U => U.heap.size = sz ∧ va_P D vwCl [(h0, .inr (0, f0_0))] U.heap ∧ va_K D vwCl [] U ∧ va_D (fun _ => True) [(h0, .inr (0, f0_0))])) (va_Qv (fun _ : SI => True) (fun S t => BI0 D (va_A [(h0, .inr (0, f0_0))] sz) h0 S t) (va_A [(h0, .inr (0, f0_0))] sz)) 5 55 (va_A [(h0, .inr (0, f0_0))] sz) := by
  refine Met.ofW (cc := cX0_init) (maxL := 1) (ret := none) (by decide) rfl ?_
  intro p e s m args below meth c s₁ B hml hv
  obtain ⟨rfl, hsz, hP, hK, hD0⟩ := hv
  have hx := B.exec
  have hb := B.bytes
  have hr := B.returns
  have hts := atoms_spec (ws := ws_ yX0_init cX0_init 1 none) B.pre
  have hts : ∀ w ∈ lw_all, w.before _ s = true := fun w h => hts w (List.mem_cons_of_mem _ h)
  have hown : s.vm.findClass RX0 = some m.cls := findClass_of_methodNamed B.named
  have hlocks := B.notSynchronized
  have hin : meth.name = "<init>" := (name_of_methodNamed B.named B.method).1
  subst hsz
  have hD := hD0.self (sz := s.heap.size)
  generalize hAe : va_A [(h0, .inr (0, f0_0))] s.heap.size = A at hD ⊢
  have hA : ∀ q : Nat, s.heap.size ≤ q → A q := fun q h => by rw [← hAe]; exact Or.inr h
  have hS : va_S A s.heap s.heap [] := va_S.rf
  have hP : va_P D vwCl [(h0, .inr (0, f0_0))] s.heap := hP
  have hl := lv_entry ([.ref h0]) (n := 1) (Nat.le_of_ble_eq_true rfl)
  rw [lg_entry_eq]
  generalize (lg_sl ([.ref h0]) ++ List.replicate (1 - (lg_sl ([.ref h0])).length) Slot.unset).toArray = ls at hl ⊢
  have hl : lv_has ls 1 [(0, .ref h0)] := hl
  refine lv_aload_n hx hb dX0_init_0 rfl (lv_at hl 0 rfl) ?_
  refine W.objInit hx hb hown (hts _ q34) (hts _ q35) (hts _ q36) rfl (by rw [hml]; exact hl.1) rfl dX0_init_1 (Nat.le_of_ble_eq_true rfl) (Nat.le_of_ble_eq_true rfl) ?_
  refine W.eq (g2 := F0 m 4 ls []) rfl ?_
  refine lv_aload_n hx hb dX0_init_4 rfl (lv_at hl 0 rfl) ?_
  refine z_bipush hx hb dX0_init_5 (by decide +kernel) ?_
  refine va_newa (atype := .byte) (N' := 20) (a0 := (20, .inl fun j => iI (zz0 j))) hx hb (hts _ q56) (ty := .byte) rfl hK hP hD hS hA (fun _ => rfl) (by decide +kernel) (by decide +kernel) (by decide) (Nat.le_of_ble_eq_true rfl) (Nat.le_of_ble_eq_true rfl) dX0_init_7 (fun q_1 c_1 H hK hP hD hS => ?_)
  have hK : va_K D vwCl [(c_1, .byte)] s := hK
  have hP : va_P D vwCl [(h0, .inr (0, [.null, .int (iI 0), .null, .null, .null, .null])), (q_1, .inl (c_1, 20, .inl fun j => iI (zz0 j)))] H := hP
  have hD : va_D A [(h0, .inr (0, [.null, .int (iI 0), .null, .null, .null, .null])), (q_1, .inl (c_1, 20, .inl fun j => iI (zz0 j)))] := hD
  refine va_putF (D := D) (ci := 0) (v := .ref q_1) (ty := .array .byte) (C := RX0) (T := TX0) (N := 6) hx hb hts in_X0 tyX0 tyX0_ok nmX0 hown hK hP hD hS 0 rfl rfl 0 (by decide) (hts _ q37) (fun _ h9 => h9) rfl hin rfl (by decide +kernel) rfl rfl (Nat.le_of_ble_eq_true rfl) dX0_init_9 (fun H locs hP hD hS => ?_)
  have hP : va_P D vwCl [(h0, .inr (0, [.ref q_1, .int (iI 0), .null, .null, .null, .null])), (q_1, .inl (c_1, 20, .inl fun j => iI (zz0 j)))] H := hP
  have hD : va_D A [(h0, .inr (0, [.ref q_1, .int (iI 0), .null, .null, .null, .null])), (q_1, .inl (c_1, 20, .inl fun j => iI (zz0 j)))] := hD
  refine lv_aload_n hx hb dX0_init_12 rfl (lv_at hl 0 rfl) ?_
  refine z_bipush hx hb dX0_init_13 (by decide +kernel) ?_
  refine va_newa (atype := .int) (N' := 20) (a0 := (20, .inl fun j => iI (zz0 j))) hx hb (hts _ q57) (ty := .int) rfl hK hP hD hS hA (fun _ => rfl) (by decide +kernel) (by decide +kernel) (by decide) (Nat.le_of_ble_eq_true rfl) (Nat.le_of_ble_eq_true rfl) dX0_init_15 (fun q_2 c_2 H hK hP hD hS => ?_)
  have hK : va_K D vwCl [(c_1, .byte), (c_2, .int)] s := hK
  have hP : va_P D vwCl [(h0, .inr (0, [.ref q_1, .int (iI 0), .null, .null, .null, .null])), (q_1, .inl (c_1, 20, .inl fun j => iI (zz0 j))), (q_2, .inl (c_2, 20, .inl fun j => iI (zz0 j)))] H := hP
  have hD : va_D A [(h0, .inr (0, [.ref q_1, .int (iI 0), .null, .null, .null, .null])), (q_1, .inl (c_1, 20, .inl fun j => iI (zz0 j))), (q_2, .inl (c_2, 20, .inl fun j => iI (zz0 j)))] := hD
  refine va_putF (D := D) (ci := 0) (v := .ref q_2) (ty := .array .int) (C := RX0) (T := TX0) (N := 6) hx hb hts in_X0 tyX0 tyX0_ok nmX0 hown hK hP hD hS 0 rfl rfl 2 (by decide) (hts _ q39) (fun _ h9 => h9) rfl hin rfl (by decide +kernel) rfl rfl (Nat.le_of_ble_eq_true rfl) dX0_init_17 (fun H locs hP hD hS => ?_)
  have hP : va_P D vwCl [(h0, .inr (0, [.ref q_1, .int (iI 0), .ref q_2, .null, .null, .null])), (q_1, .inl (c_1, 20, .inl fun j => iI (zz0 j))), (q_2, .inl (c_2, 20, .inl fun j => iI (zz0 j)))] H := hP
  have hD : va_D A [(h0, .inr (0, [.ref q_1, .int (iI 0), .ref q_2, .null, .null, .null])), (q_1, .inl (c_1, 20, .inl fun j => iI (zz0 j))), (q_2, .inl (c_2, 20, .inl fun j => iI (zz0 j)))] := hD
  refine lv_aload_n hx hb dX0_init_20 rfl (lv_at hl 0 rfl) ?_
  refine z_iconst hx hb dX0_init_21 ?_
  refine va_newa (atype := .int) (N' := 5) (a0 := (5, .inl fun j => iI (zz0 j))) hx hb (hts _ q57) (ty := .int) rfl hK hP hD hS hA (fun _ => rfl) (by decide +kernel) (by decide +kernel) (by decide) (Nat.le_of_ble_eq_true rfl) (Nat.le_of_ble_eq_true rfl) dX0_init_22 (fun q_3 c_3 H hK hP hD hS => ?_)
  have hK : va_K D vwCl [(c_1, .byte), (c_2, .int), (c_3, .int)] s := hK
  have hP : va_P D vwCl [(h0, .inr (0, [.ref q_1, .int (iI 0), .ref q_2, .null, .null, .null])), (q_1, .inl (c_1, 20, .inl fun j => iI (zz0 j))), (q_2, .inl (c_2, 20, .inl fun j => iI (zz0 j))), (q_3, .inl (c_3, 5, .inl fun j => iI (zz0 j)))] H := hP
  have hD : va_D A [(h0, .inr (0, [.ref q_1, .int (iI 0), .ref q_2, .null, .null, .null])), (q_1, .inl (c_1, 20, .inl fun j => iI (zz0 j))), (q_2, .inl (c_2, 20, .inl fun j => iI (zz0 j))), (q_3, .inl (c_3, 5, .inl fun j => iI (zz0 j)))] := hD
  refine va_putF (D := D) (ci := 0) (v := .ref q_3) (ty := .array .int) (C := RX0) (T := TX0) (N := 6) hx hb hts in_X0 tyX0 tyX0_ok nmX0 hown hK hP hD hS 0 rfl rfl 3 (by decide) (hts _ q40) (fun _ h9 => h9) rfl hin rfl (by decide +kernel) rfl rfl (Nat.le_of_ble_eq_true rfl) dX0_init_24 (fun H locs hP hD hS => ?_)
  have hP : va_P D vwCl [(h0, .inr (0, [.ref q_1, .int (iI 0), .ref q_2, .ref q_3, .null, .null])), (q_1, .inl (c_1, 20, .inl fun j => iI (zz0 j))), (q_2, .inl (c_2, 20, .inl fun j => iI (zz0 j))), (q_3, .inl (c_3, 5, .inl fun j => iI (zz0 j)))] H := hP
  have hD : va_D A [(h0, .inr (0, [.ref q_1, .int (iI 0), .ref q_2, .ref q_3, .null, .null])), (q_1, .inl (c_1, 20, .inl fun j => iI (zz0 j))), (q_2, .inl (c_2, 20, .inl fun j => iI (zz0 j))), (q_3, .inl (c_3, 5, .inl fun j => iI (zz0 j)))] := hD
  refine lv_aload_n hx hb dX0_init_27 rfl (lv_at hl 0 rfl) ?_
  refine z_iconst hx hb dX0_init_28 ?_
  refine va_newa (atype := .int) (N' := 5) (a0 := (5, .inl fun j => iI (zz0 j))) hx hb (hts _ q57) (ty := .int) rfl hK hP hD hS hA (fun _ => rfl) (by decide +kernel) (by decide +kernel) (by decide) (Nat.le_of_ble_eq_true rfl) (Nat.le_of_ble_eq_true rfl) dX0_init_29 (fun q_4 c_4 H hK hP hD hS => ?_)
  have hK : va_K D vwCl [(c_1, .byte), (c_2, .int), (c_3, .int), (c_4, .int)] s := hK
  have hP : va_P D vwCl [(h0, .inr (0, [.ref q_1, .int (iI 0), .ref q_2, .ref q_3, .null, .null])), (q_1, .inl (c_1, 20, .inl fun j => iI (zz0 j))), (q_2, .inl (c_2, 20, .inl fun j => iI (zz0 j))), (q_3, .inl (c_3, 5, .inl fun j => iI (zz0 j))), (q_4, .inl (c_4, 5, .inl fun j => iI (zz0 j)))] H := hP
  have hD : va_D A [(h0, .inr (0, [.ref q_1, .int (iI 0), .ref q_2, .ref q_3, .null, .null])), (q_1, .inl (c_1, 20, .inl fun j => iI (zz0 j))), (q_2, .inl (c_2, 20, .inl fun j => iI (zz0 j))), (q_3, .inl (c_3, 5, .inl fun j => iI (zz0 j))), (q_4, .inl (c_4, 5, .inl fun j => iI (zz0 j)))] := hD
  refine va_putF (D := D) (ci := 0) (v := .ref q_4) (ty := .array .int) (C := RX0) (T := TX0) (N := 6) hx hb hts in_X0 tyX0 tyX0_ok nmX0 hown hK hP hD hS 0 rfl rfl 4 (by decide) (hts _ q41) (fun _ h9 => h9) rfl hin rfl (by decide +kernel) rfl rfl (Nat.le_of_ble_eq_true rfl) dX0_init_31 (fun H locs hP hD hS => ?_)
  have hP : va_P D vwCl [(h0, .inr (0, [.ref q_1, .int (iI 0), .ref q_2, .ref q_3, .ref q_4, .null])), (q_1, .inl (c_1, 20, .inl fun j => iI (zz0 j))), (q_2, .inl (c_2, 20, .inl fun j => iI (zz0 j))), (q_3, .inl (c_3, 5, .inl fun j => iI (zz0 j))), (q_4, .inl (c_4, 5, .inl fun j => iI (zz0 j)))] H := hP
  have hD : va_D A [(h0, .inr (0, [.ref q_1, .int (iI 0), .ref q_2, .ref q_3, .ref q_4, .null])), (q_1, .inl (c_1, 20, .inl fun j => iI (zz0 j))), (q_2, .inl (c_2, 20, .inl fun j => iI (zz0 j))), (q_3, .inl (c_3, 5, .inl fun j => iI (zz0 j))), (q_4, .inl (c_4, 5, .inl fun j => iI (zz0 j)))] := hD
  refine lv_aload_n hx hb dX0_init_34 rfl (lv_at hl 0 rfl) ?_
  refine z_iconst hx hb dX0_init_35 ?_
  refine va_newa (atype := .int) (N' := 5) (a0 := (5, .inl fun j => iI (zz0 j))) hx hb (hts _ q57) (ty := .int) rfl hK hP hD hS hA (fun _ => rfl) (by decide +kernel) (by decide +kernel) (by decide) (Nat.le_of_ble_eq_true rfl) (Nat.le_of_ble_eq_true rfl) dX0_init_36 (fun q_5 c_5 H hK hP hD hS => ?_)
  have hK : va_K D vwCl [(c_1, .byte), (c_2, .int), (c_3, .int), (c_4, .int), (c_5, .int)] s := hK
  have hP : va_P D vwCl [(h0, .inr (0, [.ref q_1, .int (iI 0), .ref q_2, .ref q_3, .ref q_4, .null])), (q_1, .inl (c_1, 20, .inl fun j => iI (zz0 j))), (q_2, .inl (c_2, 20, .inl fun j => iI (zz0 j))), (q_3, .inl (c_3, 5, .inl fun j => iI (zz0 j))), (q_4, .inl (c_4, 5, .inl fun j => iI (zz0 j))), (q_5, .inl (c_5, 5, .inl fun j => iI (zz0 j)))] H := hP
  have hD : va_D A [(h0, .inr (0, [.ref q_1, .int (iI 0), .ref q_2, .ref q_3, .ref q_4, .null])), (q_1, .inl (c_1, 20, .inl fun j => iI (zz0 j))), (q_2, .inl (c_2, 20, .inl fun j => iI (zz0 j))), (q_3, .inl (c_3, 5, .inl fun j => iI (zz0 j))), (q_4, .inl (c_4, 5, .inl fun j => iI (zz0 j))), (q_5, .inl (c_5, 5, .inl fun j => iI (zz0 j)))] := hD
  refine va_putF (D := D) (ci := 0) (v := .ref q_5) (ty := .array .int) (C := RX0) (T := TX0) (N := 6) hx hb hts in_X0 tyX0 tyX0_ok nmX0 hown hK hP hD hS 0 rfl rfl 5 (by decide) (hts _ q42) (fun _ h9 => h9) rfl hin rfl (by decide +kernel) rfl rfl (Nat.le_of_ble_eq_true rfl) dX0_init_38 (fun H locs hP hD hS => ?_)
  have hP : va_P D vwCl [(h0, .inr (0, [.ref q_1, .int (iI 0), .ref q_2, .ref q_3, .ref q_4, .ref q_5])), (q_1, .inl (c_1, 20, .inl fun j => iI (zz0 j))), (q_2, .inl (c_2, 20, .inl fun j => iI (zz0 j))), (q_3, .inl (c_3, 5, .inl fun j => iI (zz0 j))), (q_4, .inl (c_4, 5, .inl fun j => iI (zz0 j))), (q_5, .inl (c_5, 5, .inl fun j => iI (zz0 j)))] H := hP
  have hD : va_D A [(h0, .inr (0, [.ref q_1, .int (iI 0), .ref q_2, .ref q_3, .ref q_4, .ref q_5])), (q_1, .inl (c_1, 20, .inl fun j => iI (zz0 j))), (q_2, .inl (c_2, 20, .inl fun j => iI (zz0 j))), (q_3, .inl (c_3, 5, .inl fun j => iI (zz0 j))), (q_4, .inl (c_4, 5, .inl fun j => iI (zz0 j))), (q_5, .inl (c_5, 5, .inl fun j => iI (zz0 j)))] := hD
  refine W.widen (k := 5) (n := 55) (Nat.le_of_ble_eq_true rfl) (Nat.le_of_ble_eq_true rfl) ?_
  exact W.vret hx hb hr (fun t ht hW => ⟨⟨(fun k => match k with | 0 => h0 | 1 => q_1 | 2 => q_2 | 3 => q_3 | 4 => q_4 | _ => q_5, fun k => match k with | 0 => c_1 | 1 => c_1 | 2 => c_2 | 3 => c_3 | 4 => c_4 | _ => c_5), rfl, trivial, rfl, by rw [ht]; exact hP, va_K.moved hW.alike hK, hD⟩, hS.F ht⟩) hS.2.2 dX0_init_41 hlocks
set_option maxHeartbeats 4000000 in
set_option maxRecDepth 100000 in
theorem met1_init (l : Launch) (D : va_G) (h0 sz : Nat) : Met l yX1_init (ws_ yX1_init cX1_init 1 none) rm1_init (va_Pc [.ref h0] (fun U => U.heap.size = sz ∧ va_P D vwCl [(h0, .inr (1, f1_0))] U.heap ∧ va_K D vwCl [] U ∧ va_D (fun _ => True) [(h0, .inr (1, f1_0))])) (va_Qv (fun _ : SI => True) (fun S t => BI1 D (va_A [(h0, .inr (1, f1_0))] sz) h0 S t) (va_A [(h0, .inr (1, f1_0))] sz)) 3 72 (va_A [(h0, .inr (1, f1_0))] sz) := by
  refine Met.ofW (cc := cX1_init) (maxL := 1) (ret := none) (by decide) rfl ?_
  intro p e s m args below meth c s₁ B hml hv
  obtain ⟨rfl, hsz, hP, hK, hD0⟩ := hv
  have hx := B.exec
  have hb := B.bytes
  have hr := B.returns
  have hts := atoms_spec (ws := ws_ yX1_init cX1_init 1 none) B.pre
  have hts : ∀ w ∈ lw_all, w.before _ s = true := fun w h => hts w (List.mem_cons_of_mem _ h)
  have hown : s.vm.findClass RX1 = some m.cls := findClass_of_methodNamed B.named
  have hlocks := B.notSynchronized
  have hin : meth.name = "<init>" := (name_of_methodNamed B.named B.method).1
  subst hsz
  have hD := hD0.self (sz := s.heap.size)
  generalize hAe : va_A [(h0, .inr (1, f1_0))] s.heap.size = A at hD ⊢
  have hA : ∀ q : Nat, s.heap.size ≤ q → A q := fun q h => by rw [← hAe]; exact Or.inr h
  have hS : va_S A s.heap s.heap [] := va_S.rf
  have hP : va_P D vwCl [(h0, .inr (1, f1_0))] s.heap := hP
  have hl := lv_entry ([.ref h0]) (n := 1) (Nat.le_of_ble_eq_true rfl)
  rw [lg_entry_eq]
  generalize (lg_sl ([.ref h0]) ++ List.replicate (1 - (lg_sl ([.ref h0])).length) Slot.unset).toArray = ls at hl ⊢
  have hl : lv_has ls 1 [(0, .ref h0)] := hl
  refine lv_aload_n hx hb dX1_init_0 rfl (lv_at hl 0 rfl) ?_
  refine W.objInit hx hb hown (hts _ q206) (hts _ q35) (hts _ q36) rfl (by rw [hml]; exact hl.1) rfl dX1_init_1 (Nat.le_of_ble_eq_true rfl) (Nat.le_of_ble_eq_true rfl) ?_
  refine W.eq (g2 := F0 m 4 ls []) rfl ?_
  refine lv_aload_n hx hb dX1_init_4 rfl (lv_at hl 0 rfl) ?_
  refine z_bipush hx hb dX1_init_5 (by decide +kernel) ?_
  refine va_newa (atype := .int) (N' := 20) (a0 := (20, .inl fun j => iI (zz0 j))) hx hb (hts _ q57) (ty := .int) rfl hK hP hD hS hA (fun _ => rfl) (by decide +kernel) (by decide +kernel) (by decide) (Nat.le_of_ble_eq_true rfl) (Nat.le_of_ble_eq_true rfl) dX1_init_7 (fun q_1 c_1 H hK hP hD hS => ?_)
  have hK : va_K D vwCl [(c_1, .int)] s := hK
  have hP : va_P D vwCl [(h0, .inr (1, [.null, .null, .null])), (q_1, .inl (c_1, 20, .inl fun j => iI (zz0 j)))] H := hP
  have hD : va_D A [(h0, .inr (1, [.null, .null, .null])), (q_1, .inl (c_1, 20, .inl fun j => iI (zz0 j)))] := hD
  refine va_put (D := D) (ci := 1) (v := .ref q_1) (ty := .array .int) (C := RX1) (T := TX1) (N := 3) hx hb hts in_X1 tyX1 tyX1_ok nmX1 hown hK hP hD hS 0 rfl rfl 0 (by decide) (hts _ q207) (fun _ h9 => h9) rfl (by decide +kernel) rfl rfl (Nat.le_of_ble_eq_true rfl) dX1_init_9 (fun H locs hP hD hS => ?_)
  have hP : va_P D vwCl [(h0, .inr (1, [.ref q_1, .null, .null])), (q_1, .inl (c_1, 20, .inl fun j => iI (zz0 j)))] H := hP
  have hD : va_D A [(h0, .inr (1, [.ref q_1, .null, .null])), (q_1, .inl (c_1, 20, .inl fun j => iI (zz0 j)))] := hD
  refine lv_aload_n hx hb dX1_init_12 rfl (lv_at hl 0 rfl) ?_
  refine z_bipush hx hb dX1_init_13 (by decide +kernel) ?_
  refine va_newa (atype := .int) (N' := 20) (a0 := (20, .inl fun j => iI (zz0 j))) hx hb (hts _ q57) (ty := .int) rfl hK hP hD hS hA (fun _ => rfl) (by decide +kernel) (by decide +kernel) (by decide) (Nat.le_of_ble_eq_true rfl) (Nat.le_of_ble_eq_true rfl) dX1_init_15 (fun q_2 c_2 H hK hP hD hS => ?_)
  have hK : va_K D vwCl [(c_1, .int), (c_2, .int)] s := hK
  have hP : va_P D vwCl [(h0, .inr (1, [.ref q_1, .null, .null])), (q_1, .inl (c_1, 20, .inl fun j => iI (zz0 j))), (q_2, .inl (c_2, 20, .inl fun j => iI (zz0 j)))] H := hP
  have hD : va_D A [(h0, .inr (1, [.ref q_1, .null, .null])), (q_1, .inl (c_1, 20, .inl fun j => iI (zz0 j))), (q_2, .inl (c_2, 20, .inl fun j => iI (zz0 j)))] := hD
  refine va_put (D := D) (ci := 1) (v := .ref q_2) (ty := .array .int) (C := RX1) (T := TX1) (N := 3) hx hb hts in_X1 tyX1 tyX1_ok nmX1 hown hK hP hD hS 0 rfl rfl 1 (by decide) (hts _ q208) (fun _ h9 => h9) rfl (by decide +kernel) rfl rfl (Nat.le_of_ble_eq_true rfl) dX1_init_17 (fun H locs hP hD hS => ?_)
  have hP : va_P D vwCl [(h0, .inr (1, [.ref q_1, .ref q_2, .null])), (q_1, .inl (c_1, 20, .inl fun j => iI (zz0 j))), (q_2, .inl (c_2, 20, .inl fun j => iI (zz0 j)))] H := hP
  have hD : va_D A [(h0, .inr (1, [.ref q_1, .ref q_2, .null])), (q_1, .inl (c_1, 20, .inl fun j => iI (zz0 j))), (q_2, .inl (c_2, 20, .inl fun j => iI (zz0 j)))] := hD
  refine lv_aload_n hx hb dX1_init_20 rfl (lv_at hl 0 rfl) ?_
  refine z_bipush hx hb dX1_init_21 (by decide +kernel) ?_
  refine va_newa (atype := .long) (N' := 32) (a0 := (32, .inr (.inl fun j => iL (zz0 j)))) hx hb (hts _ q217) (ty := .long) rfl hK hP hD hS hA (fun _ => rfl) (by decide +kernel) (by decide +kernel) (by decide) (Nat.le_of_ble_eq_true rfl) (Nat.le_of_ble_eq_true rfl) dX1_init_23 (fun q_3 c_3 H hK hP hD hS => ?_)
  have hK : va_K D vwCl [(c_1, .int), (c_2, .int), (c_3, .long)] s := hK
  have hP : va_P D vwCl [(h0, .inr (1, [.ref q_1, .ref q_2, .null])), (q_1, .inl (c_1, 20, .inl fun j => iI (zz0 j))), (q_2, .inl (c_2, 20, .inl fun j => iI (zz0 j))), (q_3, .inl (c_3, 32, .inr (.inl fun j => iL (zz0 j))))] H := hP
  have hD : va_D A [(h0, .inr (1, [.ref q_1, .ref q_2, .null])), (q_1, .inl (c_1, 20, .inl fun j => iI (zz0 j))), (q_2, .inl (c_2, 20, .inl fun j => iI (zz0 j))), (q_3, .inl (c_3, 32, .inr (.inl fun j => iL (zz0 j))))] := hD
  refine va_put (D := D) (ci := 1) (v := .ref q_3) (ty := .array .long) (C := RX1) (T := TX1) (N := 3) hx hb hts in_X1 tyX1 tyX1_ok nmX1 hown hK hP hD hS 0 rfl rfl 2 (by decide) (hts _ q209) (fun _ h9 => h9) rfl (by decide +kernel) rfl rfl (Nat.le_of_ble_eq_true rfl) dX1_init_25 (fun H locs hP hD hS => ?_)
  have hP : va_P D vwCl [(h0, .inr (1, [.ref q_1, .ref q_2, .ref q_3])), (q_1, .inl (c_1, 20, .inl fun j => iI (zz0 j))), (q_2, .inl (c_2, 20, .inl fun j => iI (zz0 j))), (q_3, .inl (c_3, 32, .inr (.inl fun j => iL (zz0 j))))] H := hP
  have hD : va_D A [(h0, .inr (1, [.ref q_1, .ref q_2, .ref q_3])), (q_1, .inl (c_1, 20, .inl fun j => iI (zz0 j))), (q_2, .inl (c_2, 20, .inl fun j => iI (zz0 j))), (q_3, .inl (c_3, 32, .inr (.inl fun j => iL (zz0 j))))] := hD
  refine W.widen (k := 3) (n := 72) (Nat.le_of_ble_eq_true rfl) (Nat.le_of_ble_eq_true rfl) ?_
  exact W.vret hx hb hr (fun t ht hW => ⟨⟨(fun k => match k with | 0 => h0 | 1 => q_1 | 2 => q_2 | _ => q_3, fun k => match k with | 0 => c_1 | 1 => c_1 | 2 => c_2 | _ => c_3), rfl, trivial, rfl, by rw [ht]; exact hP, va_K.moved hW.alike hK, hD⟩, hS.F ht⟩) hS.2.2 dX1_init_28 hlocks
end
section
/-! THE CLAIM OUT OF ONE WALK OF THE LAW'S BODY. Your part is whole_start (and what it stands on); all else here is the same for every law, but numbers. -/
def R_law : String := "DeterminantDeskLaw"
def lw_P (b : Addr) (xs : List Int32) (args : Array Value) (s : State) : Prop := args = #[.ref b] ∧ s.IntsAt b xs ∧ xs.length ≤ 256 ∧ (Jvm.Cond.and given_1 narrow_1).before args s = true
def lw_Q (_ : Array Value) (s : State) (o : Outcome) (t : State) : Prop := o = .returned (some (.int 1)) ∧ Framed s o t [] 600000 7290000
def lw_Z (below : List Frame) (a : Array Value) (s : State) : State → Prop := fun t => ∃ o, t.status = .running ∧ Ended t below o ∧ lw_Q a s o t
/-- the law's own end, with 1 on the stack, nothing written that was there before, its room as the claim has it -/
theorem lw_ret {p : Program} {l : Launch} {e : Env} {s : State} {m : MethodId} {below : List Frame} {meth : Method} {c : Code} {b : Nat} (hx : p.tables.exec = Jvm.exec) (hb : c.code = code) (hr : meth.sig.returnType = ret) (hlocks : meth.locks = false) {pc : Nat} {H : Heap} {ls : Array Slot} (hdg : decode code pc = .ok (.ireturn, 1)) : W p l e room_1 s m #[Value.ref b] below meth c H [] 600000 7290000 (lw_Z below #[Value.ref b] s) (F0 m pc ls [.int 1]) := by
  intro T hT X
  obtain ⟨fs, hret, hrun, hended, hW, hframe⟩ := X.leave (v := some (.int 1)) (hlocks := hlocks) (fun h => by rw [hr] at h; cases h)
  have hmeth' : T.vm.method? m = some meth := X.method'
  refine ⟨T.setFrames fs, ?_, .returned (some (.int 1)), hrun, hended, rfl, ⟨_, rfl⟩, hW, hframe⟩
  jvm_step X.here [X.here.top, hx, hb, hdg, hmeth', hr, ret, narrow_b1]
  (try refine ⟨rfl, ?_⟩); (try refine ⟨rfl, ?_⟩)
  first | (intro acts; rw [hret _ acts rfl rfl rfl]) | rw [hret _ _ rfl rfl rfl]
  exact Steps.refl _
/-- what holds at the law's entry: the machine, the code, the tables' words (any of lw_tbl by 'hts w (by decide +kernel)'), the script of L ints xs at the cell b, what the Statement gives of the start (any of its parts by flat_of_before) -/
def lw_At (p : Program) (s : State) (m : MethodId) (meth : Method) (c : Code) (b L : Nat) (xs : Nat → Int32) : Prop :=
  p.tables.exec = Jvm.exec ∧ c.code = code ∧ meth.sig.returnType = ret ∧ c.maxLocals = 4 ∧ s.vm.findClass R_law = some m.cls ∧ (∀ w ∈ lw_tbl, w.before #[Value.ref b] s = true) ∧ va_X b L xs s s.heap ∧ b < s.heap.size ∧ meth.locks = false ∧ (Jvm.Cond.and given_1 narrow_1).before #[Value.ref b] s = true
end
section
set_option maxRecDepth 100000
/-- both objects in one world -/
def IL (D : va_G) (A : Nat → Prop) (s : State) (a : Nat → Nat) (ca : Nat → ClassId) (d : Nat → Nat) (cd : Nat → ClassId) (z : Nat → Int) (pr : Int) (w : Nat → Int) (v : Nat → Int) (q : Nat → Int) (u : Nat → Int) (zm : Nat → Int) (kp : Nat → Int) (t : Nat → Int) (H : Heap) (locs : List Loc) : Prop := va_P D vwCl (w0 a ca z pr w v q u ++ w1 d cd zm kp t) H ∧ va_D A (w0 a ca z pr w v q u ++ w1 d cd zm kp t) ∧ va_S A s.heap H locs ∧ va_K D vwCl (ty0 ca ++ ty1 cd) s
section LK
variable {p : Program} {l : Launch} {e : Env} {R : Room} {s : State} {m : MethodId} {args : Array Value} {below : List Frame} {meth : Method} {c : Code} {H : Heap} {locs : List Loc} {cells slots : Nat} {Q : State → Prop}
variable {cc : ByteArray} {pc nL : Nat} {ls : Array Slot} {rest st0 : List Value} {D : va_G} {A : Nat → Prop} {a : Nat → Nat} {ca : Nat → ClassId} {d : Nat → Nat} {cd : Nat → ClassId} {z : Nat → Int} {pr : Int} {w : Nat → Int} {v : Nat → Int} {q : Nat → Int} {u : Nat → Int} {zm : Nat → Int} {kp : Nat → Int} {t : Nat → Int}
theorem cL0_i {y : MethodName} {bytes : ByteArray} {maxL n index : Nat} {ret : Option FieldType} {rm : Room} {As : List Value} {post : Int → (Nat → Int) → Int → (Nat → Int) → (Nat → Int) → (Nat → Int) → (Nat → Int) → Prop} (C : CallFix p m c cc nL s args lw_all "DeterminantDeskLaw") (hA : ∀ q9 : Nat, s.heap.size ≤ q9 → A q9) (hI : IL D A s a ca d cd z pr w v q u zm kp t H locs) (hM : M0i l y bytes maxL ret rm As z pr w v q u post)
    (cw : CallW R s args "DeterminantDeskLaw" RX0 index y bytes maxL ret (ws_ y bytes maxL ret) rm 0 0 n) (hn : As.length = n) (hsz : ls.size = nL) (hst : st0 = As.reverse ++ .ref (a 0) :: rest) (hroom : (rest.map fun v => v.category).sum ≤ 8) (hdg : decode cc pc = .ok (.invokevirtual index, 3)) (hcs : cells ≤ R.cells ∧ slots ≤ R.slots)
    (kk : ∀ (i_ : Int) (z_ : Nat → Int) (pr_ : Int) (w_ : Nat → Int) (v_ : Nat → Int) (q_ : Nat → Int) (u_ : Nat → Int) (H1 : Heap) (locs1 : List Loc), post i_ z_ pr_ w_ v_ q_ u_ → IL D A s a ca d cd z_ pr_ w_ v_ q_ u_ zm kp t H1 locs1 → W p l e R s m args below meth c H1 locs1 cells slots Q (F0 m (pc + 3) ls (.int (iI i_) :: rest))) : W p l e R s m args below meth c H locs cells slots Q (F0 m pc ls st0) := by
  obtain ⟨hP, hD, hS, hK⟩ := hI
  have hPc := hP.sub (ws' := w0 a ca z pr w v q u) [0, 1, 2, 3, 4, 5] rfl
  have hDc := hD.sub (ws' := w0 a ca z pr w v q u) [0, 1, 2, 3, 4, 5] (by decide) rfl
  have hKc := hK.sub (tys' := ty0 ca) [0, 1, 2, 3, 4] rfl
  have hFc := va_free (wc := w0 a ca z pr w v q u) hD hS hA [0, 1, 2, 3, 4, 5] rfl
  refine va_calli (va_runV (As := As) (rest := rest) C (hM D a ca H.size) cw ⟨fun a9 U g mk q => by obtain ⟨q0, q1, qP, qK, qD⟩ := q; exact ⟨q0, q1, qP, va_K.moved (u := U) (U := U.calling g mk a9) (Vm.Alike.refl U.vm) qK, qD⟩, va_recv hKc hPc (ci := 0) (q0 := 0) rfl rfl, fun U hU hW => ⟨rfl, by rw [hU], by rw [hU]; exact hPc, va_K.moved hW.alike hKc, hDc.weaken (fun _ _ _ _ => trivial)⟩⟩ rfl hn hsz hst (lv_room hroom) hdg hcs) hS (fun q9 _ h => hFc q9 h) hFc (fun r9 S t9 H1 locs1 ht hvm hw1 hB hz1 hk1 hS1 => ?_)
  obtain ⟨hP1, hK1, hD1⟩ := hB
  rw [ht] at hP1
  obtain ⟨rfl, hp⟩ := hw1
  obtain ⟨hP2, hD2⟩ := va_join (wr := w1 d cd zm kp t) (w1 := w0 a ca S.2.1 S.2.2.1 S.2.2.2.1 S.2.2.2.2.1 S.2.2.2.2.2.1 S.2.2.2.2.2.2) hP hD [0, 1, 2, 3, 4, 5] [6, 7, 8, 9] rfl rfl (by decide) (by decide) hk1 hFc hP1 hD1
  exact kk S.1 S.2.1 S.2.2.1 S.2.2.2.1 S.2.2.2.2.1 S.2.2.2.2.2.1 S.2.2.2.2.2.2 H1 locs1 hp ⟨hP2.sub [4, 5, 6, 7, 8, 9, 0, 1, 2, 3] rfl, hD2.sub [4, 5, 6, 7, 8, 9, 0, 1, 2, 3] (by decide) rfl, hS1, hK⟩
theorem cL0_v {y : MethodName} {bytes : ByteArray} {maxL n index : Nat} {ret : Option FieldType} {rm : Room} {As : List Value} {post : (Nat → Int) → Int → (Nat → Int) → (Nat → Int) → (Nat → Int) → (Nat → Int) → Prop} (C : CallFix p m c cc nL s args lw_all "DeterminantDeskLaw") (hA : ∀ q9 : Nat, s.heap.size ≤ q9 → A q9) (hI : IL D A s a ca d cd z pr w v q u zm kp t H locs) (hM : M0v l y bytes maxL ret rm As z pr w v q u post)
    (cw : CallW R s args "DeterminantDeskLaw" RX0 index y bytes maxL ret (ws_ y bytes maxL ret) rm 0 0 n) (hn : As.length = n) (hsz : ls.size = nL) (hst : st0 = As.reverse ++ .ref (a 0) :: rest) (hroom : (rest.map fun v => v.category).sum ≤ 8) (hdg : decode cc pc = .ok (.invokevirtual index, 3)) (hcs : cells ≤ R.cells ∧ slots ≤ R.slots)
    (kk : ∀ (z_ : Nat → Int) (pr_ : Int) (w_ : Nat → Int) (v_ : Nat → Int) (q_ : Nat → Int) (u_ : Nat → Int) (H1 : Heap) (locs1 : List Loc), post z_ pr_ w_ v_ q_ u_ → IL D A s a ca d cd z_ pr_ w_ v_ q_ u_ zm kp t H1 locs1 → W p l e R s m args below meth c H1 locs1 cells slots Q (F0 m (pc + 3) ls rest)) : W p l e R s m args below meth c H locs cells slots Q (F0 m pc ls st0) := by
  obtain ⟨hP, hD, hS, hK⟩ := hI
  have hPc := hP.sub (ws' := w0 a ca z pr w v q u) [0, 1, 2, 3, 4, 5] rfl
  have hDc := hD.sub (ws' := w0 a ca z pr w v q u) [0, 1, 2, 3, 4, 5] (by decide) rfl
  have hKc := hK.sub (tys' := ty0 ca) [0, 1, 2, 3, 4] rfl
  have hFc := va_free (wc := w0 a ca z pr w v q u) hD hS hA [0, 1, 2, 3, 4, 5] rfl
  refine va_callv (va_runV (As := As) (rest := rest) C (hM D a ca H.size) cw ⟨fun a9 U g mk q => by obtain ⟨q0, q1, qP, qK, qD⟩ := q; exact ⟨q0, q1, qP, va_K.moved (u := U) (U := U.calling g mk a9) (Vm.Alike.refl U.vm) qK, qD⟩, va_recv hKc hPc (ci := 0) (q0 := 0) rfl rfl, fun U hU hW => ⟨rfl, by rw [hU], by rw [hU]; exact hPc, va_K.moved hW.alike hKc, hDc.weaken (fun _ _ _ _ => trivial)⟩⟩ rfl hn hsz hst (lv_room hroom) hdg hcs) hS (fun q9 _ h => hFc q9 h) hFc (fun S t9 H1 locs1 ht hvm hw1 hB hz1 hk1 hS1 => ?_)
  obtain ⟨hP1, hK1, hD1⟩ := hB
  rw [ht] at hP1
  obtain ⟨hP2, hD2⟩ := va_join (wr := w1 d cd zm kp t) (w1 := w0 a ca S.1 S.2.1 S.2.2.1 S.2.2.2.1 S.2.2.2.2.1 S.2.2.2.2.2) hP hD [0, 1, 2, 3, 4, 5] [6, 7, 8, 9] rfl rfl (by decide) (by decide) hk1 hFc hP1 hD1
  exact kk S.1 S.2.1 S.2.2.1 S.2.2.2.1 S.2.2.2.2.1 S.2.2.2.2.2 H1 locs1 hw1 ⟨hP2.sub [4, 5, 6, 7, 8, 9, 0, 1, 2, 3] rfl, hD2.sub [4, 5, 6, 7, 8, 9, 0, 1, 2, 3] (by decide) rfl, hS1, hK⟩
theorem cL1_i {y : MethodName} {bytes : ByteArray} {maxL n index : Nat} {ret : Option FieldType} {rm : Room} {As : List Value} {post : Int → (Nat → Int) → (Nat → Int) → (Nat → Int) → Prop} (C : CallFix p m c cc nL s args lw_all "DeterminantDeskLaw") (hA : ∀ q9 : Nat, s.heap.size ≤ q9 → A q9) (hI : IL D A s a ca d cd z pr w v q u zm kp t H locs) (hM : M1i l y bytes maxL ret rm As zm kp t post)
    (cw : CallW R s args "DeterminantDeskLaw" RX1 index y bytes maxL ret (ws_ y bytes maxL ret) rm 0 0 n) (hn : As.length = n) (hsz : ls.size = nL) (hst : st0 = As.reverse ++ .ref (d 0) :: rest) (hroom : (rest.map fun v => v.category).sum ≤ 8) (hdg : decode cc pc = .ok (.invokevirtual index, 3)) (hcs : cells ≤ R.cells ∧ slots ≤ R.slots)
    (kk : ∀ (i_ : Int) (zm_ : Nat → Int) (kp_ : Nat → Int) (t_ : Nat → Int) (H1 : Heap) (locs1 : List Loc), post i_ zm_ kp_ t_ → IL D A s a ca d cd z pr w v q u zm_ kp_ t_ H1 locs1 → W p l e R s m args below meth c H1 locs1 cells slots Q (F0 m (pc + 3) ls (.int (iI i_) :: rest))) : W p l e R s m args below meth c H locs cells slots Q (F0 m pc ls st0) := by
  obtain ⟨hP, hD, hS, hK⟩ := hI
  have hPc := hP.sub (ws' := w1 d cd zm kp t) [6, 7, 8, 9] rfl
  have hDc := hD.sub (ws' := w1 d cd zm kp t) [6, 7, 8, 9] (by decide) rfl
  have hKc := hK.sub (tys' := ty1 cd) [5, 6, 7] rfl
  have hFc := va_free (wc := w1 d cd zm kp t) hD hS hA [6, 7, 8, 9] rfl
  refine va_calli (va_runV (As := As) (rest := rest) C (hM D d cd H.size) cw ⟨fun a9 U g mk q => by obtain ⟨q0, q1, qP, qK, qD⟩ := q; exact ⟨q0, q1, qP, va_K.moved (u := U) (U := U.calling g mk a9) (Vm.Alike.refl U.vm) qK, qD⟩, va_recv hKc hPc (ci := 1) (q0 := 0) rfl rfl, fun U hU hW => ⟨rfl, by rw [hU], by rw [hU]; exact hPc, va_K.moved hW.alike hKc, hDc.weaken (fun _ _ _ _ => trivial)⟩⟩ rfl hn hsz hst (lv_room hroom) hdg hcs) hS (fun q9 _ h => hFc q9 h) hFc (fun r9 S t9 H1 locs1 ht hvm hw1 hB hz1 hk1 hS1 => ?_)
  obtain ⟨hP1, hK1, hD1⟩ := hB
  rw [ht] at hP1
  obtain ⟨rfl, hp⟩ := hw1
  obtain ⟨hP2, hD2⟩ := va_join (wr := w0 a ca z pr w v q u) (w1 := w1 d cd S.2.1 S.2.2.1 S.2.2.2) hP hD [6, 7, 8, 9] [0, 1, 2, 3, 4, 5] rfl rfl (by decide) (by decide) hk1 hFc hP1 hD1
  exact kk S.1 S.2.1 S.2.2.1 S.2.2.2 H1 locs1 hp ⟨hP2.sub [0, 1, 2, 3, 4, 5, 6, 7, 8, 9] rfl, hD2.sub [0, 1, 2, 3, 4, 5, 6, 7, 8, 9] (by decide) rfl, hS1, hK⟩
theorem cL1_v {y : MethodName} {bytes : ByteArray} {maxL n index : Nat} {ret : Option FieldType} {rm : Room} {As : List Value} {post : (Nat → Int) → (Nat → Int) → (Nat → Int) → Prop} (C : CallFix p m c cc nL s args lw_all "DeterminantDeskLaw") (hA : ∀ q9 : Nat, s.heap.size ≤ q9 → A q9) (hI : IL D A s a ca d cd z pr w v q u zm kp t H locs) (hM : M1v l y bytes maxL ret rm As zm kp t post)
    (cw : CallW R s args "DeterminantDeskLaw" RX1 index y bytes maxL ret (ws_ y bytes maxL ret) rm 0 0 n) (hn : As.length = n) (hsz : ls.size = nL) (hst : st0 = As.reverse ++ .ref (d 0) :: rest) (hroom : (rest.map fun v => v.category).sum ≤ 8) (hdg : decode cc pc = .ok (.invokevirtual index, 3)) (hcs : cells ≤ R.cells ∧ slots ≤ R.slots)
    (kk : ∀ (zm_ : Nat → Int) (kp_ : Nat → Int) (t_ : Nat → Int) (H1 : Heap) (locs1 : List Loc), post zm_ kp_ t_ → IL D A s a ca d cd z pr w v q u zm_ kp_ t_ H1 locs1 → W p l e R s m args below meth c H1 locs1 cells slots Q (F0 m (pc + 3) ls rest)) : W p l e R s m args below meth c H locs cells slots Q (F0 m pc ls st0) := by
  obtain ⟨hP, hD, hS, hK⟩ := hI
  have hPc := hP.sub (ws' := w1 d cd zm kp t) [6, 7, 8, 9] rfl
  have hDc := hD.sub (ws' := w1 d cd zm kp t) [6, 7, 8, 9] (by decide) rfl
  have hKc := hK.sub (tys' := ty1 cd) [5, 6, 7] rfl
  have hFc := va_free (wc := w1 d cd zm kp t) hD hS hA [6, 7, 8, 9] rfl
  refine va_callv (va_runV (As := As) (rest := rest) C (hM D d cd H.size) cw ⟨fun a9 U g mk q => by obtain ⟨q0, q1, qP, qK, qD⟩ := q; exact ⟨q0, q1, qP, va_K.moved (u := U) (U := U.calling g mk a9) (Vm.Alike.refl U.vm) qK, qD⟩, va_recv hKc hPc (ci := 1) (q0 := 0) rfl rfl, fun U hU hW => ⟨rfl, by rw [hU], by rw [hU]; exact hPc, va_K.moved hW.alike hKc, hDc.weaken (fun _ _ _ _ => trivial)⟩⟩ rfl hn hsz hst (lv_room hroom) hdg hcs) hS (fun q9 _ h => hFc q9 h) hFc (fun S t9 H1 locs1 ht hvm hw1 hB hz1 hk1 hS1 => ?_)
  obtain ⟨hP1, hK1, hD1⟩ := hB
  rw [ht] at hP1
  obtain ⟨hP2, hD2⟩ := va_join (wr := w0 a ca z pr w v q u) (w1 := w1 d cd S.1 S.2.1 S.2.2) hP hD [6, 7, 8, 9] [0, 1, 2, 3, 4, 5] rfl rfl (by decide) (by decide) hk1 hFc hP1 hD1
  exact kk S.1 S.2.1 S.2.2 H1 locs1 hw1 ⟨hP2.sub [0, 1, 2, 3, 4, 5, 6, 7, 8, 9] rfl, hD2.sub [0, 1, 2, 3, 4, 5, 6, 7, 8, 9] (by decide) rfl, hS1, hK⟩
/-- the script's int at place n -/
theorem z_sld (hx : p.tables.exec = Jvm.exec) (hb : c.code = cc) {b L : Nat} {xs : Nat → Int32} (hX : va_X b L xs s s.heap) (hbl : b < s.heap.size) (hL : L ≤ 256) (hS : va_S (fun q9 : Nat => s.heap.size ≤ q9) s.heap H locs) {t0 : Int} (n : Nat) (hn : t0 = (n : Int)) (hlt : n < L) (hdg : decode cc pc = .ok (.iaload, 1)) (k9 : W p l e R s m args below meth c H locs cells slots Q (F0 m (pc + 1) ls (.int (iI (xs n).toInt) :: rest))) : W p l e R s m args below meth c H locs cells slots Q (F0 m pc ls (.int (iI t0) :: .ref b :: rest)) := by
  subst hn
  refine va_sld hx hb hX hbl (Nat.not_le.mpr hbl) hS (iI_in hlt (by omega)) hdg ?_
  rw [iI_cl (by omega)]
  rw [iI_of] at k9
  exact k9
end LK
def GZ (z : Nat → Int) : Prop := ∀ k, k < 20 → -50 ≤ z k ∧ z k ≤ 50
theorem st_set_50 {z : Nat → Int} {i j y : Int} (hz : GZ z) : GZ (st_set z i j y) := by
  unfold st_set
  split
  · exact up_50 hz (by omega)
  · exact hz
theorem st_swap_50 {z : Nat → Int} {i k : Int} (hz : GZ z) : GZ (st_swap z i k) := by
  unfold st_swap
  split
  · exact exch_50 (by omega) hz
  · exact hz
theorem rl_add_50 {z z1 : Nat → Int} {i k f r : Int} (hz : GZ z) (h : rl_add z i k f r z1) : GZ z1 := by
  rcases h with ⟨h, _, rfl⟩ | ⟨_, _, rfl⟩
  · exact addz_50 h.2.2.2.2.2.2.2 hz
  · exact hz
theorem GZ.w {z : Nat → Int} (hz : GZ z) : ∀ k, k < 20 → -1000 ≤ z k ∧ z k ≤ 1000 := fun k hk => by have := hz k hk; omega
theorem rk_same {z : Nat → Int} {m x : Nat} {r r' : Int} (h : ∃ k : Nat, (k : Int) = r ∧ isRank 0 m (Rs z x) k) (h' : ∃ k : Nat, (k : Int) = r' ∧ isRank 0 m (Rs z x) k) : r = r' := by
  obtain ⟨k, e, g⟩ := h
  obtain ⟨k', e', g'⟩ := h'
  rw [← e, ← e', isRank_fun g g']
end
section
set_option maxRecDepth 100000
set_option maxHeartbeats 4000000 in
set_option maxRecDepth 100000 in
/-- case 0: set -/
theorem lc_0 {p : Program} {l : Launch} {e : Env} {s : State} {m : MethodId} {below : List Frame} {meth : Method} {c : Code} {b L : Nat} {xs : Nat → Int32} (C : CallFix p m c code 4 s #[Value.ref b] lw_all "DeterminantDeskLaw") (hX : va_X b L xs s s.heap) (hbl : b < s.heap.size) (hL : L ≤ 256) {D : va_G} {a : Nat → Nat} {ca : Nat → ClassId} {d : Nat → Nat} {cd : Nat → ClassId} {z : Nat → Int} {pr : Int} {w : Nat → Int} {v : Nat → Int} {q : Nat → Int} {u : Nat → Int} {kp : Nat → Int} {t : Nat → Int} {H : Heap} {locs : List Loc} {ls : Array Slot} {i : Nat} (hi : i + 4 ≤ L) (hz : GZ z) (hI : IL D (fun q9 : Nat => s.heap.size ≤ q9) s a ca d cd z pr w v q u z kp t H locs) (hl : lv_has ls 4 [(0, .ref b), (1, .ref (a 0)), (2, .ref (d 0)), (3, .int (iI (i : Int)))]) (next : ∀ (z_ : Nat → Int) (pr_ : Int) (w_ : Nat → Int) (v_ : Nat → Int) (q_ : Nat → Int) (u_ : Nat → Int) (kp_ : Nat → Int) (t_ : Nat → Int) (H1 : Heap) (locs1 : List Loc), GZ z_ → IL D (fun q9 : Nat => s.heap.size ≤ q9) s a ca d cd z_ pr_ w_ v_ q_ u_ z_ kp_ t_ H1 locs1 → W p l e room_1 s m #[Value.ref b] below meth c H1 locs1 10 136 (lw_Z below #[Value.ref b] s) (F0 m 501 ls [])) : W p l e room_1 s m #[Value.ref b] below meth c H locs 10 136 (lw_Z below #[Value.ref b] s) (F0 m 108 ls []) := by
  refine lv_aload_n C.1 C.2.1 dL_law_108 rfl (lv_at hl 1 rfl) ?_
  refine lv_aload_n C.1 C.2.1 dL_law_109 rfl (lv_at hl 0 rfl) ?_
  refine lv_iload_n C.1 C.2.1 dL_law_110 rfl (lv_at hl 3 rfl) ?_
  refine z_iconst C.1 C.2.1 dL_law_111 ?_
  refine z_iadd C.1 C.2.1 dL_law_112 ?_
  refine z_sld C.1 C.2.1 hX hbl hL hI.2.2.1 (i + 1) (by omega) (by omega) dL_law_113 ?_
  refine lv_aload_n C.1 C.2.1 dL_law_114 rfl (lv_at hl 0 rfl) ?_
  refine lv_iload_n C.1 C.2.1 dL_law_115 rfl (lv_at hl 3 rfl) ?_
  refine z_iconst C.1 C.2.1 dL_law_116 ?_
  refine z_iadd C.1 C.2.1 dL_law_117 ?_
  refine z_sld C.1 C.2.1 hX hbl hL hI.2.2.1 (i + 2) (by omega) (by omega) dL_law_118 ?_
  refine lv_aload_n C.1 C.2.1 dL_law_119 rfl (lv_at hl 0 rfl) ?_
  refine lv_iload_n C.1 C.2.1 dL_law_120 rfl (lv_at hl 3 rfl) ?_
  refine z_iconst C.1 C.2.1 dL_law_121 ?_
  refine z_iadd C.1 C.2.1 dL_law_122 ?_
  refine z_sld C.1 C.2.1 hX hbl hL hI.2.2.1 (i + 3) (by omega) (by omega) dL_law_123 ?_
  refine cL0_i (As := [.int (iI (xs (i + 1)).toInt), .int (iI (xs (i + 2)).toInt), .int (iI (xs (i + 3)).toInt)]) C (fun _ h9 => h9) hI (met0_set l (xs (i + 1)).toInt (xs (i + 2)).toInt (xs (i + 3)).toInt z pr w v q u (iI_bd _) (iI_bd _) (iI_bd _)) (cwL0_set C.2.2.2.2 ⟨Nat.le_of_ble_eq_true rfl, Nat.le_of_ble_eq_true rfl⟩) rfl hl.1 rfl (Nat.le_of_ble_eq_true rfl) dL_law_124 ⟨Nat.le_of_ble_eq_true rfl, Nat.le_of_ble_eq_true rfl⟩ (fun r0 z_0 pr_0 w_0 v_0 q_0 u_0 H locs hp0 hI => ?_)
  obtain ⟨rfl, rfl⟩ := hp0
  refine lv_aload_n C.1 C.2.1 dL_law_127 rfl (lv_at hl 2 rfl) ?_
  refine lv_aload_n C.1 C.2.1 dL_law_128 rfl (lv_at hl 0 rfl) ?_
  refine lv_iload_n C.1 C.2.1 dL_law_129 rfl (lv_at hl 3 rfl) ?_
  refine z_iconst C.1 C.2.1 dL_law_130 ?_
  refine z_iadd C.1 C.2.1 dL_law_131 ?_
  refine z_sld C.1 C.2.1 hX hbl hL hI.2.2.1 (i + 1) (by omega) (by omega) dL_law_132 ?_
  refine lv_aload_n C.1 C.2.1 dL_law_133 rfl (lv_at hl 0 rfl) ?_
  refine lv_iload_n C.1 C.2.1 dL_law_134 rfl (lv_at hl 3 rfl) ?_
  refine z_iconst C.1 C.2.1 dL_law_135 ?_
  refine z_iadd C.1 C.2.1 dL_law_136 ?_
  refine z_sld C.1 C.2.1 hX hbl hL hI.2.2.1 (i + 2) (by omega) (by omega) dL_law_137 ?_
  refine lv_aload_n C.1 C.2.1 dL_law_138 rfl (lv_at hl 0 rfl) ?_
  refine lv_iload_n C.1 C.2.1 dL_law_139 rfl (lv_at hl 3 rfl) ?_
  refine z_iconst C.1 C.2.1 dL_law_140 ?_
  refine z_iadd C.1 C.2.1 dL_law_141 ?_
  refine z_sld C.1 C.2.1 hX hbl hL hI.2.2.1 (i + 3) (by omega) (by omega) dL_law_142 ?_
  refine cL1_i (As := [.int (iI (xs (i + 1)).toInt), .int (iI (xs (i + 2)).toInt), .int (iI (xs (i + 3)).toInt)]) C (fun _ h9 => h9) hI (met1_set l (xs (i + 1)).toInt (xs (i + 2)).toInt (xs (i + 3)).toInt z kp t (iI_bd _) (iI_bd _) (iI_bd _)) (cwL1_set C.2.2.2.2 ⟨Nat.le_of_ble_eq_true rfl, Nat.le_of_ble_eq_true rfl⟩) rfl hl.1 rfl (Nat.le_of_ble_eq_true rfl) dL_law_143 ⟨Nat.le_of_ble_eq_true rfl, Nat.le_of_ble_eq_true rfl⟩ (fun r1 zm_1 kp_1 t_1 H locs hp1 hI => ?_)
  obtain ⟨rfl, rfl⟩ := hp1
  refine lv_icmp_eq (tgt := 501) C.1 C.2.1 dL_law_146 (by decide) (fun _ => ?_) (fun c9 => absurd (congrArg iI (rfl)) c9)
  exact next _ _ _ _ _ _ _ _ _ _ (st_set_50 hz) hI
set_option maxHeartbeats 4000000 in
set_option maxRecDepth 100000 in
/-- case 1: at -/
theorem lc_1 {p : Program} {l : Launch} {e : Env} {s : State} {m : MethodId} {below : List Frame} {meth : Method} {c : Code} {b L : Nat} {xs : Nat → Int32} (C : CallFix p m c code 4 s #[Value.ref b] lw_all "DeterminantDeskLaw") (hX : va_X b L xs s s.heap) (hbl : b < s.heap.size) (hL : L ≤ 256) {D : va_G} {a : Nat → Nat} {ca : Nat → ClassId} {d : Nat → Nat} {cd : Nat → ClassId} {z : Nat → Int} {pr : Int} {w : Nat → Int} {v : Nat → Int} {q : Nat → Int} {u : Nat → Int} {kp : Nat → Int} {t : Nat → Int} {H : Heap} {locs : List Loc} {ls : Array Slot} {i : Nat} (hi : i + 4 ≤ L) (hz : GZ z) (hI : IL D (fun q9 : Nat => s.heap.size ≤ q9) s a ca d cd z pr w v q u z kp t H locs) (hl : lv_has ls 4 [(0, .ref b), (1, .ref (a 0)), (2, .ref (d 0)), (3, .int (iI (i : Int)))]) (next : ∀ (z_ : Nat → Int) (pr_ : Int) (w_ : Nat → Int) (v_ : Nat → Int) (q_ : Nat → Int) (u_ : Nat → Int) (kp_ : Nat → Int) (t_ : Nat → Int) (H1 : Heap) (locs1 : List Loc), GZ z_ → IL D (fun q9 : Nat => s.heap.size ≤ q9) s a ca d cd z_ pr_ w_ v_ q_ u_ z_ kp_ t_ H1 locs1 → W p l e room_1 s m #[Value.ref b] below meth c H1 locs1 10 136 (lw_Z below #[Value.ref b] s) (F0 m 501 ls [])) : W p l e room_1 s m #[Value.ref b] below meth c H locs 10 136 (lw_Z below #[Value.ref b] s) (F0 m 151 ls []) := by
  refine lv_aload_n C.1 C.2.1 dL_law_151 rfl (lv_at hl 1 rfl) ?_
  refine lv_aload_n C.1 C.2.1 dL_law_152 rfl (lv_at hl 0 rfl) ?_
  refine lv_iload_n C.1 C.2.1 dL_law_153 rfl (lv_at hl 3 rfl) ?_
  refine z_iconst C.1 C.2.1 dL_law_154 ?_
  refine z_iadd C.1 C.2.1 dL_law_155 ?_
  refine z_sld C.1 C.2.1 hX hbl hL hI.2.2.1 (i + 1) (by omega) (by omega) dL_law_156 ?_
  refine lv_aload_n C.1 C.2.1 dL_law_157 rfl (lv_at hl 0 rfl) ?_
  refine lv_iload_n C.1 C.2.1 dL_law_158 rfl (lv_at hl 3 rfl) ?_
  refine z_iconst C.1 C.2.1 dL_law_159 ?_
  refine z_iadd C.1 C.2.1 dL_law_160 ?_
  refine z_sld C.1 C.2.1 hX hbl hL hI.2.2.1 (i + 2) (by omega) (by omega) dL_law_161 ?_
  refine cL0_i (As := [.int (iI (xs (i + 1)).toInt), .int (iI (xs (i + 2)).toInt)]) C (fun _ h9 => h9) hI (met0_at l (xs (i + 1)).toInt (xs (i + 2)).toInt z pr w v q u (iI_bd _) (iI_bd _)) (cwL0_at C.2.2.2.2 ⟨Nat.le_of_ble_eq_true rfl, Nat.le_of_ble_eq_true rfl⟩) rfl hl.1 rfl (Nat.le_of_ble_eq_true rfl) dL_law_162 ⟨Nat.le_of_ble_eq_true rfl, Nat.le_of_ble_eq_true rfl⟩ (fun r0 z_0 pr_0 w_0 v_0 q_0 u_0 H locs hp0 hI => ?_)
  obtain ⟨rfl, rfl⟩ := hp0
  refine lv_aload_n C.1 C.2.1 dL_law_165 rfl (lv_at hl 2 rfl) ?_
  refine lv_aload_n C.1 C.2.1 dL_law_166 rfl (lv_at hl 0 rfl) ?_
  refine lv_iload_n C.1 C.2.1 dL_law_167 rfl (lv_at hl 3 rfl) ?_
  refine z_iconst C.1 C.2.1 dL_law_168 ?_
  refine z_iadd C.1 C.2.1 dL_law_169 ?_
  refine z_sld C.1 C.2.1 hX hbl hL hI.2.2.1 (i + 1) (by omega) (by omega) dL_law_170 ?_
  refine lv_aload_n C.1 C.2.1 dL_law_171 rfl (lv_at hl 0 rfl) ?_
  refine lv_iload_n C.1 C.2.1 dL_law_172 rfl (lv_at hl 3 rfl) ?_
  refine z_iconst C.1 C.2.1 dL_law_173 ?_
  refine z_iadd C.1 C.2.1 dL_law_174 ?_
  refine z_sld C.1 C.2.1 hX hbl hL hI.2.2.1 (i + 2) (by omega) (by omega) dL_law_175 ?_
  refine cL1_i (As := [.int (iI (xs (i + 1)).toInt), .int (iI (xs (i + 2)).toInt)]) C (fun _ h9 => h9) hI (met1_at l (xs (i + 1)).toInt (xs (i + 2)).toInt z kp t (iI_bd _) (iI_bd _)) (cwL1_at C.2.2.2.2 ⟨Nat.le_of_ble_eq_true rfl, Nat.le_of_ble_eq_true rfl⟩) rfl hl.1 rfl (Nat.le_of_ble_eq_true rfl) dL_law_176 ⟨Nat.le_of_ble_eq_true rfl, Nat.le_of_ble_eq_true rfl⟩ (fun r1 zm_1 kp_1 t_1 H locs hp1 hI => ?_)
  obtain ⟨rfl, rfl⟩ := hp1
  refine lv_icmp_eq (tgt := 501) C.1 C.2.1 dL_law_179 (by decide) (fun _ => ?_) (fun c9 => absurd (congrArg iI (rfl)) c9)
  exact next _ _ _ _ _ _ _ _ _ _ (hz) hI
set_option maxHeartbeats 4000000 in
set_option maxRecDepth 100000 in
/-- case 2: swapRows -/
theorem lc_2 {p : Program} {l : Launch} {e : Env} {s : State} {m : MethodId} {below : List Frame} {meth : Method} {c : Code} {b L : Nat} {xs : Nat → Int32} (C : CallFix p m c code 4 s #[Value.ref b] lw_all "DeterminantDeskLaw") (hX : va_X b L xs s s.heap) (hbl : b < s.heap.size) (hL : L ≤ 256) {D : va_G} {a : Nat → Nat} {ca : Nat → ClassId} {d : Nat → Nat} {cd : Nat → ClassId} {z : Nat → Int} {pr : Int} {w : Nat → Int} {v : Nat → Int} {q : Nat → Int} {u : Nat → Int} {kp : Nat → Int} {t : Nat → Int} {H : Heap} {locs : List Loc} {ls : Array Slot} {i : Nat} (hi : i + 4 ≤ L) (hz : GZ z) (hI : IL D (fun q9 : Nat => s.heap.size ≤ q9) s a ca d cd z pr w v q u z kp t H locs) (hl : lv_has ls 4 [(0, .ref b), (1, .ref (a 0)), (2, .ref (d 0)), (3, .int (iI (i : Int)))]) (next : ∀ (z_ : Nat → Int) (pr_ : Int) (w_ : Nat → Int) (v_ : Nat → Int) (q_ : Nat → Int) (u_ : Nat → Int) (kp_ : Nat → Int) (t_ : Nat → Int) (H1 : Heap) (locs1 : List Loc), GZ z_ → IL D (fun q9 : Nat => s.heap.size ≤ q9) s a ca d cd z_ pr_ w_ v_ q_ u_ z_ kp_ t_ H1 locs1 → W p l e room_1 s m #[Value.ref b] below meth c H1 locs1 10 136 (lw_Z below #[Value.ref b] s) (F0 m 501 ls [])) : W p l e room_1 s m #[Value.ref b] below meth c H locs 10 136 (lw_Z below #[Value.ref b] s) (F0 m 184 ls []) := by
  refine lv_aload_n C.1 C.2.1 dL_law_184 rfl (lv_at hl 1 rfl) ?_
  refine lv_aload_n C.1 C.2.1 dL_law_185 rfl (lv_at hl 0 rfl) ?_
  refine lv_iload_n C.1 C.2.1 dL_law_186 rfl (lv_at hl 3 rfl) ?_
  refine z_iconst C.1 C.2.1 dL_law_187 ?_
  refine z_iadd C.1 C.2.1 dL_law_188 ?_
  refine z_sld C.1 C.2.1 hX hbl hL hI.2.2.1 (i + 1) (by omega) (by omega) dL_law_189 ?_
  refine lv_aload_n C.1 C.2.1 dL_law_190 rfl (lv_at hl 0 rfl) ?_
  refine lv_iload_n C.1 C.2.1 dL_law_191 rfl (lv_at hl 3 rfl) ?_
  refine z_iconst C.1 C.2.1 dL_law_192 ?_
  refine z_iadd C.1 C.2.1 dL_law_193 ?_
  refine z_sld C.1 C.2.1 hX hbl hL hI.2.2.1 (i + 2) (by omega) (by omega) dL_law_194 ?_
  refine cL0_i (As := [.int (iI (xs (i + 1)).toInt), .int (iI (xs (i + 2)).toInt)]) C (fun _ h9 => h9) hI (met0_swapRows l (xs (i + 1)).toInt (xs (i + 2)).toInt z pr w v q u (iI_bd _) (iI_bd _) hz) (cwL0_swapRows C.2.2.2.2 ⟨Nat.le_of_ble_eq_true rfl, Nat.le_of_ble_eq_true rfl⟩) rfl hl.1 rfl (Nat.le_of_ble_eq_true rfl) dL_law_195 ⟨Nat.le_of_ble_eq_true rfl, Nat.le_of_ble_eq_true rfl⟩ (fun r0 z_0 pr_0 w_0 v_0 q_0 u_0 H locs hp0 hI => ?_)
  obtain ⟨rfl, rfl⟩ := hp0
  refine lv_aload_n C.1 C.2.1 dL_law_198 rfl (lv_at hl 2 rfl) ?_
  refine lv_aload_n C.1 C.2.1 dL_law_199 rfl (lv_at hl 0 rfl) ?_
  refine lv_iload_n C.1 C.2.1 dL_law_200 rfl (lv_at hl 3 rfl) ?_
  refine z_iconst C.1 C.2.1 dL_law_201 ?_
  refine z_iadd C.1 C.2.1 dL_law_202 ?_
  refine z_sld C.1 C.2.1 hX hbl hL hI.2.2.1 (i + 1) (by omega) (by omega) dL_law_203 ?_
  refine lv_aload_n C.1 C.2.1 dL_law_204 rfl (lv_at hl 0 rfl) ?_
  refine lv_iload_n C.1 C.2.1 dL_law_205 rfl (lv_at hl 3 rfl) ?_
  refine z_iconst C.1 C.2.1 dL_law_206 ?_
  refine z_iadd C.1 C.2.1 dL_law_207 ?_
  refine z_sld C.1 C.2.1 hX hbl hL hI.2.2.1 (i + 2) (by omega) (by omega) dL_law_208 ?_
  refine cL1_i (As := [.int (iI (xs (i + 1)).toInt), .int (iI (xs (i + 2)).toInt)]) C (fun _ h9 => h9) hI (met1_swapRows l (xs (i + 1)).toInt (xs (i + 2)).toInt z kp t (iI_bd _) (iI_bd _)) (cwL1_swapRows C.2.2.2.2 ⟨Nat.le_of_ble_eq_true rfl, Nat.le_of_ble_eq_true rfl⟩) rfl hl.1 rfl (Nat.le_of_ble_eq_true rfl) dL_law_209 ⟨Nat.le_of_ble_eq_true rfl, Nat.le_of_ble_eq_true rfl⟩ (fun r1 zm_1 kp_1 t_1 H locs hp1 hI => ?_)
  obtain ⟨rfl, rfl⟩ := hp1
  refine lv_icmp_eq (tgt := 501) C.1 C.2.1 dL_law_212 (by decide) (fun _ => ?_) (fun c9 => absurd (congrArg iI (rfl)) c9)
  exact next _ _ _ _ _ _ _ _ _ _ (st_swap_50 hz) hI
set_option maxHeartbeats 4000000 in
set_option maxRecDepth 100000 in
/-- case 3: addRow -/
theorem lc_3 {p : Program} {l : Launch} {e : Env} {s : State} {m : MethodId} {below : List Frame} {meth : Method} {c : Code} {b L : Nat} {xs : Nat → Int32} (C : CallFix p m c code 4 s #[Value.ref b] lw_all "DeterminantDeskLaw") (hX : va_X b L xs s s.heap) (hbl : b < s.heap.size) (hL : L ≤ 256) {D : va_G} {a : Nat → Nat} {ca : Nat → ClassId} {d : Nat → Nat} {cd : Nat → ClassId} {z : Nat → Int} {pr : Int} {w : Nat → Int} {v : Nat → Int} {q : Nat → Int} {u : Nat → Int} {kp : Nat → Int} {t : Nat → Int} {H : Heap} {locs : List Loc} {ls : Array Slot} {i : Nat} (hi : i + 4 ≤ L) (hz : GZ z) (hI : IL D (fun q9 : Nat => s.heap.size ≤ q9) s a ca d cd z pr w v q u z kp t H locs) (hl : lv_has ls 4 [(0, .ref b), (1, .ref (a 0)), (2, .ref (d 0)), (3, .int (iI (i : Int)))]) (next : ∀ (z_ : Nat → Int) (pr_ : Int) (w_ : Nat → Int) (v_ : Nat → Int) (q_ : Nat → Int) (u_ : Nat → Int) (kp_ : Nat → Int) (t_ : Nat → Int) (H1 : Heap) (locs1 : List Loc), GZ z_ → IL D (fun q9 : Nat => s.heap.size ≤ q9) s a ca d cd z_ pr_ w_ v_ q_ u_ z_ kp_ t_ H1 locs1 → W p l e room_1 s m #[Value.ref b] below meth c H1 locs1 10 136 (lw_Z below #[Value.ref b] s) (F0 m 501 ls [])) : W p l e room_1 s m #[Value.ref b] below meth c H locs 10 136 (lw_Z below #[Value.ref b] s) (F0 m 217 ls []) := by
  refine lv_aload_n C.1 C.2.1 dL_law_217 rfl (lv_at hl 1 rfl) ?_
  refine lv_aload_n C.1 C.2.1 dL_law_218 rfl (lv_at hl 0 rfl) ?_
  refine lv_iload_n C.1 C.2.1 dL_law_219 rfl (lv_at hl 3 rfl) ?_
  refine z_iconst C.1 C.2.1 dL_law_220 ?_
  refine z_iadd C.1 C.2.1 dL_law_221 ?_
  refine z_sld C.1 C.2.1 hX hbl hL hI.2.2.1 (i + 1) (by omega) (by omega) dL_law_222 ?_
  refine lv_aload_n C.1 C.2.1 dL_law_223 rfl (lv_at hl 0 rfl) ?_
  refine lv_iload_n C.1 C.2.1 dL_law_224 rfl (lv_at hl 3 rfl) ?_
  refine z_iconst C.1 C.2.1 dL_law_225 ?_
  refine z_iadd C.1 C.2.1 dL_law_226 ?_
  refine z_sld C.1 C.2.1 hX hbl hL hI.2.2.1 (i + 2) (by omega) (by omega) dL_law_227 ?_
  refine lv_aload_n C.1 C.2.1 dL_law_228 rfl (lv_at hl 0 rfl) ?_
  refine lv_iload_n C.1 C.2.1 dL_law_229 rfl (lv_at hl 3 rfl) ?_
  refine z_iconst C.1 C.2.1 dL_law_230 ?_
  refine z_iadd C.1 C.2.1 dL_law_231 ?_
  refine z_sld C.1 C.2.1 hX hbl hL hI.2.2.1 (i + 3) (by omega) (by omega) dL_law_232 ?_
  refine cL0_i (As := [.int (iI (xs (i + 1)).toInt), .int (iI (xs (i + 2)).toInt), .int (iI (xs (i + 3)).toInt)]) C (fun _ h9 => h9) hI (met0_addRow l (xs (i + 1)).toInt (xs (i + 2)).toInt (xs (i + 3)).toInt z pr w v q u (iI_bd _) (iI_bd _) (iI_bd _) hz) (cwL0_addRow C.2.2.2.2 ⟨Nat.le_of_ble_eq_true rfl, Nat.le_of_ble_eq_true rfl⟩) rfl hl.1 rfl (Nat.le_of_ble_eq_true rfl) dL_law_233 ⟨Nat.le_of_ble_eq_true rfl, Nat.le_of_ble_eq_true rfl⟩ (fun r0 z_0 pr_0 w_0 v_0 q_0 u_0 H locs hp0 hI => ?_)
  have hp0 := hp0.1
  refine lv_aload_n C.1 C.2.1 dL_law_236 rfl (lv_at hl 2 rfl) ?_
  refine lv_aload_n C.1 C.2.1 dL_law_237 rfl (lv_at hl 0 rfl) ?_
  refine lv_iload_n C.1 C.2.1 dL_law_238 rfl (lv_at hl 3 rfl) ?_
  refine z_iconst C.1 C.2.1 dL_law_239 ?_
  refine z_iadd C.1 C.2.1 dL_law_240 ?_
  refine z_sld C.1 C.2.1 hX hbl hL hI.2.2.1 (i + 1) (by omega) (by omega) dL_law_241 ?_
  refine lv_aload_n C.1 C.2.1 dL_law_242 rfl (lv_at hl 0 rfl) ?_
  refine lv_iload_n C.1 C.2.1 dL_law_243 rfl (lv_at hl 3 rfl) ?_
  refine z_iconst C.1 C.2.1 dL_law_244 ?_
  refine z_iadd C.1 C.2.1 dL_law_245 ?_
  refine z_sld C.1 C.2.1 hX hbl hL hI.2.2.1 (i + 2) (by omega) (by omega) dL_law_246 ?_
  refine lv_aload_n C.1 C.2.1 dL_law_247 rfl (lv_at hl 0 rfl) ?_
  refine lv_iload_n C.1 C.2.1 dL_law_248 rfl (lv_at hl 3 rfl) ?_
  refine z_iconst C.1 C.2.1 dL_law_249 ?_
  refine z_iadd C.1 C.2.1 dL_law_250 ?_
  refine z_sld C.1 C.2.1 hX hbl hL hI.2.2.1 (i + 3) (by omega) (by omega) dL_law_251 ?_
  refine cL1_i (As := [.int (iI (xs (i + 1)).toInt), .int (iI (xs (i + 2)).toInt), .int (iI (xs (i + 3)).toInt)]) C (fun _ h9 => h9) hI (met1_addRow l (xs (i + 1)).toInt (xs (i + 2)).toInt (xs (i + 3)).toInt z kp t (iI_bd _) (iI_bd _) (iI_bd _) hz) (cwL1_addRow C.2.2.2.2 ⟨Nat.le_of_ble_eq_true rfl, Nat.le_of_ble_eq_true rfl⟩) rfl hl.1 rfl (Nat.le_of_ble_eq_true rfl) dL_law_252 ⟨Nat.le_of_ble_eq_true rfl, Nat.le_of_ble_eq_true rfl⟩ (fun r1 zm_1 kp_1 t_1 H locs hp1 hI => ?_)
  obtain ⟨hre, rfl⟩ := rl_add_fun hp0 hp1.1
  refine lv_icmp_eq (tgt := 501) C.1 C.2.1 dL_law_255 (by decide) (fun _ => ?_) (fun c9 => absurd (congrArg iI (hre)) c9)
  exact next _ _ _ _ _ _ _ _ _ _ (rl_add_50 hz hp0) hI
set_option maxHeartbeats 4000000 in
set_option maxRecDepth 100000 in
/-- case 4: transpose -/
theorem lc_4 {p : Program} {l : Launch} {e : Env} {s : State} {m : MethodId} {below : List Frame} {meth : Method} {c : Code} {b L : Nat} {xs : Nat → Int32} (C : CallFix p m c code 4 s #[Value.ref b] lw_all "DeterminantDeskLaw") (hX : va_X b L xs s s.heap) (hbl : b < s.heap.size) (hL : L ≤ 256) {D : va_G} {a : Nat → Nat} {ca : Nat → ClassId} {d : Nat → Nat} {cd : Nat → ClassId} {z : Nat → Int} {pr : Int} {w : Nat → Int} {v : Nat → Int} {q : Nat → Int} {u : Nat → Int} {kp : Nat → Int} {t : Nat → Int} {H : Heap} {locs : List Loc} {ls : Array Slot} {i : Nat} (hi : i + 4 ≤ L) (hz : GZ z) (hI : IL D (fun q9 : Nat => s.heap.size ≤ q9) s a ca d cd z pr w v q u z kp t H locs) (hl : lv_has ls 4 [(0, .ref b), (1, .ref (a 0)), (2, .ref (d 0)), (3, .int (iI (i : Int)))]) (next : ∀ (z_ : Nat → Int) (pr_ : Int) (w_ : Nat → Int) (v_ : Nat → Int) (q_ : Nat → Int) (u_ : Nat → Int) (kp_ : Nat → Int) (t_ : Nat → Int) (H1 : Heap) (locs1 : List Loc), GZ z_ → IL D (fun q9 : Nat => s.heap.size ≤ q9) s a ca d cd z_ pr_ w_ v_ q_ u_ z_ kp_ t_ H1 locs1 → W p l e room_1 s m #[Value.ref b] below meth c H1 locs1 10 136 (lw_Z below #[Value.ref b] s) (F0 m 501 ls [])) : W p l e room_1 s m #[Value.ref b] below meth c H locs 10 136 (lw_Z below #[Value.ref b] s) (F0 m 260 ls []) := by
  refine lv_aload_n C.1 C.2.1 dL_law_260 rfl (lv_at hl 1 rfl) ?_
  refine cL0_v (As := []) C (fun _ h9 => h9) hI (met0_transpose l z pr w v q u hz) (cwL0_transpose C.2.2.2.2 ⟨Nat.le_of_ble_eq_true rfl, Nat.le_of_ble_eq_true rfl⟩) rfl hl.1 rfl (Nat.le_of_ble_eq_true rfl) dL_law_261 ⟨Nat.le_of_ble_eq_true rfl, Nat.le_of_ble_eq_true rfl⟩ (fun z_0 pr_0 w_0 v_0 q_0 u_0 H locs hp0 hI => ?_)
  obtain ⟨rfl, _⟩ := hp0
  refine lv_aload_n C.1 C.2.1 dL_law_264 rfl (lv_at hl 2 rfl) ?_
  refine cL1_v (As := []) C (fun _ h9 => h9) hI (met1_transpose l z kp t) (cwL1_transpose C.2.2.2.2 ⟨Nat.le_of_ble_eq_true rfl, Nat.le_of_ble_eq_true rfl⟩) rfl hl.1 rfl (Nat.le_of_ble_eq_true rfl) dL_law_265 ⟨Nat.le_of_ble_eq_true rfl, Nat.le_of_ble_eq_true rfl⟩ (fun zm_1 kp_1 t_1 H locs hp1 hI => ?_)
  obtain ⟨rfl, _⟩ := hp1
  refine lv_goto (tgt := 501) C.1 C.2.1 dL_law_268 (by decide) ?_
  exact next _ _ _ _ _ _ _ _ _ _ (trz_50 hz) hI
set_option maxHeartbeats 4000000 in
set_option maxRecDepth 100000 in
/-- case 5: determinant -/
theorem lc_5 {p : Program} {l : Launch} {e : Env} {s : State} {m : MethodId} {below : List Frame} {meth : Method} {c : Code} {b L : Nat} {xs : Nat → Int32} (C : CallFix p m c code 4 s #[Value.ref b] lw_all "DeterminantDeskLaw") (hX : va_X b L xs s s.heap) (hbl : b < s.heap.size) (hL : L ≤ 256) {D : va_G} {a : Nat → Nat} {ca : Nat → ClassId} {d : Nat → Nat} {cd : Nat → ClassId} {z : Nat → Int} {pr : Int} {w : Nat → Int} {v : Nat → Int} {q : Nat → Int} {u : Nat → Int} {kp : Nat → Int} {t : Nat → Int} {H : Heap} {locs : List Loc} {ls : Array Slot} {i : Nat} (hi : i + 4 ≤ L) (hz : GZ z) (hI : IL D (fun q9 : Nat => s.heap.size ≤ q9) s a ca d cd z pr w v q u z kp t H locs) (hl : lv_has ls 4 [(0, .ref b), (1, .ref (a 0)), (2, .ref (d 0)), (3, .int (iI (i : Int)))]) (next : ∀ (z_ : Nat → Int) (pr_ : Int) (w_ : Nat → Int) (v_ : Nat → Int) (q_ : Nat → Int) (u_ : Nat → Int) (kp_ : Nat → Int) (t_ : Nat → Int) (H1 : Heap) (locs1 : List Loc), GZ z_ → IL D (fun q9 : Nat => s.heap.size ≤ q9) s a ca d cd z_ pr_ w_ v_ q_ u_ z_ kp_ t_ H1 locs1 → W p l e room_1 s m #[Value.ref b] below meth c H1 locs1 10 136 (lw_Z below #[Value.ref b] s) (F0 m 501 ls [])) : W p l e room_1 s m #[Value.ref b] below meth c H locs 10 136 (lw_Z below #[Value.ref b] s) (F0 m 271 ls []) := by
  refine lv_aload_n C.1 C.2.1 dL_law_271 rfl (lv_at hl 1 rfl) ?_
  refine cL0_i (As := []) C (fun _ h9 => h9) hI (met0_determinant l z pr w v q u hz) (cwL0_determinant C.2.2.2.2 ⟨Nat.le_of_ble_eq_true rfl, Nat.le_of_ble_eq_true rfl⟩) rfl hl.1 rfl (Nat.le_of_ble_eq_true rfl) dL_law_272 ⟨Nat.le_of_ble_eq_true rfl, Nat.le_of_ble_eq_true rfl⟩ (fun r0 z_0 pr_0 w_0 v_0 q_0 u_0 H locs hp0 hI => ?_)
  obtain ⟨rfl, rfl⟩ := hp0
  refine lv_aload_n C.1 C.2.1 dL_law_275 rfl (lv_at hl 2 rfl) ?_
  refine cL1_i (As := []) C (fun _ h9 => h9) hI (met1_determinant l z kp t hz.w) (cwL1_determinant C.2.2.2.2 ⟨Nat.le_of_ble_eq_true rfl, Nat.le_of_ble_eq_true rfl⟩) rfl hl.1 rfl (Nat.le_of_ble_eq_true rfl) dL_law_276 ⟨Nat.le_of_ble_eq_true rfl, Nat.le_of_ble_eq_true rfl⟩ (fun r1 zm_1 kp_1 t_1 H locs hp1 hI => ?_)
  obtain ⟨rfl, rfl, _⟩ := hp1
  refine lv_icmp_eq (tgt := 501) C.1 C.2.1 dL_law_279 (by decide) (fun _ => ?_) (fun c9 => absurd (congrArg iI (rfl)) c9)
  exact next _ _ _ _ _ _ _ _ _ _ (hz) hI
set_option maxHeartbeats 4000000 in
set_option maxRecDepth 100000 in
/-- case 6: minor -/
theorem lc_6 {p : Program} {l : Launch} {e : Env} {s : State} {m : MethodId} {below : List Frame} {meth : Method} {c : Code} {b L : Nat} {xs : Nat → Int32} (C : CallFix p m c code 4 s #[Value.ref b] lw_all "DeterminantDeskLaw") (hX : va_X b L xs s s.heap) (hbl : b < s.heap.size) (hL : L ≤ 256) {D : va_G} {a : Nat → Nat} {ca : Nat → ClassId} {d : Nat → Nat} {cd : Nat → ClassId} {z : Nat → Int} {pr : Int} {w : Nat → Int} {v : Nat → Int} {q : Nat → Int} {u : Nat → Int} {kp : Nat → Int} {t : Nat → Int} {H : Heap} {locs : List Loc} {ls : Array Slot} {i : Nat} (hi : i + 4 ≤ L) (hz : GZ z) (hI : IL D (fun q9 : Nat => s.heap.size ≤ q9) s a ca d cd z pr w v q u z kp t H locs) (hl : lv_has ls 4 [(0, .ref b), (1, .ref (a 0)), (2, .ref (d 0)), (3, .int (iI (i : Int)))]) (next : ∀ (z_ : Nat → Int) (pr_ : Int) (w_ : Nat → Int) (v_ : Nat → Int) (q_ : Nat → Int) (u_ : Nat → Int) (kp_ : Nat → Int) (t_ : Nat → Int) (H1 : Heap) (locs1 : List Loc), GZ z_ → IL D (fun q9 : Nat => s.heap.size ≤ q9) s a ca d cd z_ pr_ w_ v_ q_ u_ z_ kp_ t_ H1 locs1 → W p l e room_1 s m #[Value.ref b] below meth c H1 locs1 10 136 (lw_Z below #[Value.ref b] s) (F0 m 501 ls [])) : W p l e room_1 s m #[Value.ref b] below meth c H locs 10 136 (lw_Z below #[Value.ref b] s) (F0 m 284 ls []) := by
  refine lv_aload_n C.1 C.2.1 dL_law_284 rfl (lv_at hl 1 rfl) ?_
  refine lv_aload_n C.1 C.2.1 dL_law_285 rfl (lv_at hl 0 rfl) ?_
  refine lv_iload_n C.1 C.2.1 dL_law_286 rfl (lv_at hl 3 rfl) ?_
  refine z_iconst C.1 C.2.1 dL_law_287 ?_
  refine z_iadd C.1 C.2.1 dL_law_288 ?_
  refine z_sld C.1 C.2.1 hX hbl hL hI.2.2.1 (i + 1) (by omega) (by omega) dL_law_289 ?_
  refine lv_aload_n C.1 C.2.1 dL_law_290 rfl (lv_at hl 0 rfl) ?_
  refine lv_iload_n C.1 C.2.1 dL_law_291 rfl (lv_at hl 3 rfl) ?_
  refine z_iconst C.1 C.2.1 dL_law_292 ?_
  refine z_iadd C.1 C.2.1 dL_law_293 ?_
  refine z_sld C.1 C.2.1 hX hbl hL hI.2.2.1 (i + 2) (by omega) (by omega) dL_law_294 ?_
  refine cL0_i (As := [.int (iI (xs (i + 1)).toInt), .int (iI (xs (i + 2)).toInt)]) C (fun _ h9 => h9) hI (met0_minor l (xs (i + 1)).toInt (xs (i + 2)).toInt z pr w v q u (iI_bd _) (iI_bd _) hz) (cwL0_minor C.2.2.2.2 ⟨Nat.le_of_ble_eq_true rfl, Nat.le_of_ble_eq_true rfl⟩) rfl hl.1 rfl (Nat.le_of_ble_eq_true rfl) dL_law_295 ⟨Nat.le_of_ble_eq_true rfl, Nat.le_of_ble_eq_true rfl⟩ (fun r0 z_0 pr_0 w_0 v_0 q_0 u_0 H locs hp0 hI => ?_)
  obtain ⟨rfl, rfl⟩ := hp0
  refine lv_aload_n C.1 C.2.1 dL_law_298 rfl (lv_at hl 2 rfl) ?_
  refine lv_aload_n C.1 C.2.1 dL_law_299 rfl (lv_at hl 0 rfl) ?_
  refine lv_iload_n C.1 C.2.1 dL_law_300 rfl (lv_at hl 3 rfl) ?_
  refine z_iconst C.1 C.2.1 dL_law_301 ?_
  refine z_iadd C.1 C.2.1 dL_law_302 ?_
  refine z_sld C.1 C.2.1 hX hbl hL hI.2.2.1 (i + 1) (by omega) (by omega) dL_law_303 ?_
  refine lv_aload_n C.1 C.2.1 dL_law_304 rfl (lv_at hl 0 rfl) ?_
  refine lv_iload_n C.1 C.2.1 dL_law_305 rfl (lv_at hl 3 rfl) ?_
  refine z_iconst C.1 C.2.1 dL_law_306 ?_
  refine z_iadd C.1 C.2.1 dL_law_307 ?_
  refine z_sld C.1 C.2.1 hX hbl hL hI.2.2.1 (i + 2) (by omega) (by omega) dL_law_308 ?_
  refine cL1_i (As := [.int (iI (xs (i + 1)).toInt), .int (iI (xs (i + 2)).toInt)]) C (fun _ h9 => h9) hI (met1_minor l (xs (i + 1)).toInt (xs (i + 2)).toInt z kp t (iI_bd _) (iI_bd _) hz) (cwL1_minor C.2.2.2.2 ⟨Nat.le_of_ble_eq_true rfl, Nat.le_of_ble_eq_true rfl⟩) rfl hl.1 rfl (Nat.le_of_ble_eq_true rfl) dL_law_309 ⟨Nat.le_of_ble_eq_true rfl, Nat.le_of_ble_eq_true rfl⟩ (fun r1 zm_1 kp_1 t_1 H locs hp1 hI => ?_)
  obtain ⟨rfl, rfl, _⟩ := hp1
  refine lv_icmp_eq (tgt := 501) C.1 C.2.1 dL_law_312 (by decide) (fun _ => ?_) (fun c9 => absurd (congrArg iI (rfl)) c9)
  exact next _ _ _ _ _ _ _ _ _ _ (hz) hI
set_option maxHeartbeats 4000000 in
set_option maxRecDepth 100000 in
/-- case 7: replaced -/
theorem lc_7 {p : Program} {l : Launch} {e : Env} {s : State} {m : MethodId} {below : List Frame} {meth : Method} {c : Code} {b L : Nat} {xs : Nat → Int32} (C : CallFix p m c code 4 s #[Value.ref b] lw_all "DeterminantDeskLaw") (hX : va_X b L xs s s.heap) (hbl : b < s.heap.size) (hL : L ≤ 256) {D : va_G} {a : Nat → Nat} {ca : Nat → ClassId} {d : Nat → Nat} {cd : Nat → ClassId} {z : Nat → Int} {pr : Int} {w : Nat → Int} {v : Nat → Int} {q : Nat → Int} {u : Nat → Int} {kp : Nat → Int} {t : Nat → Int} {H : Heap} {locs : List Loc} {ls : Array Slot} {i : Nat} (hi : i + 4 ≤ L) (hz : GZ z) (hI : IL D (fun q9 : Nat => s.heap.size ≤ q9) s a ca d cd z pr w v q u z kp t H locs) (hl : lv_has ls 4 [(0, .ref b), (1, .ref (a 0)), (2, .ref (d 0)), (3, .int (iI (i : Int)))]) (next : ∀ (z_ : Nat → Int) (pr_ : Int) (w_ : Nat → Int) (v_ : Nat → Int) (q_ : Nat → Int) (u_ : Nat → Int) (kp_ : Nat → Int) (t_ : Nat → Int) (H1 : Heap) (locs1 : List Loc), GZ z_ → IL D (fun q9 : Nat => s.heap.size ≤ q9) s a ca d cd z_ pr_ w_ v_ q_ u_ z_ kp_ t_ H1 locs1 → W p l e room_1 s m #[Value.ref b] below meth c H1 locs1 10 136 (lw_Z below #[Value.ref b] s) (F0 m 501 ls [])) : W p l e room_1 s m #[Value.ref b] below meth c H locs 10 136 (lw_Z below #[Value.ref b] s) (F0 m 317 ls []) := by
  refine lv_aload_n C.1 C.2.1 dL_law_317 rfl (lv_at hl 1 rfl) ?_
  refine lv_aload_n C.1 C.2.1 dL_law_318 rfl (lv_at hl 0 rfl) ?_
  refine lv_iload_n C.1 C.2.1 dL_law_319 rfl (lv_at hl 3 rfl) ?_
  refine z_iconst C.1 C.2.1 dL_law_320 ?_
  refine z_iadd C.1 C.2.1 dL_law_321 ?_
  refine z_sld C.1 C.2.1 hX hbl hL hI.2.2.1 (i + 1) (by omega) (by omega) dL_law_322 ?_
  refine cL0_i (As := [.int (iI (xs (i + 1)).toInt)]) C (fun _ h9 => h9) hI (met0_replaced l (xs (i + 1)).toInt z pr w v q u (iI_bd _) hz) (cwL0_replaced C.2.2.2.2 ⟨Nat.le_of_ble_eq_true rfl, Nat.le_of_ble_eq_true rfl⟩) rfl hl.1 rfl (Nat.le_of_ble_eq_true rfl) dL_law_323 ⟨Nat.le_of_ble_eq_true rfl, Nat.le_of_ble_eq_true rfl⟩ (fun r0 z_0 pr_0 w_0 v_0 q_0 u_0 H locs hp0 hI => ?_)
  obtain ⟨rfl, rfl⟩ := hp0
  refine lv_aload_n C.1 C.2.1 dL_law_326 rfl (lv_at hl 2 rfl) ?_
  refine lv_aload_n C.1 C.2.1 dL_law_327 rfl (lv_at hl 0 rfl) ?_
  refine lv_iload_n C.1 C.2.1 dL_law_328 rfl (lv_at hl 3 rfl) ?_
  refine z_iconst C.1 C.2.1 dL_law_329 ?_
  refine z_iadd C.1 C.2.1 dL_law_330 ?_
  refine z_sld C.1 C.2.1 hX hbl hL hI.2.2.1 (i + 1) (by omega) (by omega) dL_law_331 ?_
  refine cL1_i (As := [.int (iI (xs (i + 1)).toInt)]) C (fun _ h9 => h9) hI (met1_replaced l (xs (i + 1)).toInt z kp t (iI_bd _) hz) (cwL1_replaced C.2.2.2.2 ⟨Nat.le_of_ble_eq_true rfl, Nat.le_of_ble_eq_true rfl⟩) rfl hl.1 rfl (Nat.le_of_ble_eq_true rfl) dL_law_332 ⟨Nat.le_of_ble_eq_true rfl, Nat.le_of_ble_eq_true rfl⟩ (fun r1 zm_1 kp_1 t_1 H locs hp1 hI => ?_)
  obtain ⟨rfl, rfl⟩ := hp1
  refine lv_icmp_eq (tgt := 501) C.1 C.2.1 dL_law_335 (by decide) (fun _ => ?_) (fun c9 => absurd (congrArg iI (rfl)) c9)
  exact next _ _ _ _ _ _ _ _ _ _ (hz) hI
set_option maxHeartbeats 4000000 in
set_option maxRecDepth 100000 in
/-- case 8: rank -/
theorem lc_8 {p : Program} {l : Launch} {e : Env} {s : State} {m : MethodId} {below : List Frame} {meth : Method} {c : Code} {b L : Nat} {xs : Nat → Int32} (C : CallFix p m c code 4 s #[Value.ref b] lw_all "DeterminantDeskLaw") (hX : va_X b L xs s s.heap) (hbl : b < s.heap.size) (hL : L ≤ 256) {D : va_G} {a : Nat → Nat} {ca : Nat → ClassId} {d : Nat → Nat} {cd : Nat → ClassId} {z : Nat → Int} {pr : Int} {w : Nat → Int} {v : Nat → Int} {q : Nat → Int} {u : Nat → Int} {kp : Nat → Int} {t : Nat → Int} {H : Heap} {locs : List Loc} {ls : Array Slot} {i : Nat} (hi : i + 4 ≤ L) (hz : GZ z) (hI : IL D (fun q9 : Nat => s.heap.size ≤ q9) s a ca d cd z pr w v q u z kp t H locs) (hl : lv_has ls 4 [(0, .ref b), (1, .ref (a 0)), (2, .ref (d 0)), (3, .int (iI (i : Int)))]) (next : ∀ (z_ : Nat → Int) (pr_ : Int) (w_ : Nat → Int) (v_ : Nat → Int) (q_ : Nat → Int) (u_ : Nat → Int) (kp_ : Nat → Int) (t_ : Nat → Int) (H1 : Heap) (locs1 : List Loc), GZ z_ → IL D (fun q9 : Nat => s.heap.size ≤ q9) s a ca d cd z_ pr_ w_ v_ q_ u_ z_ kp_ t_ H1 locs1 → W p l e room_1 s m #[Value.ref b] below meth c H1 locs1 10 136 (lw_Z below #[Value.ref b] s) (F0 m 501 ls [])) : W p l e room_1 s m #[Value.ref b] below meth c H locs 10 136 (lw_Z below #[Value.ref b] s) (F0 m 340 ls []) := by
  refine lv_aload_n C.1 C.2.1 dL_law_340 rfl (lv_at hl 1 rfl) ?_
  refine cL0_i (As := []) C (fun _ h9 => h9) hI (met0_rank l z pr w v q u hz) (cwL0_rank C.2.2.2.2 ⟨Nat.le_of_ble_eq_true rfl, Nat.le_of_ble_eq_true rfl⟩) rfl hl.1 rfl (Nat.le_of_ble_eq_true rfl) dL_law_341 ⟨Nat.le_of_ble_eq_true rfl, Nat.le_of_ble_eq_true rfl⟩ (fun r0 z_0 pr_0 w_0 v_0 q_0 u_0 H locs hp0 hI => ?_)
  obtain ⟨hp0, rfl⟩ := hp0
  refine lv_aload_n C.1 C.2.1 dL_law_344 rfl (lv_at hl 2 rfl) ?_
  refine cL1_i (As := []) C (fun _ h9 => h9) hI (met1_rank l z kp t hz) (cwL1_rank C.2.2.2.2 ⟨Nat.le_of_ble_eq_true rfl, Nat.le_of_ble_eq_true rfl⟩) rfl hl.1 rfl (Nat.le_of_ble_eq_true rfl) dL_law_345 ⟨Nat.le_of_ble_eq_true rfl, Nat.le_of_ble_eq_true rfl⟩ (fun r1 zm_1 kp_1 t_1 H locs hp1 hI => ?_)
  obtain ⟨hp1, rfl⟩ := hp1
  refine lv_icmp_eq (tgt := 501) C.1 C.2.1 dL_law_348 (by decide) (fun _ => ?_) (fun c9 => absurd (congrArg iI (rk_same hp0 hp1)) c9)
  exact next _ _ _ _ _ _ _ _ _ _ (hz) hI
set_option maxHeartbeats 4000000 in
set_option maxRecDepth 100000 in
/-- case 9: wideRank -/
theorem lc_9 {p : Program} {l : Launch} {e : Env} {s : State} {m : MethodId} {below : List Frame} {meth : Method} {c : Code} {b L : Nat} {xs : Nat → Int32} (C : CallFix p m c code 4 s #[Value.ref b] lw_all "DeterminantDeskLaw") (hX : va_X b L xs s s.heap) (hbl : b < s.heap.size) (hL : L ≤ 256) {D : va_G} {a : Nat → Nat} {ca : Nat → ClassId} {d : Nat → Nat} {cd : Nat → ClassId} {z : Nat → Int} {pr : Int} {w : Nat → Int} {v : Nat → Int} {q : Nat → Int} {u : Nat → Int} {kp : Nat → Int} {t : Nat → Int} {H : Heap} {locs : List Loc} {ls : Array Slot} {i : Nat} (hi : i + 4 ≤ L) (hz : GZ z) (hI : IL D (fun q9 : Nat => s.heap.size ≤ q9) s a ca d cd z pr w v q u z kp t H locs) (hl : lv_has ls 4 [(0, .ref b), (1, .ref (a 0)), (2, .ref (d 0)), (3, .int (iI (i : Int)))]) (next : ∀ (z_ : Nat → Int) (pr_ : Int) (w_ : Nat → Int) (v_ : Nat → Int) (q_ : Nat → Int) (u_ : Nat → Int) (kp_ : Nat → Int) (t_ : Nat → Int) (H1 : Heap) (locs1 : List Loc), GZ z_ → IL D (fun q9 : Nat => s.heap.size ≤ q9) s a ca d cd z_ pr_ w_ v_ q_ u_ z_ kp_ t_ H1 locs1 → W p l e room_1 s m #[Value.ref b] below meth c H1 locs1 10 136 (lw_Z below #[Value.ref b] s) (F0 m 501 ls [])) : W p l e room_1 s m #[Value.ref b] below meth c H locs 10 136 (lw_Z below #[Value.ref b] s) (F0 m 353 ls []) := by
  refine lv_aload_n C.1 C.2.1 dL_law_353 rfl (lv_at hl 1 rfl) ?_
  refine cL0_i (As := []) C (fun _ h9 => h9) hI (met0_wideRank l z pr w v q u hz) (cwL0_wideRank C.2.2.2.2 ⟨Nat.le_of_ble_eq_true rfl, Nat.le_of_ble_eq_true rfl⟩) rfl hl.1 rfl (Nat.le_of_ble_eq_true rfl) dL_law_354 ⟨Nat.le_of_ble_eq_true rfl, Nat.le_of_ble_eq_true rfl⟩ (fun r0 z_0 pr_0 w_0 v_0 q_0 u_0 H locs hp0 hI => ?_)
  obtain ⟨hp0, rfl⟩ := hp0
  refine lv_aload_n C.1 C.2.1 dL_law_357 rfl (lv_at hl 2 rfl) ?_
  refine cL1_i (As := []) C (fun _ h9 => h9) hI (met1_wideRank l z kp t hz) (cwL1_wideRank C.2.2.2.2 ⟨Nat.le_of_ble_eq_true rfl, Nat.le_of_ble_eq_true rfl⟩) rfl hl.1 rfl (Nat.le_of_ble_eq_true rfl) dL_law_358 ⟨Nat.le_of_ble_eq_true rfl, Nat.le_of_ble_eq_true rfl⟩ (fun r1 zm_1 kp_1 t_1 H locs hp1 hI => ?_)
  obtain ⟨hp1, rfl⟩ := hp1
  refine lv_icmp_eq (tgt := 501) C.1 C.2.1 dL_law_361 (by decide) (fun _ => ?_) (fun c9 => absurd (congrArg iI (rk_same hp0 hp1)) c9)
  exact next _ _ _ _ _ _ _ _ _ _ (hz) hI
set_option maxHeartbeats 4000000 in
set_option maxRecDepth 100000 in
/-- case 10: coefficient -/
theorem lc_10 {p : Program} {l : Launch} {e : Env} {s : State} {m : MethodId} {below : List Frame} {meth : Method} {c : Code} {b L : Nat} {xs : Nat → Int32} (C : CallFix p m c code 4 s #[Value.ref b] lw_all "DeterminantDeskLaw") (hX : va_X b L xs s s.heap) (hbl : b < s.heap.size) (hL : L ≤ 256) {D : va_G} {a : Nat → Nat} {ca : Nat → ClassId} {d : Nat → Nat} {cd : Nat → ClassId} {z : Nat → Int} {pr : Int} {w : Nat → Int} {v : Nat → Int} {q : Nat → Int} {u : Nat → Int} {kp : Nat → Int} {t : Nat → Int} {H : Heap} {locs : List Loc} {ls : Array Slot} {i : Nat} (hi : i + 4 ≤ L) (hz : GZ z) (hI : IL D (fun q9 : Nat => s.heap.size ≤ q9) s a ca d cd z pr w v q u z kp t H locs) (hl : lv_has ls 4 [(0, .ref b), (1, .ref (a 0)), (2, .ref (d 0)), (3, .int (iI (i : Int)))]) (next : ∀ (z_ : Nat → Int) (pr_ : Int) (w_ : Nat → Int) (v_ : Nat → Int) (q_ : Nat → Int) (u_ : Nat → Int) (kp_ : Nat → Int) (t_ : Nat → Int) (H1 : Heap) (locs1 : List Loc), GZ z_ → IL D (fun q9 : Nat => s.heap.size ≤ q9) s a ca d cd z_ pr_ w_ v_ q_ u_ z_ kp_ t_ H1 locs1 → W p l e room_1 s m #[Value.ref b] below meth c H1 locs1 10 136 (lw_Z below #[Value.ref b] s) (F0 m 501 ls [])) : W p l e room_1 s m #[Value.ref b] below meth c H locs 10 136 (lw_Z below #[Value.ref b] s) (F0 m 366 ls []) := by
  refine lv_aload_n C.1 C.2.1 dL_law_366 rfl (lv_at hl 1 rfl) ?_
  refine lv_aload_n C.1 C.2.1 dL_law_367 rfl (lv_at hl 0 rfl) ?_
  refine lv_iload_n C.1 C.2.1 dL_law_368 rfl (lv_at hl 3 rfl) ?_
  refine z_iconst C.1 C.2.1 dL_law_369 ?_
  refine z_iadd C.1 C.2.1 dL_law_370 ?_
  refine z_sld C.1 C.2.1 hX hbl hL hI.2.2.1 (i + 1) (by omega) (by omega) dL_law_371 ?_
  refine cL0_i (As := [.int (iI (xs (i + 1)).toInt)]) C (fun _ h9 => h9) hI (met0_coefficient l (xs (i + 1)).toInt z pr w v q u (iI_bd _) hz) (cwL0_coefficient C.2.2.2.2 ⟨Nat.le_of_ble_eq_true rfl, Nat.le_of_ble_eq_true rfl⟩) rfl hl.1 rfl (Nat.le_of_ble_eq_true rfl) dL_law_372 ⟨Nat.le_of_ble_eq_true rfl, Nat.le_of_ble_eq_true rfl⟩ (fun r0 z_0 pr_0 w_0 v_0 q_0 u_0 H locs hp0 hI => ?_)
  obtain ⟨rfl, rfl⟩ := hp0
  refine lv_aload_n C.1 C.2.1 dL_law_375 rfl (lv_at hl 2 rfl) ?_
  refine lv_aload_n C.1 C.2.1 dL_law_376 rfl (lv_at hl 0 rfl) ?_
  refine lv_iload_n C.1 C.2.1 dL_law_377 rfl (lv_at hl 3 rfl) ?_
  refine z_iconst C.1 C.2.1 dL_law_378 ?_
  refine z_iadd C.1 C.2.1 dL_law_379 ?_
  refine z_sld C.1 C.2.1 hX hbl hL hI.2.2.1 (i + 1) (by omega) (by omega) dL_law_380 ?_
  refine cL1_i (As := [.int (iI (xs (i + 1)).toInt)]) C (fun _ h9 => h9) hI (met1_coefficient l (xs (i + 1)).toInt z kp t (iI_bd _) hz) (cwL1_coefficient C.2.2.2.2 ⟨Nat.le_of_ble_eq_true rfl, Nat.le_of_ble_eq_true rfl⟩) rfl hl.1 rfl (Nat.le_of_ble_eq_true rfl) dL_law_381 ⟨Nat.le_of_ble_eq_true rfl, Nat.le_of_ble_eq_true rfl⟩ (fun r1 zm_1 kp_1 t_1 H locs hp1 hI => ?_)
  obtain ⟨rfl, rfl⟩ := hp1
  refine lv_icmp_eq (tgt := 501) C.1 C.2.1 dL_law_384 (by decide) (fun _ => ?_) (fun c9 => absurd (congrArg iI (rfl)) c9)
  exact next _ _ _ _ _ _ _ _ _ _ (hz) hI
set_option maxHeartbeats 4000000 in
set_option maxRecDepth 100000 in
/-- case 11: principal -/
theorem lc_11 {p : Program} {l : Launch} {e : Env} {s : State} {m : MethodId} {below : List Frame} {meth : Method} {c : Code} {b L : Nat} {xs : Nat → Int32} (C : CallFix p m c code 4 s #[Value.ref b] lw_all "DeterminantDeskLaw") (hX : va_X b L xs s s.heap) (hbl : b < s.heap.size) (hL : L ≤ 256) {D : va_G} {a : Nat → Nat} {ca : Nat → ClassId} {d : Nat → Nat} {cd : Nat → ClassId} {z : Nat → Int} {pr : Int} {w : Nat → Int} {v : Nat → Int} {q : Nat → Int} {u : Nat → Int} {kp : Nat → Int} {t : Nat → Int} {H : Heap} {locs : List Loc} {ls : Array Slot} {i : Nat} (hi : i + 4 ≤ L) (hz : GZ z) (hI : IL D (fun q9 : Nat => s.heap.size ≤ q9) s a ca d cd z pr w v q u z kp t H locs) (hl : lv_has ls 4 [(0, .ref b), (1, .ref (a 0)), (2, .ref (d 0)), (3, .int (iI (i : Int)))]) (next : ∀ (z_ : Nat → Int) (pr_ : Int) (w_ : Nat → Int) (v_ : Nat → Int) (q_ : Nat → Int) (u_ : Nat → Int) (kp_ : Nat → Int) (t_ : Nat → Int) (H1 : Heap) (locs1 : List Loc), GZ z_ → IL D (fun q9 : Nat => s.heap.size ≤ q9) s a ca d cd z_ pr_ w_ v_ q_ u_ z_ kp_ t_ H1 locs1 → W p l e room_1 s m #[Value.ref b] below meth c H1 locs1 10 136 (lw_Z below #[Value.ref b] s) (F0 m 501 ls [])) : W p l e room_1 s m #[Value.ref b] below meth c H locs 10 136 (lw_Z below #[Value.ref b] s) (F0 m 389 ls []) := by
  refine lv_aload_n C.1 C.2.1 dL_law_389 rfl (lv_at hl 1 rfl) ?_
  refine lv_aload_n C.1 C.2.1 dL_law_390 rfl (lv_at hl 0 rfl) ?_
  refine lv_iload_n C.1 C.2.1 dL_law_391 rfl (lv_at hl 3 rfl) ?_
  refine z_iconst C.1 C.2.1 dL_law_392 ?_
  refine z_iadd C.1 C.2.1 dL_law_393 ?_
  refine z_sld C.1 C.2.1 hX hbl hL hI.2.2.1 (i + 1) (by omega) (by omega) dL_law_394 ?_
  refine cL0_i (As := [.int (iI (xs (i + 1)).toInt)]) C (fun _ h9 => h9) hI (met0_principal l (xs (i + 1)).toInt z pr w v q u (iI_bd _) hz) (cwL0_principal C.2.2.2.2 ⟨Nat.le_of_ble_eq_true rfl, Nat.le_of_ble_eq_true rfl⟩) rfl hl.1 rfl (Nat.le_of_ble_eq_true rfl) dL_law_395 ⟨Nat.le_of_ble_eq_true rfl, Nat.le_of_ble_eq_true rfl⟩ (fun r0 z_0 pr_0 w_0 v_0 q_0 u_0 H locs hp0 hI => ?_)
  obtain ⟨rfl, rfl⟩ := hp0
  refine lv_aload_n C.1 C.2.1 dL_law_398 rfl (lv_at hl 2 rfl) ?_
  refine lv_aload_n C.1 C.2.1 dL_law_399 rfl (lv_at hl 0 rfl) ?_
  refine lv_iload_n C.1 C.2.1 dL_law_400 rfl (lv_at hl 3 rfl) ?_
  refine z_iconst C.1 C.2.1 dL_law_401 ?_
  refine z_iadd C.1 C.2.1 dL_law_402 ?_
  refine z_sld C.1 C.2.1 hX hbl hL hI.2.2.1 (i + 1) (by omega) (by omega) dL_law_403 ?_
  refine cL1_i (As := [.int (iI (xs (i + 1)).toInt)]) C (fun _ h9 => h9) hI (met1_principal l (xs (i + 1)).toInt z kp t (iI_bd _) hz) (cwL1_principal C.2.2.2.2 ⟨Nat.le_of_ble_eq_true rfl, Nat.le_of_ble_eq_true rfl⟩) rfl hl.1 rfl (Nat.le_of_ble_eq_true rfl) dL_law_404 ⟨Nat.le_of_ble_eq_true rfl, Nat.le_of_ble_eq_true rfl⟩ (fun r1 zm_1 kp_1 t_1 H locs hp1 hI => ?_)
  obtain ⟨rfl, rfl⟩ := hp1
  refine lv_icmp_eq (tgt := 501) C.1 C.2.1 dL_law_407 (by decide) (fun _ => ?_) (fun c9 => absurd (congrArg iI (rfl)) c9)
  exact next _ _ _ _ _ _ _ _ _ _ (hz) hI
set_option maxHeartbeats 4000000 in
set_option maxRecDepth 100000 in
/-- case 12: rankOf -/
theorem lc_12 {p : Program} {l : Launch} {e : Env} {s : State} {m : MethodId} {below : List Frame} {meth : Method} {c : Code} {b L : Nat} {xs : Nat → Int32} (C : CallFix p m c code 4 s #[Value.ref b] lw_all "DeterminantDeskLaw") (hX : va_X b L xs s s.heap) (hbl : b < s.heap.size) (hL : L ≤ 256) {D : va_G} {a : Nat → Nat} {ca : Nat → ClassId} {d : Nat → Nat} {cd : Nat → ClassId} {z : Nat → Int} {pr : Int} {w : Nat → Int} {v : Nat → Int} {q : Nat → Int} {u : Nat → Int} {kp : Nat → Int} {t : Nat → Int} {H : Heap} {locs : List Loc} {ls : Array Slot} {i : Nat} (hi : i + 4 ≤ L) (hz : GZ z) (hI : IL D (fun q9 : Nat => s.heap.size ≤ q9) s a ca d cd z pr w v q u z kp t H locs) (hl : lv_has ls 4 [(0, .ref b), (1, .ref (a 0)), (2, .ref (d 0)), (3, .int (iI (i : Int)))]) (next : ∀ (z_ : Nat → Int) (pr_ : Int) (w_ : Nat → Int) (v_ : Nat → Int) (q_ : Nat → Int) (u_ : Nat → Int) (kp_ : Nat → Int) (t_ : Nat → Int) (H1 : Heap) (locs1 : List Loc), GZ z_ → IL D (fun q9 : Nat => s.heap.size ≤ q9) s a ca d cd z_ pr_ w_ v_ q_ u_ z_ kp_ t_ H1 locs1 → W p l e room_1 s m #[Value.ref b] below meth c H1 locs1 10 136 (lw_Z below #[Value.ref b] s) (F0 m 501 ls [])) : W p l e room_1 s m #[Value.ref b] below meth c H locs 10 136 (lw_Z below #[Value.ref b] s) (F0 m 412 ls []) := by
  refine lv_aload_n C.1 C.2.1 dL_law_412 rfl (lv_at hl 1 rfl) ?_
  refine lv_aload_n C.1 C.2.1 dL_law_413 rfl (lv_at hl 0 rfl) ?_
  refine lv_iload_n C.1 C.2.1 dL_law_414 rfl (lv_at hl 3 rfl) ?_
  refine z_iconst C.1 C.2.1 dL_law_415 ?_
  refine z_iadd C.1 C.2.1 dL_law_416 ?_
  refine z_sld C.1 C.2.1 hX hbl hL hI.2.2.1 (i + 1) (by omega) (by omega) dL_law_417 ?_
  refine cL0_i (As := [.int (iI (xs (i + 1)).toInt)]) C (fun _ h9 => h9) hI (met0_rankOf l (xs (i + 1)).toInt z pr w v q u (iI_bd _) hz) (cwL0_rankOf C.2.2.2.2 ⟨Nat.le_of_ble_eq_true rfl, Nat.le_of_ble_eq_true rfl⟩) rfl hl.1 rfl (Nat.le_of_ble_eq_true rfl) dL_law_418 ⟨Nat.le_of_ble_eq_true rfl, Nat.le_of_ble_eq_true rfl⟩ (fun r0 z_0 pr_0 w_0 v_0 q_0 u_0 H locs hp0 hI => ?_)
  obtain ⟨hp0, rfl⟩ := hp0
  refine lv_aload_n C.1 C.2.1 dL_law_421 rfl (lv_at hl 2 rfl) ?_
  refine lv_aload_n C.1 C.2.1 dL_law_422 rfl (lv_at hl 0 rfl) ?_
  refine lv_iload_n C.1 C.2.1 dL_law_423 rfl (lv_at hl 3 rfl) ?_
  refine z_iconst C.1 C.2.1 dL_law_424 ?_
  refine z_iadd C.1 C.2.1 dL_law_425 ?_
  refine z_sld C.1 C.2.1 hX hbl hL hI.2.2.1 (i + 1) (by omega) (by omega) dL_law_426 ?_
  refine cL1_i (As := [.int (iI (xs (i + 1)).toInt)]) C (fun _ h9 => h9) hI (met1_rankOf l (xs (i + 1)).toInt z kp t (iI_bd _) hz) (cwL1_rankOf C.2.2.2.2 ⟨Nat.le_of_ble_eq_true rfl, Nat.le_of_ble_eq_true rfl⟩) rfl hl.1 rfl (Nat.le_of_ble_eq_true rfl) dL_law_427 ⟨Nat.le_of_ble_eq_true rfl, Nat.le_of_ble_eq_true rfl⟩ (fun r1 zm_1 kp_1 t_1 H locs hp1 hI => ?_)
  obtain ⟨hp1, rfl⟩ := hp1
  refine lv_icmp_eq (tgt := 501) C.1 C.2.1 dL_law_430 (by decide) (fun _ => ?_) (fun c9 => absurd (congrArg iI (rl_rank_fun hp0 hp1)) c9)
  exact next _ _ _ _ _ _ _ _ _ _ (hz) hI
set_option maxHeartbeats 4000000 in
set_option maxRecDepth 100000 in
/-- case 13: determinantWith -/
theorem lc_13 {p : Program} {l : Launch} {e : Env} {s : State} {m : MethodId} {below : List Frame} {meth : Method} {c : Code} {b L : Nat} {xs : Nat → Int32} (C : CallFix p m c code 4 s #[Value.ref b] lw_all "DeterminantDeskLaw") (hX : va_X b L xs s s.heap) (hbl : b < s.heap.size) (hL : L ≤ 256) {D : va_G} {a : Nat → Nat} {ca : Nat → ClassId} {d : Nat → Nat} {cd : Nat → ClassId} {z : Nat → Int} {pr : Int} {w : Nat → Int} {v : Nat → Int} {q : Nat → Int} {u : Nat → Int} {kp : Nat → Int} {t : Nat → Int} {H : Heap} {locs : List Loc} {ls : Array Slot} {i : Nat} (hi : i + 4 ≤ L) (hz : GZ z) (hI : IL D (fun q9 : Nat => s.heap.size ≤ q9) s a ca d cd z pr w v q u z kp t H locs) (hl : lv_has ls 4 [(0, .ref b), (1, .ref (a 0)), (2, .ref (d 0)), (3, .int (iI (i : Int)))]) (next : ∀ (z_ : Nat → Int) (pr_ : Int) (w_ : Nat → Int) (v_ : Nat → Int) (q_ : Nat → Int) (u_ : Nat → Int) (kp_ : Nat → Int) (t_ : Nat → Int) (H1 : Heap) (locs1 : List Loc), GZ z_ → IL D (fun q9 : Nat => s.heap.size ≤ q9) s a ca d cd z_ pr_ w_ v_ q_ u_ z_ kp_ t_ H1 locs1 → W p l e room_1 s m #[Value.ref b] below meth c H1 locs1 10 136 (lw_Z below #[Value.ref b] s) (F0 m 501 ls [])) : W p l e room_1 s m #[Value.ref b] below meth c H locs 10 136 (lw_Z below #[Value.ref b] s) (F0 m 435 ls []) := by
  refine lv_aload_n C.1 C.2.1 dL_law_435 rfl (lv_at hl 1 rfl) ?_
  refine lv_aload_n C.1 C.2.1 dL_law_436 rfl (lv_at hl 0 rfl) ?_
  refine lv_iload_n C.1 C.2.1 dL_law_437 rfl (lv_at hl 3 rfl) ?_
  refine z_iconst C.1 C.2.1 dL_law_438 ?_
  refine z_iadd C.1 C.2.1 dL_law_439 ?_
  refine z_sld C.1 C.2.1 hX hbl hL hI.2.2.1 (i + 1) (by omega) (by omega) dL_law_440 ?_
  refine lv_aload_n C.1 C.2.1 dL_law_441 rfl (lv_at hl 0 rfl) ?_
  refine lv_iload_n C.1 C.2.1 dL_law_442 rfl (lv_at hl 3 rfl) ?_
  refine z_iconst C.1 C.2.1 dL_law_443 ?_
  refine z_iadd C.1 C.2.1 dL_law_444 ?_
  refine z_sld C.1 C.2.1 hX hbl hL hI.2.2.1 (i + 2) (by omega) (by omega) dL_law_445 ?_
  refine lv_aload_n C.1 C.2.1 dL_law_446 rfl (lv_at hl 0 rfl) ?_
  refine lv_iload_n C.1 C.2.1 dL_law_447 rfl (lv_at hl 3 rfl) ?_
  refine z_iconst C.1 C.2.1 dL_law_448 ?_
  refine z_iadd C.1 C.2.1 dL_law_449 ?_
  refine z_sld C.1 C.2.1 hX hbl hL hI.2.2.1 (i + 3) (by omega) (by omega) dL_law_450 ?_
  refine cL0_i (As := [.int (iI (xs (i + 1)).toInt), .int (iI (xs (i + 2)).toInt), .int (iI (xs (i + 3)).toInt)]) C (fun _ h9 => h9) hI (met0_determinantWith l (xs (i + 1)).toInt (xs (i + 2)).toInt (xs (i + 3)).toInt z pr w v q u (iI_bd _) (iI_bd _) (iI_bd _) hz) (cwL0_determinantWith C.2.2.2.2 ⟨Nat.le_of_ble_eq_true rfl, Nat.le_of_ble_eq_true rfl⟩) rfl hl.1 rfl (Nat.le_of_ble_eq_true rfl) dL_law_451 ⟨Nat.le_of_ble_eq_true rfl, Nat.le_of_ble_eq_true rfl⟩ (fun r0 z_0 pr_0 w_0 v_0 q_0 u_0 H locs hp0 hI => ?_)
  obtain ⟨rfl, rfl⟩ := hp0
  refine lv_aload_n C.1 C.2.1 dL_law_454 rfl (lv_at hl 2 rfl) ?_
  refine lv_aload_n C.1 C.2.1 dL_law_455 rfl (lv_at hl 0 rfl) ?_
  refine lv_iload_n C.1 C.2.1 dL_law_456 rfl (lv_at hl 3 rfl) ?_
  refine z_iconst C.1 C.2.1 dL_law_457 ?_
  refine z_iadd C.1 C.2.1 dL_law_458 ?_
  refine z_sld C.1 C.2.1 hX hbl hL hI.2.2.1 (i + 1) (by omega) (by omega) dL_law_459 ?_
  refine lv_aload_n C.1 C.2.1 dL_law_460 rfl (lv_at hl 0 rfl) ?_
  refine lv_iload_n C.1 C.2.1 dL_law_461 rfl (lv_at hl 3 rfl) ?_
  refine z_iconst C.1 C.2.1 dL_law_462 ?_
  refine z_iadd C.1 C.2.1 dL_law_463 ?_
  refine z_sld C.1 C.2.1 hX hbl hL hI.2.2.1 (i + 2) (by omega) (by omega) dL_law_464 ?_
  refine lv_aload_n C.1 C.2.1 dL_law_465 rfl (lv_at hl 0 rfl) ?_
  refine lv_iload_n C.1 C.2.1 dL_law_466 rfl (lv_at hl 3 rfl) ?_
  refine z_iconst C.1 C.2.1 dL_law_467 ?_
  refine z_iadd C.1 C.2.1 dL_law_468 ?_
  refine z_sld C.1 C.2.1 hX hbl hL hI.2.2.1 (i + 3) (by omega) (by omega) dL_law_469 ?_
  refine cL1_i (As := [.int (iI (xs (i + 1)).toInt), .int (iI (xs (i + 2)).toInt), .int (iI (xs (i + 3)).toInt)]) C (fun _ h9 => h9) hI (met1_determinantWith l (xs (i + 1)).toInt (xs (i + 2)).toInt (xs (i + 3)).toInt z kp t (iI_bd _) (iI_bd _) (iI_bd _) hz) (cwL1_determinantWith C.2.2.2.2 ⟨Nat.le_of_ble_eq_true rfl, Nat.le_of_ble_eq_true rfl⟩) rfl hl.1 rfl (Nat.le_of_ble_eq_true rfl) dL_law_470 ⟨Nat.le_of_ble_eq_true rfl, Nat.le_of_ble_eq_true rfl⟩ (fun r1 zm_1 kp_1 t_1 H locs hp1 hI => ?_)
  obtain ⟨rfl, rfl⟩ := hp1
  refine lv_icmp_eq (tgt := 501) C.1 C.2.1 dL_law_473 (by decide) (fun _ => ?_) (fun c9 => absurd (congrArg iI (rfl)) c9)
  exact next _ _ _ _ _ _ _ _ _ _ (hz) hI
set_option maxHeartbeats 4000000 in
set_option maxRecDepth 100000 in
/-- case 14: shifted -/
theorem lc_14 {p : Program} {l : Launch} {e : Env} {s : State} {m : MethodId} {below : List Frame} {meth : Method} {c : Code} {b L : Nat} {xs : Nat → Int32} (C : CallFix p m c code 4 s #[Value.ref b] lw_all "DeterminantDeskLaw") (hX : va_X b L xs s s.heap) (hbl : b < s.heap.size) (hL : L ≤ 256) {D : va_G} {a : Nat → Nat} {ca : Nat → ClassId} {d : Nat → Nat} {cd : Nat → ClassId} {z : Nat → Int} {pr : Int} {w : Nat → Int} {v : Nat → Int} {q : Nat → Int} {u : Nat → Int} {kp : Nat → Int} {t : Nat → Int} {H : Heap} {locs : List Loc} {ls : Array Slot} {i : Nat} (hi : i + 4 ≤ L) (hz : GZ z) (hI : IL D (fun q9 : Nat => s.heap.size ≤ q9) s a ca d cd z pr w v q u z kp t H locs) (hl : lv_has ls 4 [(0, .ref b), (1, .ref (a 0)), (2, .ref (d 0)), (3, .int (iI (i : Int)))]) (next : ∀ (z_ : Nat → Int) (pr_ : Int) (w_ : Nat → Int) (v_ : Nat → Int) (q_ : Nat → Int) (u_ : Nat → Int) (kp_ : Nat → Int) (t_ : Nat → Int) (H1 : Heap) (locs1 : List Loc), GZ z_ → IL D (fun q9 : Nat => s.heap.size ≤ q9) s a ca d cd z_ pr_ w_ v_ q_ u_ z_ kp_ t_ H1 locs1 → W p l e room_1 s m #[Value.ref b] below meth c H1 locs1 10 136 (lw_Z below #[Value.ref b] s) (F0 m 501 ls [])) : W p l e room_1 s m #[Value.ref b] below meth c H locs 10 136 (lw_Z below #[Value.ref b] s) (F0 m 478 ls []) := by
  refine lv_aload_n C.1 C.2.1 dL_law_478 rfl (lv_at hl 1 rfl) ?_
  refine lv_aload_n C.1 C.2.1 dL_law_479 rfl (lv_at hl 0 rfl) ?_
  refine lv_iload_n C.1 C.2.1 dL_law_480 rfl (lv_at hl 3 rfl) ?_
  refine z_iconst C.1 C.2.1 dL_law_481 ?_
  refine z_iadd C.1 C.2.1 dL_law_482 ?_
  refine z_sld C.1 C.2.1 hX hbl hL hI.2.2.1 (i + 1) (by omega) (by omega) dL_law_483 ?_
  refine cL0_i (As := [.int (iI (xs (i + 1)).toInt)]) C (fun _ h9 => h9) hI (met0_shifted l (xs (i + 1)).toInt z pr w v q u (iI_bd _) hz) (cwL0_shifted C.2.2.2.2 ⟨Nat.le_of_ble_eq_true rfl, Nat.le_of_ble_eq_true rfl⟩) rfl hl.1 rfl (Nat.le_of_ble_eq_true rfl) dL_law_484 ⟨Nat.le_of_ble_eq_true rfl, Nat.le_of_ble_eq_true rfl⟩ (fun r0 z_0 pr_0 w_0 v_0 q_0 u_0 H locs hp0 hI => ?_)
  obtain ⟨rfl, rfl⟩ := hp0
  refine lv_aload_n C.1 C.2.1 dL_law_487 rfl (lv_at hl 2 rfl) ?_
  refine lv_aload_n C.1 C.2.1 dL_law_488 rfl (lv_at hl 0 rfl) ?_
  refine lv_iload_n C.1 C.2.1 dL_law_489 rfl (lv_at hl 3 rfl) ?_
  refine z_iconst C.1 C.2.1 dL_law_490 ?_
  refine z_iadd C.1 C.2.1 dL_law_491 ?_
  refine z_sld C.1 C.2.1 hX hbl hL hI.2.2.1 (i + 1) (by omega) (by omega) dL_law_492 ?_
  refine cL1_i (As := [.int (iI (xs (i + 1)).toInt)]) C (fun _ h9 => h9) hI (met1_shifted l (xs (i + 1)).toInt z kp t (iI_bd _) hz) (cwL1_shifted C.2.2.2.2 ⟨Nat.le_of_ble_eq_true rfl, Nat.le_of_ble_eq_true rfl⟩) rfl hl.1 rfl (Nat.le_of_ble_eq_true rfl) dL_law_493 ⟨Nat.le_of_ble_eq_true rfl, Nat.le_of_ble_eq_true rfl⟩ (fun r1 zm_1 kp_1 t_1 H locs hp1 hI => ?_)
  obtain ⟨rfl, rfl⟩ := hp1
  refine lv_icmp_eq (tgt := 501) C.1 C.2.1 dL_law_496 (by decide) (fun _ => ?_) (fun c9 => absurd (congrArg iI (rfl)) c9)
  exact next _ _ _ _ _ _ _ _ _ _ (hz) hI
end
section
set_option maxRecDepth 100000
set_option maxHeartbeats 4000000 in
theorem law_loop {p : Program} {l : Launch} {e : Env} {s : State} {m : MethodId} {below : List Frame} {meth : Method} {c : Code} {b L : Nat} {xs : Nat → Int32} (C : CallFix p m c code 4 s #[Value.ref b] lw_all "DeterminantDeskLaw") (hr : meth.sig.returnType = ret) (hlocks : meth.locks = false) (hX : va_X b L xs s s.heap) (hbl : b < s.heap.size) (hL : L ≤ 256) {D : va_G} {a : Nat → Nat} {ca : Nat → ClassId} {d : Nat → Nat} {cd : Nat → ClassId} : ∀ (n i : Nat), L < i + n → i ≤ L → ∀ (z : Nat → Int) (pr : Int) (w : Nat → Int) (v : Nat → Int) (q : Nat → Int) (u : Nat → Int) (kp : Nat → Int) (t : Nat → Int) (H : Heap) (locs : List Loc), GZ z → IL D (fun q9 : Nat => s.heap.size ≤ q9) s a ca d cd z pr w v q u z kp t H locs → ∀ (ls : Array Slot), lv_has ls 4 [(0, .ref b), (1, .ref (a 0)), (2, .ref (d 0)), (3, .int (iI (i : Int)))] → W p l e room_1 s m #[Value.ref b] below meth c H locs 10 136 (lw_Z below #[Value.ref b] s) (F0 m 18 ls []) := by
  intro n
  induction n with
  | zero =>
    intro i h1 h2
    exact absurd h1 (by omega)
  | succ n ih =>
    intro i h1 h2 z pr w v q u kp t H locs hz hI ls hl
    refine lv_iload_n C.1 C.2.1 dL_law_18 rfl (lv_at hl 3 rfl) ?_
    refine lv_aload_n C.1 C.2.1 dL_law_19 rfl (lv_at hl 0 rfl) ?_
    refine va_slen C.1 C.2.1 hX hbl (Nat.not_le.mpr hbl) hI.2.2.1 dL_law_20 ?_
    refine z_re (iI_nI L) ?_
    refine z_iconst C.1 C.2.1 dL_law_21 ?_
    refine z_isub C.1 C.2.1 dL_law_22 ?_
    refine z_icmp_gt C.1 C.2.1 507 dL_law_23 (by decide) (by omega) (by omega) (fun c1 => ?_) (fun c1 => ?_)
    · refine lv_iconst (v := 1) C.1 C.2.1 dL_law_507 (by decide) ?_
      refine va_forget (fun q hq => hI.2.2.1.2.2 q hq) ?_
      refine W.widen (k := 600000) (n := 7290000) (Nat.le_of_ble_eq_true rfl) (Nat.le_of_ble_eq_true rfl) ?_
      exact lw_ret C.1 C.2.1 hr hlocks dL_law_508
    · have hi : i + 4 ≤ L := by omega
      have next : ∀ (z_ : Nat → Int) (pr_ : Int) (w_ : Nat → Int) (v_ : Nat → Int) (q_ : Nat → Int) (u_ : Nat → Int) (kp_ : Nat → Int) (t_ : Nat → Int) (H1 : Heap) (locs1 : List Loc), GZ z_ → IL D (fun q9 : Nat => s.heap.size ≤ q9) s a ca d cd z_ pr_ w_ v_ q_ u_ z_ kp_ t_ H1 locs1 → W p l e room_1 s m #[Value.ref b] below meth c H1 locs1 10 136 (lw_Z below #[Value.ref b] s) (F0 m 501 ls []) := by
        intro z_ pr_ w_ v_ q_ u_ kp_ t_ H1 locs1 hz_ hI_
        refine lv_iinc (v := iI ((i + 4 : Nat) : Int)) (lv' := [(3, .int (iI ((i + 4 : Nat) : Int))), (0, .ref b), (1, .ref (a 0)), (2, .ref (d 0))]) C.1 C.2.1 dL_law_501 hl (k := 3) rfl (iI_add (i : Int) 4) (by decide) rfl (fun ls hl => ?_)
        refine lv_goto (tgt := 18) C.1 C.2.1 dL_law_504 (by decide) ?_
        exact ih (i + 4) (by omega) (by omega) z_ pr_ w_ v_ q_ u_ kp_ t_ H1 locs1 hz_ hI_ ls (lv_sub hl [1, 2, 3, 0] rfl)
      refine lv_aload_n C.1 C.2.1 dL_law_26 rfl (lv_at hl 0 rfl) ?_
      refine lv_iload_n C.1 C.2.1 dL_law_27 rfl (lv_at hl 3 rfl) ?_
      refine z_sld C.1 C.2.1 hX hbl hL hI.2.2.1 i rfl (by omega) dL_law_28 ?_
      refine z_bipush C.1 C.2.1 dL_law_29 (by decide +kernel) ?_
      obtain ⟨j, hj, ej⟩ := pk_andE (xs i) (m := 15) 4 rfl
      refine z_iand C.1 C.2.1 (j : Int) dL_law_31 (by rw [iI_of, ← iI_nI]; exact ej) ?_
      have hq : j = 0 ∨ j = 1 ∨ j = 2 ∨ j = 3 ∨ j = 4 ∨ j = 5 ∨ j = 6 ∨ j = 7 ∨ j = 8 ∨ j = 9 ∨ j = 10 ∨ j = 11 ∨ j = 12 ∨ j = 13 ∨ j = 14 ∨ j = 15 := by omega
      rcases hq with rfl | rfl | rfl | rfl | rfl | rfl | rfl | rfl | rfl | rfl | rfl | rfl | rfl | rfl | rfl | rfl
      · refine lv_tableIn (tgt := 108) (off := 76) C.1 C.2.1 dL_law_32 (by decide +kernel) (by decide +kernel) (by decide +kernel) (by decide) ?_
        exact lc_0 C hX hbl hL hi hz hI hl next
      · refine lv_tableIn (tgt := 151) (off := 119) C.1 C.2.1 dL_law_32 (by decide +kernel) (by decide +kernel) (by decide +kernel) (by decide) ?_
        exact lc_1 C hX hbl hL hi hz hI hl next
      · refine lv_tableIn (tgt := 184) (off := 152) C.1 C.2.1 dL_law_32 (by decide +kernel) (by decide +kernel) (by decide +kernel) (by decide) ?_
        exact lc_2 C hX hbl hL hi hz hI hl next
      · refine lv_tableIn (tgt := 217) (off := 185) C.1 C.2.1 dL_law_32 (by decide +kernel) (by decide +kernel) (by decide +kernel) (by decide) ?_
        exact lc_3 C hX hbl hL hi hz hI hl next
      · refine lv_tableIn (tgt := 260) (off := 228) C.1 C.2.1 dL_law_32 (by decide +kernel) (by decide +kernel) (by decide +kernel) (by decide) ?_
        exact lc_4 C hX hbl hL hi hz hI hl next
      · refine lv_tableIn (tgt := 271) (off := 239) C.1 C.2.1 dL_law_32 (by decide +kernel) (by decide +kernel) (by decide +kernel) (by decide) ?_
        exact lc_5 C hX hbl hL hi hz hI hl next
      · refine lv_tableIn (tgt := 284) (off := 252) C.1 C.2.1 dL_law_32 (by decide +kernel) (by decide +kernel) (by decide +kernel) (by decide) ?_
        exact lc_6 C hX hbl hL hi hz hI hl next
      · refine lv_tableIn (tgt := 317) (off := 285) C.1 C.2.1 dL_law_32 (by decide +kernel) (by decide +kernel) (by decide +kernel) (by decide) ?_
        exact lc_7 C hX hbl hL hi hz hI hl next
      · refine lv_tableIn (tgt := 340) (off := 308) C.1 C.2.1 dL_law_32 (by decide +kernel) (by decide +kernel) (by decide +kernel) (by decide) ?_
        exact lc_8 C hX hbl hL hi hz hI hl next
      · refine lv_tableIn (tgt := 353) (off := 321) C.1 C.2.1 dL_law_32 (by decide +kernel) (by decide +kernel) (by decide +kernel) (by decide) ?_
        exact lc_9 C hX hbl hL hi hz hI hl next
      · refine lv_tableIn (tgt := 366) (off := 334) C.1 C.2.1 dL_law_32 (by decide +kernel) (by decide +kernel) (by decide +kernel) (by decide) ?_
        exact lc_10 C hX hbl hL hi hz hI hl next
      · refine lv_tableIn (tgt := 389) (off := 357) C.1 C.2.1 dL_law_32 (by decide +kernel) (by decide +kernel) (by decide +kernel) (by decide) ?_
        exact lc_11 C hX hbl hL hi hz hI hl next
      · refine lv_tableIn (tgt := 412) (off := 380) C.1 C.2.1 dL_law_32 (by decide +kernel) (by decide +kernel) (by decide +kernel) (by decide) ?_
        exact lc_12 C hX hbl hL hi hz hI hl next
      · refine lv_tableIn (tgt := 435) (off := 403) C.1 C.2.1 dL_law_32 (by decide +kernel) (by decide +kernel) (by decide +kernel) (by decide) ?_
        exact lc_13 C hX hbl hL hi hz hI hl next
      · refine lv_tableIn (tgt := 478) (off := 446) C.1 C.2.1 dL_law_32 (by decide +kernel) (by decide +kernel) (by decide +kernel) (by decide) ?_
        exact lc_14 C hX hbl hL hi hz hI hl next
      · refine lv_tableOut (tgt := 501) C.1 C.2.1 dL_law_32 (Or.inr (by decide +kernel)) (by decide) ?_
        exact next _ _ _ _ _ _ _ _ _ _ hz hI
end
section
set_option maxRecDepth 100000
theorem cwI0 {s : State} {args : Array Value} (hts : ∀ w ∈ lw_all, w.before args s = true) : CallB room_1 s args "DeterminantDeskLaw" 9 yX0_init cX0_init 1 none (ws_ yX0_init cX0_init 1 none) rm0_init 5 55 0 ∧ yX0_init.name = "<init>" ∧ (Cond.instanceMethod yX0_init).before args s = true := cwI 0 hts (lw_meth q33) rfl rfl rfl (hts _ q27) (hts _ q31) (hts _ q32) rfl (by decide +kernel) ⟨Nat.le_of_ble_eq_true rfl, Nat.le_of_ble_eq_true rfl⟩
theorem cwI1 {s : State} {args : Array Value} (hts : ∀ w ∈ lw_all, w.before args s = true) : CallB room_1 s args "DeterminantDeskLaw" 12 yX1_init cX1_init 1 none (ws_ yX1_init cX1_init 1 none) rm1_init 3 72 0 ∧ yX1_init.name = "<init>" ∧ (Cond.instanceMethod yX1_init).before args s = true := cwI 0 hts (lw_meth q205) rfl rfl rfl (hts _ q28) (hts _ q203) (hts _ q204) rfl (by decide +kernel) ⟨Nat.le_of_ble_eq_true rfl, Nat.le_of_ble_eq_true rfl⟩
set_option maxHeartbeats 4000000 in
theorem whole_start {p : Program} {e : Env} {s : State} {m : MethodId} {below : List Frame} {meth : Method} {c : Code} (l : Launch) {b L : Nat} {xs : Nat → Int32} (hL : L ≤ 256) (C0 : lw_At p s m meth c b L xs) : W p l e room_1 s m #[Value.ref b] below meth c s.heap [] 0 0 (lw_Z below #[Value.ref b] s) (entryFrame m ([Value.ref b] : List Value).toArray 4) := by
  obtain ⟨hx, hb, hr, hml, hown, hts0, hX, hbl, hlocks, hgv⟩ := C0
  have hts : ∀ w ∈ lw_all, w.before #[Value.ref b] s = true := fun w h => hts0 w (lw_all_tbl h)
  have C : CallFix p m c code 4 s #[Value.ref b] lw_all "DeterminantDeskLaw" := ⟨hx, hb, hml, hown, hts⟩
  have hA : ∀ q : Nat, s.heap.size ≤ q → (fun q9 : Nat => s.heap.size ≤ q9) q := fun _ h => h
  obtain ⟨c0_, iS0, hKn0⟩ := u_known (C := RX0) (T := TX0) (N := 6) (n := 6) hts in_X0 (hts _ q30)
  obtain ⟨c1_, iS1, hKn1⟩ := u_known (C := RX1) (T := TX1) (N := 3) (n := 3) hts in_X1 (hts _ q202)
  obtain ⟨D, hD0⟩ : ∃ D : va_G, D = (fun k => if k = 0 then c0_ else c1_, fun k => if k = 0 then iS0 else iS1) := ⟨_, rfl⟩
  have hK : va_K D vwCl [] s := by
    subst hD0
    refine ⟨?_, fun k q hk => by cases hk⟩
    intro k q hq
    match k, hq with
    | 0, hq => cases hq; exact hKn0
    | 1, hq => cases hq; exact hKn1
    | k + 2, hq => simp [vwCl] at hq
  have hP : va_P D vwCl [] s.heap := fun k q hk => by cases hk
  have hD : va_D (fun q9 : Nat => s.heap.size ≤ q9) [] := ⟨fun i j p q hp => (by cases hp), fun k q hk => (by cases hk)⟩
  have hS : va_S (fun q9 : Nat => s.heap.size ≤ q9) s.heap s.heap [] := va_S.rf
  have hl := lv_entry ([.ref b]) (n := 4) (Nat.le_of_ble_eq_true rfl)
  rw [lg_entry_eq]
  generalize (lg_sl ([.ref b]) ++ List.replicate (4 - (lg_sl ([.ref b])).length) Slot.unset).toArray = ls at hl ⊢
  have hl : lv_has ls 4 [(0, .ref b)] := hl
  refine va_new (ci := 0) (fs := f0_0) (C := RX0) (T := TX0) (N := 6) hx hb hts in_X0 tyX0 tyX0_ok hown (hts _ q29) (hts _ q30) (hts _ q27) hK hP hD hS hA rfl (fun j hj => by rcases (show j = 0 ∨ j = 1 ∨ j = 2 ∨ j = 3 ∨ j = 4 ∨ j = 5 by omega) with rfl | rfl | rfl | rfl | rfl | rfl <;> rfl) (Nat.le_of_ble_eq_true rfl) (Nat.le_of_ble_eq_true rfl) dL_law_0 (fun qx H hP hD hS => ?_)
  have hP : va_P D vwCl [(qx, .inr (0, f0_0))] H := hP
  have hD : va_D (fun q9 : Nat => s.heap.size ≤ q9) [(qx, .inr (0, f0_0))] := hD
  refine lv_dup hx hb dL_law_3 rfl ?_
  have hPc := hP.sub (ws' := [(qx, .inr (0, f0_0))]) [0] rfl
  have hDc := hD.sub (ws' := [(qx, .inr (0, f0_0))]) [0] (by decide) rfl
  have hKc := hK.sub (tys' := []) [] rfl
  have hFc := va_free (wc := [(qx, .inr (0, f0_0))]) hD hS hA [0] rfl
  refine va_callv (va_runI (As := []) (rest := [.ref qx]) C (met0_init l D qx H.size) (cwI0 hts) ⟨fun a U g mk q => by obtain ⟨q0, q1, qP, qK, qD⟩ := q; exact ⟨q0, q1, qP, va_K.moved (u := U) (U := U.calling g mk a) (Vm.Alike.refl U.vm) qK, qD⟩, fun U hU hW => ⟨rfl, by rw [hU], by rw [hU]; exact hPc, va_K.moved hW.alike hKc, hDc.weaken (fun _ _ _ _ => trivial)⟩⟩ rfl rfl hl.1 rfl (lv_room (Nat.le_of_ble_eq_true rfl)) dL_law_4 ⟨Nat.le_of_ble_eq_true rfl, Nat.le_of_ble_eq_true rfl⟩) hS (fun q9 _ h => hFc q9 h) hFc (fun S t9 H1 locs ht hvm _ hB hz1 hk1 hS => ?_)
  obtain ⟨a, ca⟩ := S
  obtain ⟨ha0, hP1, hK1, hD1⟩ := hB
  dsimp only at ha0 hP1 hK1 hD1
  subst ha0
  rw [ht] at hP1
  have hK1 := va_K.moved hvm.symm hK1
  obtain ⟨hP, hD⟩ := va_join (wr := []) (w1 := w0 a ca zz0 0 zz0 zz0 zz0 zz0) hP hD [0] [] rfl rfl (by decide) (by decide) hk1 hFc hP1 hD1
  have hK : va_K D vwCl (ty0 ca) s := hK1
  have hP : va_P D vwCl (w0 a ca zz0 0 zz0 zz0 zz0 zz0) H1 := hP
  have hD : va_D (fun q9 : Nat => s.heap.size ≤ q9) (w0 a ca zz0 0 zz0 zz0 zz0 zz0) := hD
  refine lv_astore_n (lv' := [(1, .ref (a 0)), (0, .ref b)]) hx hb dL_law_7 rfl hl (by decide) rfl (fun ls hl => ?_)
  refine va_new (ci := 1) (fs := f1_0) (C := RX1) (T := TX1) (N := 3) hx hb hts in_X1 tyX1 tyX1_ok hown (hts _ q201) (hts _ q202) (hts _ q28) hK hP hD hS hA rfl (fun j hj => by rcases (show j = 0 ∨ j = 1 ∨ j = 2 by omega) with rfl | rfl | rfl <;> rfl) (Nat.le_of_ble_eq_true rfl) (Nat.le_of_ble_eq_true rfl) dL_law_8 (fun qm H hP hD hS => ?_)
  have hP : va_P D vwCl (w0 a ca zz0 0 zz0 zz0 zz0 zz0 ++ [(qm, .inr (1, f1_0))]) H := hP
  have hD : va_D (fun q9 : Nat => s.heap.size ≤ q9) (w0 a ca zz0 0 zz0 zz0 zz0 zz0 ++ [(qm, .inr (1, f1_0))]) := hD
  refine lv_dup hx hb dL_law_11 rfl ?_
  have hPc := hP.sub (ws' := [(qm, .inr (1, f1_0))]) [6] rfl
  have hDc := hD.sub (ws' := [(qm, .inr (1, f1_0))]) [6] (by decide) rfl
  have hKc := hK.sub (tys' := []) [] rfl
  have hFc := va_free (wc := [(qm, .inr (1, f1_0))]) hD hS hA [6] rfl
  refine va_callv (va_runI (As := []) (rest := [.ref qm]) C (met1_init l D qm H.size) (cwI1 hts) ⟨fun a U g mk q => by obtain ⟨q0, q1, qP, qK, qD⟩ := q; exact ⟨q0, q1, qP, va_K.moved (u := U) (U := U.calling g mk a) (Vm.Alike.refl U.vm) qK, qD⟩, fun U hU hW => ⟨rfl, by rw [hU], by rw [hU]; exact hPc, va_K.moved hW.alike hKc, hDc.weaken (fun _ _ _ _ => trivial)⟩⟩ rfl rfl hl.1 rfl (lv_room (Nat.le_of_ble_eq_true rfl)) dL_law_12 ⟨Nat.le_of_ble_eq_true rfl, Nat.le_of_ble_eq_true rfl⟩) hS (fun q9 _ h => hFc q9 h) hFc (fun S t9 H1 locs ht hvm _ hB hz1 hk1 hS => ?_)
  obtain ⟨d, cd⟩ := S
  obtain ⟨ha0, hP1, hK1, hD1⟩ := hB
  dsimp only at ha0 hP1 hK1 hD1
  subst ha0
  rw [ht] at hP1
  have hK1 := va_K.moved hvm.symm hK1
  obtain ⟨hP, hD⟩ := va_join (wr := w0 a ca zz0 0 zz0 zz0 zz0 zz0) (w1 := w1 d cd zz0 zz0 zz0) hP hD [6] [0, 1, 2, 3, 4, 5] rfl rfl (by decide) (by decide) hk1 hFc hP1 hD1
  have hK := hK.app hK1
  refine lv_astore_n (lv' := [(2, .ref (d 0)), (1, .ref (a 0)), (0, .ref b)]) hx hb dL_law_15 rfl hl (by decide) rfl (fun ls hl => ?_)
  refine z_iconst hx hb dL_law_16 ?_
  refine lv_istore_n (lv' := [(3, .int (iI 0)), (2, .ref (d 0)), (1, .ref (a 0)), (0, .ref b)]) hx hb dL_law_17 rfl hl (by decide) rfl (fun ls hl => ?_)
  refine W.widen (k := 10) (n := 136) (Nat.le_of_ble_eq_true rfl) (Nat.le_of_ble_eq_true rfl) ?_
  exact law_loop C hr hlocks hX hbl hL (L + 1) 0 (by omega) (by omega) zz0 0 zz0 zz0 zz0 zz0 zz0 zz0 _ _ (fun k _ => by show (-50 : Int) ≤ 0 ∧ (0 : Int) ≤ 50; omega) ⟨hP, hD, hS, hK⟩ ls (lv_sub hl [3, 2, 1, 0] rfl)
end
section
set_option maxRecDepth 100000
set_option maxHeartbeats 4000000 in
theorem lw_walk (l : Launch) (b : Addr) (xs : List Int32) : MetFree l x (headSpec (Jvm.Cond.code x code maxLocals ret :: tables_1) room_1) (lw_P b xs) (fun _ _ _ _ _ => True) lw_Q := by
  refine MetFree.of_bodyS (code := code) (maxLocals := maxLocals) (ret := ret) (by decide) ?_ ?_
  · intro args s m h hn
    obtain ⟨meth, c, h1, h2, h3, h4, h5, h6, -, -⟩ := Cond.code_spec hn (atoms_spec (ws := Jvm.Cond.code x code maxLocals ret :: tables_1) h _ List.mem_cons_self)
    exact ⟨meth, c, h1, h2, h3, h4, h5, h6⟩
  · intro p e s m args below meth c s₁ B hml0 hP _
    obtain ⟨rfl, hx, hbd, hgv⟩ := hP
    obtain ⟨scr, harrAt, hlist, hof, hsmall⟩ := hx
    obtain ⟨hcb, hkn, -, -⟩ := State.arrayAt?_spec harrAt
    have hown : s.vm.findClass R_law = some m.cls := findClass_of_methodNamed B.named
    have hts0 : ∀ c ∈ (Jvm.Cond.code x code maxLocals ret :: tables_1), c.before #[Value.ref b] s = true := atoms_spec (ws := Jvm.Cond.code x code maxLocals ret :: tables_1) B.pre
    have hts : ∀ w ∈ lw_tbl, w.before #[Value.ref b] s = true := k2_hts_sels lw_privs (fun w hw => hts0 w (List.mem_cons_of_mem _ hw)) lw_privs_ok
    have hml : c.maxLocals = 4 := B.maxLocals_eq (hts0 _ List.mem_cons_self)
    have X₀ : Stand p l e room_1 s m #[Value.ref b] below meth c s₁ [] 0 0 := Stand.of_body B
    have hh0 : s₁.heap = s.heap := by rw [B.state]; rfl
    have hsz : scr.slots.size = xs.length := by rw [← Array.length_toList, hlist, List.length_map]
    have hval : ∀ j : Nat, j < xs.length → scr.slots[j]? = some (.int (xs.getD j 0)) := fun j hj => by
      rw [← Array.getElem?_toList, hlist]
      simp [hj]
    have hbl : b < s.heap.size := (Array.getElem?_eq_some_iff.mp hcb).1
    have hX : va_X b xs.length (fun j => xs.getD j 0) s s.heap := ⟨scr, hcb, hof, hkn, hsz, hval⟩
    have K : W p l e room_1 s m #[Value.ref b] below meth c s₁.heap [] 0 0 (lw_Z below #[Value.ref b] s) (entryFrame m ([Value.ref b] : List Value).toArray 4) := by
      rw [hh0]
      exact whole_start l hbd ⟨B.exec, B.bytes, B.returns, hml, hown, hts, hX, hbl, B.notSynchronized, hgv⟩
    obtain ⟨t, a1, o, b1, b2, b3⟩ := K s₁ rfl X₀
    exact ⟨t, o, a1, b1, b2, b3⟩
theorem lw_pre_spec {args : Array Value} {s : State} (h : (Jvm.Cond.and given_1 narrow_1).before args s = true) (hr : rest_1_c.before args s = true) : ∃ (b : Addr) (xs : List Int32), lw_P b xs args s := by
  have hs := flat_of_before _ h
  have hq := flat_of_before _ hr
  have hc : (Cond.count 1).before args s = true := hs _ (by decide +kernel)
  have harr : (Cond.arrayOf (.arg 0) .int).before args s = true := hs _ (by decide +kernel)
  have hle : (Cond.le (.length (.arg 0)) (.int 256)).before args s = true := hs _ (by decide +kernel)
  have hlen : (Cond.isInt (.length (.arg 0))).before args s = true := hq _ (by decide +kernel)
  have hall : (Cond.all (.arg 0) (.isInt (.elem (.arg 0) (.index 0)))).before args s = true := hq _ (by decide +kernel)
  obtain ⟨b, xs, hb, hx⟩ := State.ints_of_pre rfl harr hlen hall
  have hsm : xs.length < 2 ^ 31 := hx.choose_spec.2.2.2
  have hev : (Term.length (.arg 0)).eval args s none [] s = some (.int xs.length.toInt32) := hx.length_eval hb
  have hv := Cond.le_ints hev (show (Term.int 256).eval args s none [] s = some (.int 256) from rfl)
  have hd : xs.length.toInt32 ≤ 256 := by
    simpa [Cond.before, Cond.holds, hv] using hle
  have hN : xs.length ≤ 256 := (Int32.ofNat_le_ofNat hsm (by decide)).mp (show Int32.ofNat xs.length ≤ Int32.ofNat 256 from hd)
  exact ⟨b, xs, Cond.one_arg hc (show args[0]? = some (.ref b) from hb), hx, hN, h⟩
theorem lw_comes (l : Launch) : Comes l x (Jvm.Cond.code x code maxLocals ret :: tables_1) room_1 (fun tb e args s => Calls_1 tb e args s ∧ rest_1 tb e args s ∧ Pre_1 tb e args s)
    (fun _ _ args s o t => lw_Q args s o t) := by
  intro p e ha hc hk s m args below hf hfit hheap happ hpre
  obtain ⟨b, xs, hP⟩ := lw_pre_spec hpre.2.2 hpre.2.1
  obtain ⟨k, o, h1, h2, h3, hQ⟩ := lw_walk l b xs p e ha hc hk s m args below hf ((Spec.applies_iff_loose hf).mp happ).1 hP trivial
  exact ⟨k, o, h1, h2, h3, hQ⟩
theorem lw_frame {s t : State} {o : Outcome} {args : Array Value} (h : Framed s o t [] 600000 7290000) :
    Framed s o t (fieldLocs frame_1_writes args s ++ arrayLocs frame_1_arrays args s ++ staticLocs frame_1_statics s) 600000 7290000 := h
theorem lw_limb (L : Cond) (hL : ∀ (args : Array Value) (s t : State), L.after args s (.returned (some (.int 1))) t = true) :
    ArmFor flags0 classFile x code maxLocals ret World_1 tables_1 room_1 Calls_1 rest_1 Pre_1
      (fun tb e a s o t => postC L tb e a s o t ∧ Framed s o t (fieldLocs frame_1_writes a s ++ arrayLocs frame_1_arrays a s ++ staticLocs frame_1_statics s) 600000 7290000) := by
  intro l _ _ _ p e ha hc hk s m args below hf hfit hheap happ hpre
  obtain ⟨k, o, h1, h2, h3, rfl, hF⟩ := lw_comes l p e ha hc hk s m args below hf hfit hheap happ hpre
  exact ⟨k, _, h1, h2, h3, hL args s _, lw_frame hF⟩
theorem i_vc : Claimed_1_1 ∧ Claimed_1_2 := ⟨lw_limb limb_1_1 (fun args s t => by simp [limb_1_1, Cond.after, Cond.holds, Cond.value]), lw_limb limb_1_2 (fun args s t => Cond.after_iff.mpr (by
  first | (rw [show limb_1_2 = Cond.eq .result (.int 1) from rfl, Cond.eq_ints (x := 1) (y := 1) rfl rfl]; simp; done) | (simp [limb_1_2, Cond.value, Term.eval]; done)))⟩
end
