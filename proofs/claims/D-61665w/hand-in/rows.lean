section
/-- a private method of a class that the tables say can be made, by its rows of tables_1 -/
def lw_okq (q : MethodName × Nat) : Prop := (q.1.cls ≠ "java/lang/invoke/MethodHandle" ∧ q.1.cls ≠ "java/lang/invoke/VarHandle") ∧ Cond.instantiable q.1.cls q.2 ∈ tables_1 ∧ Cond.privateMethod q.1 ∈ tables_1 ∧ Cond.instanceMethod q.1 ∈ tables_1
set_option maxRecDepth 100000
theorem lw_t1 {w : Cond} (h : w ∈ tables_1_1) : w ∈ tables_1 := List.mem_append_left _ h
theorem lw_t2 {w : Cond} (h : w ∈ tables_1_2) : w ∈ tables_1 := List.mem_append_right _ h
theorem lw_p0 : lw_okq (⟨"MutantLab", "addTest", "(IIZI)I"⟩, 27) := ⟨⟨by decide +kernel, by decide +kernel⟩, lw_t1 (List.mem_of_getElem? (i := 4) rfl), lw_t1 (List.mem_of_getElem? (i := 104) rfl), lw_t1 (List.mem_of_getElem? (i := 105) rfl)⟩
theorem lw_p1 : lw_okq (⟨"MutantLab", "carryOut", "(IIII)I"⟩, 27) := ⟨⟨by decide +kernel, by decide +kernel⟩, lw_t1 (List.mem_of_getElem? (i := 4) rfl), lw_t1 (List.mem_of_getElem? (i := 112) rfl), lw_t1 (List.mem_of_getElem? (i := 113) rfl)⟩
theorem lw_p2 : lw_okq (⟨"MutantLab", "addMutant", "(IZI)I"⟩, 27) := ⟨⟨by decide +kernel, by decide +kernel⟩, lw_t1 (List.mem_of_getElem? (i := 4) rfl), lw_t1 (List.mem_of_getElem? (i := 120) rfl), lw_t1 (List.mem_of_getElem? (i := 121) rfl)⟩
theorem lw_p3 : lw_okq (⟨"MutantLab", "prepare", "()V"⟩, 27) := ⟨⟨by decide +kernel, by decide +kernel⟩, lw_t1 (List.mem_of_getElem? (i := 4) rfl), lw_t1 (List.mem_of_getElem? (i := 136) rfl), lw_t1 (List.mem_of_getElem? (i := 137) rfl)⟩
theorem lw_p4 : lw_okq (⟨"MutantLab", "runTest", "(I)V"⟩, 27) := ⟨⟨by decide +kernel, by decide +kernel⟩, lw_t1 (List.mem_of_getElem? (i := 4) rfl), lw_t1 (List.mem_of_getElem? (i := 140) rfl), lw_t1 (List.mem_of_getElem? (i := 141) rfl)⟩
theorem lw_p5 : lw_okq (⟨"MutantLab", "splitAll", "(III)V"⟩, 27) := ⟨⟨by decide +kernel, by decide +kernel⟩, lw_t1 (List.mem_of_getElem? (i := 4) rfl), lw_t1 (List.mem_of_getElem? (i := 144) rfl), lw_t1 (List.mem_of_getElem? (i := 145) rfl)⟩
theorem lw_p6 : lw_okq (⟨"MutantLab", "split", "(III)V"⟩, 27) := ⟨⟨by decide +kernel, by decide +kernel⟩, lw_t1 (List.mem_of_getElem? (i := 4) rfl), lw_t1 (List.mem_of_getElem? (i := 148) rfl), lw_t1 (List.mem_of_getElem? (i := 149) rfl)⟩
theorem lw_p7 : lw_okq (⟨"MutantLab", "stepMutant", "(I)I"⟩, 27) := ⟨⟨by decide +kernel, by decide +kernel⟩, lw_t1 (List.mem_of_getElem? (i := 4) rfl), lw_t1 (List.mem_of_getElem? (i := 152) rfl), lw_t1 (List.mem_of_getElem? (i := 153) rfl)⟩
theorem lw_p8 : lw_okq (⟨"MutantLab", "share", "(II)V"⟩, 27) := ⟨⟨by decide +kernel, by decide +kernel⟩, lw_t1 (List.mem_of_getElem? (i := 4) rfl), lw_t1 (List.mem_of_getElem? (i := 156) rfl), lw_t1 (List.mem_of_getElem? (i := 157) rfl)⟩
theorem lw_p9 : lw_okq (⟨"MutantLab", "noMutant", "(I)Z"⟩, 27) := ⟨⟨by decide +kernel, by decide +kernel⟩, lw_t1 (List.mem_of_getElem? (i := 4) rfl), lw_t1 (List.mem_of_getElem? (i := 164) rfl), lw_t1 (List.mem_of_getElem? (i := 165) rfl)⟩
theorem lw_p10 : lw_okq (⟨"MutantLab", "gatherKills", "()V"⟩, 27) := ⟨⟨by decide +kernel, by decide +kernel⟩, lw_t1 (List.mem_of_getElem? (i := 4) rfl), lw_t1 (List.mem_of_getElem? (i := 168) rfl), lw_t1 (List.mem_of_getElem? (i := 169) rfl)⟩
theorem lw_p11 : lw_okq (⟨"MutantLab", "killsIt", "(II)Z"⟩, 27) := ⟨⟨by decide +kernel, by decide +kernel⟩, lw_t1 (List.mem_of_getElem? (i := 4) rfl), lw_t1 (List.mem_of_getElem? (i := 172) rfl), lw_t1 (List.mem_of_getElem? (i := 173) rfl)⟩
theorem lw_p12 : lw_okq (⟨"MutantLab", "killersOf", "(I)I"⟩, 27) := ⟨⟨by decide +kernel, by decide +kernel⟩, lw_t1 (List.mem_of_getElem? (i := 4) rfl), lw_t1 (List.mem_of_getElem? (i := 176) rfl), lw_t1 (List.mem_of_getElem? (i := 177) rfl)⟩
theorem lw_p13 : lw_okq (⟨"MutantLab", "smallest", "(I)I"⟩, 27) := ⟨⟨by decide +kernel, by decide +kernel⟩, lw_t1 (List.mem_of_getElem? (i := 4) rfl), lw_t1 (List.mem_of_getElem? (i := 199) rfl), lw_t1 (List.mem_of_getElem? (i := 200) rfl)⟩
theorem lw_p14 : lw_okq (⟨"MutantLab", "choices", "(I)I"⟩, 27) := ⟨⟨by decide +kernel, by decide +kernel⟩, lw_t1 (List.mem_of_getElem? (i := 4) rfl), lw_t1 (List.mem_of_getElem? (i := 203) rfl), lw_t1 (List.mem_of_getElem? (i := 204) rfl)⟩
theorem lw_p15 : lw_okq (⟨"MutantLab", "killsOf", "(I)I"⟩, 27) := ⟨⟨by decide +kernel, by decide +kernel⟩, lw_t1 (List.mem_of_getElem? (i := 4) rfl), lw_t1 (List.mem_of_getElem? (i := 207) rfl), lw_t1 (List.mem_of_getElem? (i := 208) rfl)⟩
def lw_privs_1 : List (MethodName × Nat) := [(⟨"MutantLab", "addTest", "(IIZI)I"⟩, 27), (⟨"MutantLab", "carryOut", "(IIII)I"⟩, 27), (⟨"MutantLab", "addMutant", "(IZI)I"⟩, 27), (⟨"MutantLab", "prepare", "()V"⟩, 27), (⟨"MutantLab", "runTest", "(I)V"⟩, 27), (⟨"MutantLab", "splitAll", "(III)V"⟩, 27), (⟨"MutantLab", "split", "(III)V"⟩, 27), (⟨"MutantLab", "stepMutant", "(I)I"⟩, 27), (⟨"MutantLab", "share", "(II)V"⟩, 27), (⟨"MutantLab", "noMutant", "(I)Z"⟩, 27), (⟨"MutantLab", "gatherKills", "()V"⟩, 27), (⟨"MutantLab", "killsIt", "(II)Z"⟩, 27), (⟨"MutantLab", "killersOf", "(I)I"⟩, 27), (⟨"MutantLab", "smallest", "(I)I"⟩, 27), (⟨"MutantLab", "choices", "(I)I"⟩, 27), (⟨"MutantLab", "killsOf", "(I)I"⟩, 27)]
theorem lw_r1 : ∀ q ∈ lw_privs_1, lw_okq q := List.forall_mem_cons.mpr ⟨lw_p0, List.forall_mem_cons.mpr ⟨lw_p1, List.forall_mem_cons.mpr ⟨lw_p2, List.forall_mem_cons.mpr ⟨lw_p3, List.forall_mem_cons.mpr ⟨lw_p4, List.forall_mem_cons.mpr ⟨lw_p5, List.forall_mem_cons.mpr ⟨lw_p6, List.forall_mem_cons.mpr ⟨lw_p7, List.forall_mem_cons.mpr ⟨lw_p8, List.forall_mem_cons.mpr ⟨lw_p9, List.forall_mem_cons.mpr ⟨lw_p10, List.forall_mem_cons.mpr ⟨lw_p11, List.forall_mem_cons.mpr ⟨lw_p12, List.forall_mem_cons.mpr ⟨lw_p13, List.forall_mem_cons.mpr ⟨lw_p14, List.forall_mem_cons.mpr ⟨lw_p15, fun _ h => absurd h List.not_mem_nil⟩⟩⟩⟩⟩⟩⟩⟩⟩⟩⟩⟩⟩⟩⟩⟩
theorem lw_p16 : lw_okq (⟨"MutantLab", "alike", "(I)Z"⟩, 27) := ⟨⟨by decide +kernel, by decide +kernel⟩, lw_t1 (List.mem_of_getElem? (i := 4) rfl), lw_t1 (List.mem_of_getElem? (i := 215) rfl), lw_t1 (List.mem_of_getElem? (i := 216) rfl)⟩
theorem lw_p17 : lw_okq (⟨"MutantLabModel", "add", "(IIZI)I"⟩, 17) := ⟨⟨by decide +kernel, by decide +kernel⟩, lw_t1 (List.mem_of_getElem? (i := 219) rfl), lw_t2 (List.mem_of_getElem? (i := 45) rfl), lw_t2 (List.mem_of_getElem? (i := 46) rfl)⟩
theorem lw_p18 : lw_okq (⟨"MutantLabModel", "run", "(III)V"⟩, 17) := ⟨⟨by decide +kernel, by decide +kernel⟩, lw_t1 (List.mem_of_getElem? (i := 219) rfl), lw_t2 (List.mem_of_getElem? (i := 53) rfl), lw_t2 (List.mem_of_getElem? (i := 54) rfl)⟩
theorem lw_p19 : lw_okq (⟨"MutantLabModel", "carryOut", "(IIIII)I"⟩, 17) := ⟨⟨by decide +kernel, by decide +kernel⟩, lw_t1 (List.mem_of_getElem? (i := 219) rfl), lw_t2 (List.mem_of_getElem? (i := 57) rfl), lw_t2 (List.mem_of_getElem? (i := 58) rfl)⟩
theorem lw_p20 : lw_okq (⟨"MutantLabModel", "mutate", "(IZI)I"⟩, 17) := ⟨⟨by decide +kernel, by decide +kernel⟩, lw_t1 (List.mem_of_getElem? (i := 219) rfl), lw_t2 (List.mem_of_getElem? (i := 65) rfl), lw_t2 (List.mem_of_getElem? (i := 66) rfl)⟩
theorem lw_p21 : lw_okq (⟨"MutantLabModel", "noTest", "(I)Z"⟩, 17) := ⟨⟨by decide +kernel, by decide +kernel⟩, lw_t1 (List.mem_of_getElem? (i := 219) rfl), lw_t2 (List.mem_of_getElem? (i := 81) rfl), lw_t2 (List.mem_of_getElem? (i := 82) rfl)⟩
theorem lw_p22 : lw_okq (⟨"MutantLabModel", "ok", "(II)Z"⟩, 17) := ⟨⟨by decide +kernel, by decide +kernel⟩, lw_t1 (List.mem_of_getElem? (i := 219) rfl), lw_t2 (List.mem_of_getElem? (i := 85) rfl), lw_t2 (List.mem_of_getElem? (i := 86) rfl)⟩
theorem lw_p23 : lw_okq (⟨"MutantLabModel", "noMutant", "(I)Z"⟩, 17) := ⟨⟨by decide +kernel, by decide +kernel⟩, lw_t1 (List.mem_of_getElem? (i := 219) rfl), lw_t2 (List.mem_of_getElem? (i := 93) rfl), lw_t2 (List.mem_of_getElem? (i := 94) rfl)⟩
theorem lw_p24 : lw_okq (⟨"MutantLabModel", "killsAll", "(I)Z"⟩, 17) := ⟨⟨by decide +kernel, by decide +kernel⟩, lw_t1 (List.mem_of_getElem? (i := 219) rfl), lw_t2 (List.mem_of_getElem? (i := 114) rfl), lw_t2 (List.mem_of_getElem? (i := 115) rfl)⟩
theorem lw_p25 : lw_okq (⟨"MutantLabModel", "alike", "(I)Z"⟩, 17) := ⟨⟨by decide +kernel, by decide +kernel⟩, lw_t1 (List.mem_of_getElem? (i := 219) rfl), lw_t2 (List.mem_of_getElem? (i := 122) rfl), lw_t2 (List.mem_of_getElem? (i := 123) rfl)⟩
def lw_privs_2 : List (MethodName × Nat) := [(⟨"MutantLab", "alike", "(I)Z"⟩, 27), (⟨"MutantLabModel", "add", "(IIZI)I"⟩, 17), (⟨"MutantLabModel", "run", "(III)V"⟩, 17), (⟨"MutantLabModel", "carryOut", "(IIIII)I"⟩, 17), (⟨"MutantLabModel", "mutate", "(IZI)I"⟩, 17), (⟨"MutantLabModel", "noTest", "(I)Z"⟩, 17), (⟨"MutantLabModel", "ok", "(II)Z"⟩, 17), (⟨"MutantLabModel", "noMutant", "(I)Z"⟩, 17), (⟨"MutantLabModel", "killsAll", "(I)Z"⟩, 17), (⟨"MutantLabModel", "alike", "(I)Z"⟩, 17)]
theorem lw_r2 : ∀ q ∈ lw_privs_2, lw_okq q := List.forall_mem_cons.mpr ⟨lw_p16, List.forall_mem_cons.mpr ⟨lw_p17, List.forall_mem_cons.mpr ⟨lw_p18, List.forall_mem_cons.mpr ⟨lw_p19, List.forall_mem_cons.mpr ⟨lw_p20, List.forall_mem_cons.mpr ⟨lw_p21, List.forall_mem_cons.mpr ⟨lw_p22, List.forall_mem_cons.mpr ⟨lw_p23, List.forall_mem_cons.mpr ⟨lw_p24, List.forall_mem_cons.mpr ⟨lw_p25, fun _ h => absurd h List.not_mem_nil⟩⟩⟩⟩⟩⟩⟩⟩⟩⟩
def lw_privs : List (MethodName × Nat) := lw_privs_1 ++ (lw_privs_2)
def lw_tbl : List Cond := k2_sels lw_privs ++ tables_1
theorem lw_privs_ok : ∀ q ∈ lw_privs, lw_okq q := by
  show ∀ q ∈ lw_privs_1 ++ (lw_privs_2), lw_okq q
  exact List.forall_mem_append.mpr ⟨lw_r1, lw_r2⟩
-- ===== ONE list of words for every method: the tables' words that hold all through a run =====
def lw_all : List Cond := lw_tbl.filter goodWord
/-- a word of the tables by its place: claim/WORDS.tsv -/
theorem lw_w {w : Cond} (i : Nat) (h : lw_tbl[i]? = some w) (g : goodWord w = true) : w ∈ lw_all := List.mem_filter.mpr ⟨List.mem_of_getElem? h, g⟩
theorem lw_all_tbl {w : Cond} (h : w ∈ lw_all) : w ∈ lw_tbl := (List.mem_filter.mp h).1
theorem lw_self : GoodIn lw_all lw_all := fun w h => ⟨h, good_of_word (List.mem_filter.mp h).2⟩
/-- a class's field words, by their places -/
theorem lw_in (ws : List Cond) (ps : List Nat) (hp : ws = ps.filterMap (fun i => lw_tbl[i]?)) (hg : ws.all goodWord = true) : ∀ w ∈ ws, w ∈ lw_all := by
  intro w h
  have h1 := List.all_eq_true.mp hg w h
  rw [hp] at h
  obtain ⟨i, -, hi⟩ := List.mem_filterMap.mp h
  exact lw_w i hi h1
/-- the words of a contract for the method y with code b, L locals, answer r -/
abbrev ws_ (y : MethodName) (b : ByteArray) (L : Nat) (r : Option FieldType) : List Cond := Cond.code y b L r :: lw_all
theorem lw_meth {y : MethodName} {b : ByteArray} {L : Nat} {r : Option FieldType} (h : Cond.code y b L r ∈ lw_all) : GoodIn lw_all (ws_ y b L r) := by
  intro w hw
  rcases List.mem_cons.mp hw with e | e
  · rw [e]
    exact lw_self _ h
  · exact lw_self _ e
theorem lw_app {a c : List Cond} (ha : ∀ w ∈ a, w ∈ lw_all) (hc : GoodIn lw_all c) : GoodIn lw_all (a ++ c) := by
  intro w hw
  rcases List.mem_append.mp hw with e | e
  · exact lw_self w (ha w e)
  · exact hc w e
/-- what a call through an object asks: cwV n hts (lw_V ..) -/
theorem lw_V {own : String} {idx : Nat} {C : String} {y : MethodName} {b : ByteArray} {L : Nat} {r : Option FieldType} (h1 : Cond.methodLink own idx y ∈ lw_all) (h2 : Cond.instanceMethod y ∈ lw_all) (h3 : Cond.selects C y y ∈ lw_all) (h4 : Cond.initialized C ∈ lw_all) (h5 : Cond.code y b L r ∈ lw_all) : GoodIn lw_all (wsV own idx C y (ws_ y b L r)) := by
  refine lw_app ?_ (lw_meth h5)
  intro w hw
  simp only [List.mem_cons, List.not_mem_nil, or_false] at hw
  rcases hw with e | e | e | e
  · rw [e]; exact h1
  · rw [e]; exact h2
  · rw [e]; exact h3
  · rw [e]; exact h4
/-- what a static call asks: va_cwS n hts (lw_S ..) -/
theorem lw_S {own : String} {idx : Nat} {y : MethodName} {b : ByteArray} {L : Nat} {r : Option FieldType} (h1 : Cond.methodLink own idx y ∈ lw_all) (h2 : Cond.static y ∈ lw_all) (h3 : Cond.initialized y.cls ∈ lw_all) (h4 : Cond.code y b L r ∈ lw_all) : GoodIn lw_all (va_wsS own idx y (ws_ y b L r)) := by
  refine lw_app ?_ (lw_meth h4)
  intro w hw
  simp only [List.mem_cons, List.not_mem_nil, or_false] at hw
  rcases hw with e | e | e
  · rw [e]; exact h1
  · rw [e]; exact h2
  · rw [e]; exact h3
/-- the words of a contract for a method WITH HANDLERS (hh: its table) -/
abbrev wsW_ (y : MethodName) (b : ByteArray) (L : Nat) (r : Option FieldType) (hh : List (Nat × Nat × Nat × Nat)) : List Cond := Cond.codeWith y b L r hh :: lw_all
theorem lw_methW {y : MethodName} {b : ByteArray} {L : Nat} {r : Option FieldType} {hh : List (Nat × Nat × Nat × Nat)} (h : Cond.codeWith y b L r hh ∈ lw_all) : GoodIn lw_all (wsW_ y b L r hh) := by
  intro w hw
  rcases List.mem_cons.mp hw with e | e
  · rw [e]
    exact lw_self _ h
  · exact lw_self _ e
/-- any list of words by their places (lw_in), good -/
theorem lw_good {ws : List Cond} (h : ∀ w ∈ ws, w ∈ lw_all) : GoodIn lw_all ws := fun w hw => lw_self w (h w hw)
/-- what a call of a method with handlers asks: vx_cwVW n hts (lw_VW ..), vx_cwSW n hts (lw_SW ..) -/
theorem lw_VW {own : String} {idx : Nat} {C : String} {y : MethodName} {b : ByteArray} {L : Nat} {r : Option FieldType} {hh : List (Nat × Nat × Nat × Nat)} (h1 : Cond.methodLink own idx y ∈ lw_all) (h2 : Cond.instanceMethod y ∈ lw_all) (h3 : Cond.selects C y y ∈ lw_all) (h4 : Cond.initialized C ∈ lw_all) (h5 : Cond.codeWith y b L r hh ∈ lw_all) : GoodIn lw_all (wsV own idx C y (wsW_ y b L r hh)) := by
  refine lw_app ?_ (lw_methW h5)
  intro w hw
  simp only [List.mem_cons, List.not_mem_nil, or_false] at hw
  rcases hw with e | e | e | e
  · rw [e]; exact h1
  · rw [e]; exact h2
  · rw [e]; exact h3
  · rw [e]; exact h4
theorem lw_SW {own : String} {idx : Nat} {y : MethodName} {b : ByteArray} {L : Nat} {r : Option FieldType} {hh : List (Nat × Nat × Nat × Nat)} (h1 : Cond.methodLink own idx y ∈ lw_all) (h2 : Cond.static y ∈ lw_all) (h3 : Cond.initialized y.cls ∈ lw_all) (h4 : Cond.codeWith y b L r hh ∈ lw_all) : GoodIn lw_all (va_wsS own idx y (wsW_ y b L r hh)) := by
  refine lw_app ?_ (lw_methW h4)
  intro w hw
  simp only [List.mem_cons, List.not_mem_nil, or_false] at hw
  rcases hw with e | e | e
  · rw [e]; exact h1
  · rw [e]; exact h2
  · rw [e]; exact h3
/-- a word by its place in its run of the tables -/
theorem lw_at {r : List Cond} (hr : ∀ w ∈ r, w ∈ lw_tbl) {w : Cond} (i : Nat) (h : r[i]? = some w) : w ∈ lw_tbl := hr w (List.mem_of_getElem? h)
theorem lw_g {w : Cond} (h : w ∈ lw_tbl) (g : goodWord w = true) : w ∈ lw_all := List.mem_filter.mpr ⟨h, g⟩
theorem lw_ms : ∀ w ∈ k2_sels lw_privs, w ∈ lw_tbl := fun w h => show w ∈ k2_sels lw_privs ++ tables_1 from List.mem_append_left _ h
theorem lw_m1 : ∀ w ∈ tables_1_1, w ∈ lw_tbl := fun w h => show w ∈ k2_sels lw_privs ++ tables_1 from List.mem_append_right (k2_sels lw_privs) (show w ∈ tables_1 from List.mem_append_left _ h)
theorem lw_m2 : ∀ w ∈ tables_1_2, w ∈ lw_tbl := fun w h => show w ∈ k2_sels lw_privs ++ tables_1 from List.mem_append_right (k2_sels lw_privs) (show w ∈ tables_1 from List.mem_append_right _ h)
theorem qs0 : (Cond.selects "MutantLab" ⟨"MutantLab", "addTest", "(IIZI)I"⟩ ⟨"MutantLab", "addTest", "(IIZI)I"⟩) ∈ lw_all := lw_g (lw_at lw_ms 0 rfl) rfl
theorem qs1 : (Cond.selects "MutantLab" ⟨"MutantLab", "carryOut", "(IIII)I"⟩ ⟨"MutantLab", "carryOut", "(IIII)I"⟩) ∈ lw_all := lw_g (lw_at lw_ms 1 rfl) rfl
theorem qs2 : (Cond.selects "MutantLab" ⟨"MutantLab", "addMutant", "(IZI)I"⟩ ⟨"MutantLab", "addMutant", "(IZI)I"⟩) ∈ lw_all := lw_g (lw_at lw_ms 2 rfl) rfl
theorem qs3 : (Cond.selects "MutantLab" ⟨"MutantLab", "prepare", "()V"⟩ ⟨"MutantLab", "prepare", "()V"⟩) ∈ lw_all := lw_g (lw_at lw_ms 3 rfl) rfl
theorem qs4 : (Cond.selects "MutantLab" ⟨"MutantLab", "runTest", "(I)V"⟩ ⟨"MutantLab", "runTest", "(I)V"⟩) ∈ lw_all := lw_g (lw_at lw_ms 4 rfl) rfl
theorem qs5 : (Cond.selects "MutantLab" ⟨"MutantLab", "splitAll", "(III)V"⟩ ⟨"MutantLab", "splitAll", "(III)V"⟩) ∈ lw_all := lw_g (lw_at lw_ms 5 rfl) rfl
theorem qs6 : (Cond.selects "MutantLab" ⟨"MutantLab", "split", "(III)V"⟩ ⟨"MutantLab", "split", "(III)V"⟩) ∈ lw_all := lw_g (lw_at lw_ms 6 rfl) rfl
theorem qs7 : (Cond.selects "MutantLab" ⟨"MutantLab", "stepMutant", "(I)I"⟩ ⟨"MutantLab", "stepMutant", "(I)I"⟩) ∈ lw_all := lw_g (lw_at lw_ms 7 rfl) rfl
theorem qs8 : (Cond.selects "MutantLab" ⟨"MutantLab", "share", "(II)V"⟩ ⟨"MutantLab", "share", "(II)V"⟩) ∈ lw_all := lw_g (lw_at lw_ms 8 rfl) rfl
theorem qs9 : (Cond.selects "MutantLab" ⟨"MutantLab", "noMutant", "(I)Z"⟩ ⟨"MutantLab", "noMutant", "(I)Z"⟩) ∈ lw_all := lw_g (lw_at lw_ms 9 rfl) rfl
theorem qs10 : (Cond.selects "MutantLab" ⟨"MutantLab", "gatherKills", "()V"⟩ ⟨"MutantLab", "gatherKills", "()V"⟩) ∈ lw_all := lw_g (lw_at lw_ms 10 rfl) rfl
theorem qs11 : (Cond.selects "MutantLab" ⟨"MutantLab", "killsIt", "(II)Z"⟩ ⟨"MutantLab", "killsIt", "(II)Z"⟩) ∈ lw_all := lw_g (lw_at lw_ms 11 rfl) rfl
theorem qs12 : (Cond.selects "MutantLab" ⟨"MutantLab", "killersOf", "(I)I"⟩ ⟨"MutantLab", "killersOf", "(I)I"⟩) ∈ lw_all := lw_g (lw_at lw_ms 12 rfl) rfl
theorem qs13 : (Cond.selects "MutantLab" ⟨"MutantLab", "smallest", "(I)I"⟩ ⟨"MutantLab", "smallest", "(I)I"⟩) ∈ lw_all := lw_g (lw_at lw_ms 13 rfl) rfl
theorem qs14 : (Cond.selects "MutantLab" ⟨"MutantLab", "choices", "(I)I"⟩ ⟨"MutantLab", "choices", "(I)I"⟩) ∈ lw_all := lw_g (lw_at lw_ms 14 rfl) rfl
theorem qs15 : (Cond.selects "MutantLab" ⟨"MutantLab", "killsOf", "(I)I"⟩ ⟨"MutantLab", "killsOf", "(I)I"⟩) ∈ lw_all := lw_g (lw_at lw_ms 15 rfl) rfl
theorem qs16 : (Cond.selects "MutantLab" ⟨"MutantLab", "alike", "(I)Z"⟩ ⟨"MutantLab", "alike", "(I)Z"⟩) ∈ lw_all := lw_g (lw_at lw_ms 16 rfl) rfl
theorem qs17 : (Cond.selects "MutantLabModel" ⟨"MutantLabModel", "add", "(IIZI)I"⟩ ⟨"MutantLabModel", "add", "(IIZI)I"⟩) ∈ lw_all := lw_g (lw_at lw_ms 17 rfl) rfl
theorem qs18 : (Cond.selects "MutantLabModel" ⟨"MutantLabModel", "run", "(III)V"⟩ ⟨"MutantLabModel", "run", "(III)V"⟩) ∈ lw_all := lw_g (lw_at lw_ms 18 rfl) rfl
theorem qs19 : (Cond.selects "MutantLabModel" ⟨"MutantLabModel", "carryOut", "(IIIII)I"⟩ ⟨"MutantLabModel", "carryOut", "(IIIII)I"⟩) ∈ lw_all := lw_g (lw_at lw_ms 19 rfl) rfl
theorem qs20 : (Cond.selects "MutantLabModel" ⟨"MutantLabModel", "mutate", "(IZI)I"⟩ ⟨"MutantLabModel", "mutate", "(IZI)I"⟩) ∈ lw_all := lw_g (lw_at lw_ms 20 rfl) rfl
theorem qs21 : (Cond.selects "MutantLabModel" ⟨"MutantLabModel", "noTest", "(I)Z"⟩ ⟨"MutantLabModel", "noTest", "(I)Z"⟩) ∈ lw_all := lw_g (lw_at lw_ms 21 rfl) rfl
theorem qs22 : (Cond.selects "MutantLabModel" ⟨"MutantLabModel", "ok", "(II)Z"⟩ ⟨"MutantLabModel", "ok", "(II)Z"⟩) ∈ lw_all := lw_g (lw_at lw_ms 22 rfl) rfl
theorem qs23 : (Cond.selects "MutantLabModel" ⟨"MutantLabModel", "noMutant", "(I)Z"⟩ ⟨"MutantLabModel", "noMutant", "(I)Z"⟩) ∈ lw_all := lw_g (lw_at lw_ms 23 rfl) rfl
theorem qs24 : (Cond.selects "MutantLabModel" ⟨"MutantLabModel", "killsAll", "(I)Z"⟩ ⟨"MutantLabModel", "killsAll", "(I)Z"⟩) ∈ lw_all := lw_g (lw_at lw_ms 24 rfl) rfl
theorem qs25 : (Cond.selects "MutantLabModel" ⟨"MutantLabModel", "alike", "(I)Z"⟩ ⟨"MutantLabModel", "alike", "(I)Z"⟩) ∈ lw_all := lw_g (lw_at lw_ms 25 rfl) rfl
end
section
/-! java/lang/Object -/
set_option maxRecDepth 100000
def RJ0 : String := "java/lang/Object"
abbrev cJ0_init : ByteArray := object_method_1_code
def yJ0_init : MethodName := ⟨RJ0, "<init>", "()V"⟩
theorem q35 : (Jvm.Cond.instanceMethod ({ cls := "java/lang/Object", name := "<init>", desc := "()V" } : Jvm.MethodName)) ∈ lw_all := lw_g (lw_at lw_m1 9 rfl) rfl
theorem q36 : (Jvm.Cond.code ({ cls := "java/lang/Object", name := "<init>", desc := "()V" } : Jvm.MethodName) object_method_1_code (1 : Nat) (Option.none : Option Jvm.ClassFile.FieldType)) ∈ lw_all := lw_g (lw_at lw_m1 10 rfl) rfl

theorem dJ0_init_0 : decode cJ0_init 0 = .ok (.return_, 1) := by decide +kernel
/-! MutantLab -/
set_option maxRecDepth 100000
def RX0 : String := "MutantLab"
def TX0 : u_T := fun k => match k with
  | 0 => ("MutantLab", "size", "I", false)
  | 1 => ("MutantLab", "op", "[I", true)
  | 2 => ("MutantLab", "regs", "[I", true)
  | 3 => ("MutantLab", "con", "[I", true)
  | 4 => ("MutantLab", "tests", "I", false)
  | 5 => ("MutantLab", "startX", "[I", true)
  | 6 => ("MutantLab", "startY", "[I", true)
  | 7 => ("MutantLab", "wantsOutput", "[Z", true)
  | 8 => ("MutantLab", "wants", "[I", true)
  | 9 => ("MutantLab", "mutants", "I", false)
  | 10 => ("MutantLab", "where", "[I", true)
  | 11 => ("MutantLab", "changesOp", "[Z", true)
  | 12 => ("MutantLab", "change", "[I", true)
  | 13 => ("MutantLab", "ready", "Z", false)
  | 14 => ("MutantLab", "ends", "[Z", true)
  | 15 => ("MutantLab", "out", "[I", true)
  | 16 => ("MutantLab", "steps", "[I", true)
  | 17 => ("MutantLab", "mutantEnds", "[Z", true)
  | 18 => ("MutantLab", "mutantOut", "[I", true)
  | 19 => ("MutantLab", "mutantSteps", "[I", true)
  | 20 => ("MutantLab", "reg", "[I", true)
  | 21 => ("MutantLab", "mutantPlace", "I", false)
  | 22 => ("MutantLab", "mutantOp", "I", false)
  | 23 => ("MutantLab", "mutantCon", "I", false)
  | 24 => ("MutantLab", "kills", "[I", true)
  | 25 => ("MutantLab", "uncovered", "[I", true)
  | _ => ("MutantLab", "options", "[I", true)
def tyX0 : Nat → FieldType := fun k => match k with
  | 0 => .int
  | 1 => .array .int
  | 2 => .array .int
  | 3 => .array .int
  | 4 => .int
  | 5 => .array .int
  | 6 => .array .int
  | 7 => .array .boolean
  | 8 => .array .int
  | 9 => .int
  | 10 => .array .int
  | 11 => .array .boolean
  | 12 => .array .int
  | 13 => .boolean
  | 14 => .array .boolean
  | 15 => .array .int
  | 16 => .array .int
  | 17 => .array .boolean
  | 18 => .array .int
  | 19 => .array .int
  | 20 => .array .int
  | 21 => .int
  | 22 => .int
  | 23 => .int
  | 24 => .array .int
  | 25 => .array .int
  | _ => .array .int
abbrev wsX00 : List Cond := u_ws RX0 TX0 27
set_option maxRecDepth 100000 in
theorem nmX0 : ∀ a, a < 27 → ∀ b, b < 27 → a ≠ b → (TX0 a).2.1 ≠ (TX0 b).2.1 := by decide +kernel
set_option maxRecDepth 100000 in
theorem tyX0_ok : ∀ k, k < 27 → parseFieldDescriptor (TX0 k).2.2.1 = some (tyX0 k) := by decide +kernel
abbrev cX0_init : ByteArray := prog_1_method_1_code
def yX0_init : MethodName := ⟨RX0, "<init>", "()V"⟩
abbrev cX0_emit : ByteArray := prog_1_method_2_code
def yX0_emit : MethodName := ⟨RX0, "emit", "(III)I"⟩
abbrev cX0_test : ByteArray := prog_1_method_4_code
def yX0_test : MethodName := ⟨RX0, "test", "(III)I"⟩
abbrev cX0_addTest : ByteArray := prog_1_method_3_code
def yX0_addTest : MethodName := ⟨RX0, "addTest", "(IIZI)I"⟩
abbrev cX0_snapshotTest : ByteArray := prog_1_method_5_code
def yX0_snapshotTest : MethodName := ⟨RX0, "snapshotTest", "(II)I"⟩
abbrev cX0_carryOut : ByteArray := prog_1_method_10_code
def yX0_carryOut : MethodName := ⟨RX0, "carryOut", "(IIII)I"⟩
abbrev cX0_mutateOp : ByteArray := prog_1_method_7_code
def yX0_mutateOp : MethodName := ⟨RX0, "mutateOp", "(II)I"⟩
abbrev cX0_addMutant : ByteArray := prog_1_method_6_code
def yX0_addMutant : MethodName := ⟨RX0, "addMutant", "(IZI)I"⟩
abbrev cX0_mutateC : ByteArray := prog_1_method_8_code
def yX0_mutateC : MethodName := ⟨RX0, "mutateC", "(II)I"⟩
abbrev cX0_clear : ByteArray := prog_1_method_9_code
def yX0_clear : MethodName := ⟨RX0, "clear", "()V"⟩
abbrev cX0_passes : ByteArray := prog_1_method_24_code
def yX0_passes : MethodName := ⟨RX0, "passes", "(I)Z"⟩
abbrev cX0_prepare : ByteArray := prog_1_method_16_code
def yX0_prepare : MethodName := ⟨RX0, "prepare", "()V"⟩
abbrev cX0_runTest : ByteArray := prog_1_method_14_code
def yX0_runTest : MethodName := ⟨RX0, "runTest", "(I)V"⟩
abbrev cX0_splitAll : ByteArray := prog_1_method_13_code
def yX0_splitAll : MethodName := ⟨RX0, "splitAll", "(III)V"⟩
abbrev cX0_split : ByteArray := prog_1_method_12_code
def yX0_split : MethodName := ⟨RX0, "split", "(III)V"⟩
abbrev cX0_stepMutant : ByteArray := prog_1_method_11_code
def yX0_stepMutant : MethodName := ⟨RX0, "stepMutant", "(I)I"⟩
abbrev cX0_share : ByteArray := prog_1_method_15_code
def yX0_share : MethodName := ⟨RX0, "share", "(II)V"⟩
abbrev cX0_killers : ByteArray := prog_1_method_26_code
def yX0_killers : MethodName := ⟨RX0, "killers", "(I)I"⟩
abbrev cX0_noMutant : ByteArray := prog_1_method_25_code
def yX0_noMutant : MethodName := ⟨RX0, "noMutant", "(I)Z"⟩
abbrev cX0_gatherKills : ByteArray := prog_1_method_18_code
def yX0_gatherKills : MethodName := ⟨RX0, "gatherKills", "()V"⟩
abbrev cX0_killsIt : ByteArray := prog_1_method_17_code
def yX0_killsIt : MethodName := ⟨RX0, "killsIt", "(II)Z"⟩
abbrev cX0_killersOf : ByteArray := prog_1_method_20_code
def yX0_killersOf : MethodName := ⟨RX0, "killersOf", "(I)I"⟩
abbrev cX0_killed : ByteArray := prog_1_method_27_code
def yX0_killed : MethodName := ⟨RX0, "killed", "(I)I"⟩
abbrev cX0_ones : ByteArray := prog_1_method_19_code
def yX0_ones : MethodName := ⟨RX0, "ones", "(I)I"⟩
abbrev cX0_output : ByteArray := prog_1_method_28_code
def yX0_output : MethodName := ⟨RX0, "output", "(II)I"⟩
abbrev cX0_length : ByteArray := prog_1_method_29_code
def yX0_length : MethodName := ⟨RX0, "length", "(II)I"⟩
abbrev cX0_enough : ByteArray := prog_1_method_30_code
def yX0_enough : MethodName := ⟨RX0, "enough", "()I"⟩
abbrev cX0_smallest : ByteArray := prog_1_method_22_code
def yX0_smallest : MethodName := ⟨RX0, "smallest", "(I)I"⟩
abbrev cX0_choices : ByteArray := prog_1_method_21_code
def yX0_choices : MethodName := ⟨RX0, "choices", "(I)I"⟩
abbrev cX0_killsOf : ByteArray := prog_1_method_23_code
def yX0_killsOf : MethodName := ⟨RX0, "killsOf", "(I)I"⟩
abbrev cX0_same : ByteArray := prog_1_method_32_code
def yX0_same : MethodName := ⟨RX0, "same", "()I"⟩
abbrev cX0_alike : ByteArray := prog_1_method_31_code
def yX0_alike : MethodName := ⟨RX0, "alike", "(I)Z"⟩
theorem q27 : (Jvm.Cond.initialized "MutantLab") ∈ lw_all := lw_g (lw_at lw_m1 1 rfl) rfl
theorem q30 : (Jvm.Cond.instantiable "MutantLab" (27 : Nat)) ∈ lw_all := lw_g (lw_at lw_m1 4 rfl) rfl
theorem q32 : (Jvm.Cond.instanceMethod ({ cls := "MutantLab", name := "<init>", desc := "()V" } : Jvm.MethodName)) ∈ lw_all := lw_g (lw_at lw_m1 6 rfl) rfl
theorem q33 : (Jvm.Cond.code ({ cls := "MutantLab", name := "<init>", desc := "()V" } : Jvm.MethodName) prog_1_method_1_code (1 : Nat) (Option.none : Option Jvm.ClassFile.FieldType)) ∈ lw_all := lw_g (lw_at lw_m1 7 rfl) rfl
theorem q34 : (Jvm.Cond.methodLink "MutantLab" (1 : Nat) ({ cls := "java/lang/Object", name := "<init>", desc := "()V" } : Jvm.MethodName)) ∈ lw_all := lw_g (lw_at lw_m1 8 rfl) rfl
theorem q37 : (Jvm.Cond.fieldLink "MutantLab" (71 : Nat) "MutantLab" "size" "I") ∈ lw_all := lw_g (lw_at lw_m1 11 rfl) rfl
theorem q38 : (Jvm.Cond.fieldLink "MutantLab" (7 : Nat) "MutantLab" "op" "[I") ∈ lw_all := lw_g (lw_at lw_m1 12 rfl) rfl
theorem q39 : (Jvm.Cond.fieldLink "MutantLab" (13 : Nat) "MutantLab" "regs" "[I") ∈ lw_all := lw_g (lw_at lw_m1 13 rfl) rfl
theorem q40 : (Jvm.Cond.fieldLink "MutantLab" (16 : Nat) "MutantLab" "con" "[I") ∈ lw_all := lw_g (lw_at lw_m1 14 rfl) rfl
theorem q41 : (Jvm.Cond.fieldLink "MutantLab" (79 : Nat) "MutantLab" "tests" "I") ∈ lw_all := lw_g (lw_at lw_m1 15 rfl) rfl
theorem q42 : (Jvm.Cond.fieldLink "MutantLab" (19 : Nat) "MutantLab" "startX" "[I") ∈ lw_all := lw_g (lw_at lw_m1 16 rfl) rfl
theorem q43 : (Jvm.Cond.fieldLink "MutantLab" (22 : Nat) "MutantLab" "startY" "[I") ∈ lw_all := lw_g (lw_at lw_m1 17 rfl) rfl
theorem q44 : (Jvm.Cond.fieldLink "MutantLab" (25 : Nat) "MutantLab" "wantsOutput" "[Z") ∈ lw_all := lw_g (lw_at lw_m1 18 rfl) rfl
theorem q45 : (Jvm.Cond.fieldLink "MutantLab" (29 : Nat) "MutantLab" "wants" "[I") ∈ lw_all := lw_g (lw_at lw_m1 19 rfl) rfl
theorem q46 : (Jvm.Cond.fieldLink "MutantLab" (90 : Nat) "MutantLab" "mutants" "I") ∈ lw_all := lw_g (lw_at lw_m1 20 rfl) rfl
theorem q47 : (Jvm.Cond.fieldLink "MutantLab" (32 : Nat) "MutantLab" "where" "[I") ∈ lw_all := lw_g (lw_at lw_m1 21 rfl) rfl
theorem q48 : (Jvm.Cond.fieldLink "MutantLab" (35 : Nat) "MutantLab" "changesOp" "[Z") ∈ lw_all := lw_g (lw_at lw_m1 22 rfl) rfl
theorem q49 : (Jvm.Cond.fieldLink "MutantLab" (38 : Nat) "MutantLab" "change" "[I") ∈ lw_all := lw_g (lw_at lw_m1 23 rfl) rfl
theorem q50 : (Jvm.Cond.fieldLink "MutantLab" (75 : Nat) "MutantLab" "ready" "Z") ∈ lw_all := lw_g (lw_at lw_m1 24 rfl) rfl
theorem q51 : (Jvm.Cond.fieldLink "MutantLab" (41 : Nat) "MutantLab" "ends" "[Z") ∈ lw_all := lw_g (lw_at lw_m1 25 rfl) rfl
theorem q52 : (Jvm.Cond.fieldLink "MutantLab" (44 : Nat) "MutantLab" "out" "[I") ∈ lw_all := lw_g (lw_at lw_m1 26 rfl) rfl
theorem q53 : (Jvm.Cond.fieldLink "MutantLab" (47 : Nat) "MutantLab" "steps" "[I") ∈ lw_all := lw_g (lw_at lw_m1 27 rfl) rfl
theorem q54 : (Jvm.Cond.fieldLink "MutantLab" (50 : Nat) "MutantLab" "mutantEnds" "[Z") ∈ lw_all := lw_g (lw_at lw_m1 28 rfl) rfl
theorem q55 : (Jvm.Cond.fieldLink "MutantLab" (53 : Nat) "MutantLab" "mutantOut" "[I") ∈ lw_all := lw_g (lw_at lw_m1 29 rfl) rfl
theorem q56 : (Jvm.Cond.fieldLink "MutantLab" (56 : Nat) "MutantLab" "mutantSteps" "[I") ∈ lw_all := lw_g (lw_at lw_m1 30 rfl) rfl
theorem q57 : (Jvm.Cond.fieldLink "MutantLab" (59 : Nat) "MutantLab" "reg" "[I") ∈ lw_all := lw_g (lw_at lw_m1 31 rfl) rfl
theorem q58 : (Jvm.Cond.fieldLink "MutantLab" (97 : Nat) "MutantLab" "mutantPlace" "I") ∈ lw_all := lw_g (lw_at lw_m1 32 rfl) rfl
theorem q59 : (Jvm.Cond.fieldLink "MutantLab" (100 : Nat) "MutantLab" "mutantOp" "I") ∈ lw_all := lw_g (lw_at lw_m1 33 rfl) rfl
theorem q60 : (Jvm.Cond.fieldLink "MutantLab" (103 : Nat) "MutantLab" "mutantCon" "I") ∈ lw_all := lw_g (lw_at lw_m1 34 rfl) rfl
theorem q61 : (Jvm.Cond.fieldLink "MutantLab" (62 : Nat) "MutantLab" "kills" "[I") ∈ lw_all := lw_g (lw_at lw_m1 35 rfl) rfl
theorem q62 : (Jvm.Cond.fieldLink "MutantLab" (65 : Nat) "MutantLab" "uncovered" "[I") ∈ lw_all := lw_g (lw_at lw_m1 36 rfl) rfl
theorem q63 : (Jvm.Cond.fieldLink "MutantLab" (68 : Nat) "MutantLab" "options" "[I") ∈ lw_all := lw_g (lw_at lw_m1 37 rfl) rfl
theorem q64 : (Jvm.Cond.lays "MutantLab" "MutantLab" "size" "I") ∈ lw_all := lw_g (lw_at lw_m1 38 rfl) rfl
theorem q65 : (Jvm.Cond.soleField "MutantLab" "size") ∈ lw_all := lw_g (lw_at lw_m1 39 rfl) rfl
theorem q66 : (Jvm.Cond.laysFinal "MutantLab" "MutantLab" "op" "[I") ∈ lw_all := lw_g (lw_at lw_m1 40 rfl) rfl
theorem q67 : (Jvm.Cond.soleField "MutantLab" "op") ∈ lw_all := lw_g (lw_at lw_m1 41 rfl) rfl
theorem q68 : (Jvm.Cond.laysFinal "MutantLab" "MutantLab" "regs" "[I") ∈ lw_all := lw_g (lw_at lw_m1 42 rfl) rfl
theorem q69 : (Jvm.Cond.soleField "MutantLab" "regs") ∈ lw_all := lw_g (lw_at lw_m1 43 rfl) rfl
theorem q70 : (Jvm.Cond.laysFinal "MutantLab" "MutantLab" "con" "[I") ∈ lw_all := lw_g (lw_at lw_m1 44 rfl) rfl
theorem q71 : (Jvm.Cond.soleField "MutantLab" "con") ∈ lw_all := lw_g (lw_at lw_m1 45 rfl) rfl
theorem q72 : (Jvm.Cond.lays "MutantLab" "MutantLab" "tests" "I") ∈ lw_all := lw_g (lw_at lw_m1 46 rfl) rfl
theorem q73 : (Jvm.Cond.soleField "MutantLab" "tests") ∈ lw_all := lw_g (lw_at lw_m1 47 rfl) rfl
theorem q74 : (Jvm.Cond.laysFinal "MutantLab" "MutantLab" "startX" "[I") ∈ lw_all := lw_g (lw_at lw_m1 48 rfl) rfl
theorem q75 : (Jvm.Cond.soleField "MutantLab" "startX") ∈ lw_all := lw_g (lw_at lw_m1 49 rfl) rfl
theorem q76 : (Jvm.Cond.laysFinal "MutantLab" "MutantLab" "startY" "[I") ∈ lw_all := lw_g (lw_at lw_m1 50 rfl) rfl
theorem q77 : (Jvm.Cond.soleField "MutantLab" "startY") ∈ lw_all := lw_g (lw_at lw_m1 51 rfl) rfl
theorem q78 : (Jvm.Cond.laysFinal "MutantLab" "MutantLab" "wantsOutput" "[Z") ∈ lw_all := lw_g (lw_at lw_m1 52 rfl) rfl
theorem q79 : (Jvm.Cond.soleField "MutantLab" "wantsOutput") ∈ lw_all := lw_g (lw_at lw_m1 53 rfl) rfl
theorem q80 : (Jvm.Cond.laysFinal "MutantLab" "MutantLab" "wants" "[I") ∈ lw_all := lw_g (lw_at lw_m1 54 rfl) rfl
theorem q81 : (Jvm.Cond.soleField "MutantLab" "wants") ∈ lw_all := lw_g (lw_at lw_m1 55 rfl) rfl
theorem q82 : (Jvm.Cond.lays "MutantLab" "MutantLab" "mutants" "I") ∈ lw_all := lw_g (lw_at lw_m1 56 rfl) rfl
theorem q83 : (Jvm.Cond.soleField "MutantLab" "mutants") ∈ lw_all := lw_g (lw_at lw_m1 57 rfl) rfl
theorem q84 : (Jvm.Cond.laysFinal "MutantLab" "MutantLab" "where" "[I") ∈ lw_all := lw_g (lw_at lw_m1 58 rfl) rfl
theorem q85 : (Jvm.Cond.soleField "MutantLab" "where") ∈ lw_all := lw_g (lw_at lw_m1 59 rfl) rfl
theorem q86 : (Jvm.Cond.laysFinal "MutantLab" "MutantLab" "changesOp" "[Z") ∈ lw_all := lw_g (lw_at lw_m1 60 rfl) rfl
theorem q87 : (Jvm.Cond.soleField "MutantLab" "changesOp") ∈ lw_all := lw_g (lw_at lw_m1 61 rfl) rfl
theorem q88 : (Jvm.Cond.laysFinal "MutantLab" "MutantLab" "change" "[I") ∈ lw_all := lw_g (lw_at lw_m1 62 rfl) rfl
theorem q89 : (Jvm.Cond.soleField "MutantLab" "change") ∈ lw_all := lw_g (lw_at lw_m1 63 rfl) rfl
theorem q90 : (Jvm.Cond.lays "MutantLab" "MutantLab" "ready" "Z") ∈ lw_all := lw_g (lw_at lw_m1 64 rfl) rfl
theorem q91 : (Jvm.Cond.soleField "MutantLab" "ready") ∈ lw_all := lw_g (lw_at lw_m1 65 rfl) rfl
theorem q92 : (Jvm.Cond.laysFinal "MutantLab" "MutantLab" "ends" "[Z") ∈ lw_all := lw_g (lw_at lw_m1 66 rfl) rfl
theorem q93 : (Jvm.Cond.soleField "MutantLab" "ends") ∈ lw_all := lw_g (lw_at lw_m1 67 rfl) rfl
theorem q94 : (Jvm.Cond.laysFinal "MutantLab" "MutantLab" "out" "[I") ∈ lw_all := lw_g (lw_at lw_m1 68 rfl) rfl
theorem q95 : (Jvm.Cond.soleField "MutantLab" "out") ∈ lw_all := lw_g (lw_at lw_m1 69 rfl) rfl
theorem q96 : (Jvm.Cond.laysFinal "MutantLab" "MutantLab" "steps" "[I") ∈ lw_all := lw_g (lw_at lw_m1 70 rfl) rfl
theorem q97 : (Jvm.Cond.soleField "MutantLab" "steps") ∈ lw_all := lw_g (lw_at lw_m1 71 rfl) rfl
theorem q98 : (Jvm.Cond.laysFinal "MutantLab" "MutantLab" "mutantEnds" "[Z") ∈ lw_all := lw_g (lw_at lw_m1 72 rfl) rfl
theorem q99 : (Jvm.Cond.soleField "MutantLab" "mutantEnds") ∈ lw_all := lw_g (lw_at lw_m1 73 rfl) rfl
theorem q100 : (Jvm.Cond.laysFinal "MutantLab" "MutantLab" "mutantOut" "[I") ∈ lw_all := lw_g (lw_at lw_m1 74 rfl) rfl
theorem q101 : (Jvm.Cond.soleField "MutantLab" "mutantOut") ∈ lw_all := lw_g (lw_at lw_m1 75 rfl) rfl
theorem q102 : (Jvm.Cond.laysFinal "MutantLab" "MutantLab" "mutantSteps" "[I") ∈ lw_all := lw_g (lw_at lw_m1 76 rfl) rfl
theorem q103 : (Jvm.Cond.soleField "MutantLab" "mutantSteps") ∈ lw_all := lw_g (lw_at lw_m1 77 rfl) rfl
theorem q104 : (Jvm.Cond.laysFinal "MutantLab" "MutantLab" "reg" "[I") ∈ lw_all := lw_g (lw_at lw_m1 78 rfl) rfl
theorem q105 : (Jvm.Cond.soleField "MutantLab" "reg") ∈ lw_all := lw_g (lw_at lw_m1 79 rfl) rfl
theorem q106 : (Jvm.Cond.lays "MutantLab" "MutantLab" "mutantPlace" "I") ∈ lw_all := lw_g (lw_at lw_m1 80 rfl) rfl
theorem q107 : (Jvm.Cond.soleField "MutantLab" "mutantPlace") ∈ lw_all := lw_g (lw_at lw_m1 81 rfl) rfl
theorem q108 : (Jvm.Cond.lays "MutantLab" "MutantLab" "mutantOp" "I") ∈ lw_all := lw_g (lw_at lw_m1 82 rfl) rfl
theorem q109 : (Jvm.Cond.soleField "MutantLab" "mutantOp") ∈ lw_all := lw_g (lw_at lw_m1 83 rfl) rfl
theorem q110 : (Jvm.Cond.lays "MutantLab" "MutantLab" "mutantCon" "I") ∈ lw_all := lw_g (lw_at lw_m1 84 rfl) rfl
theorem q111 : (Jvm.Cond.soleField "MutantLab" "mutantCon") ∈ lw_all := lw_g (lw_at lw_m1 85 rfl) rfl
theorem q112 : (Jvm.Cond.laysFinal "MutantLab" "MutantLab" "kills" "[I") ∈ lw_all := lw_g (lw_at lw_m1 86 rfl) rfl
theorem q113 : (Jvm.Cond.soleField "MutantLab" "kills") ∈ lw_all := lw_g (lw_at lw_m1 87 rfl) rfl
theorem q114 : (Jvm.Cond.laysFinal "MutantLab" "MutantLab" "uncovered" "[I") ∈ lw_all := lw_g (lw_at lw_m1 88 rfl) rfl
theorem q115 : (Jvm.Cond.soleField "MutantLab" "uncovered") ∈ lw_all := lw_g (lw_at lw_m1 89 rfl) rfl
theorem q116 : (Jvm.Cond.laysFinal "MutantLab" "MutantLab" "options" "[I") ∈ lw_all := lw_g (lw_at lw_m1 90 rfl) rfl
theorem q117 : (Jvm.Cond.soleField "MutantLab" "options") ∈ lw_all := lw_g (lw_at lw_m1 91 rfl) rfl
theorem q118 : (Jvm.Cond.superclass "MutantLab" "java/lang/Object") ∈ lw_all := lw_g (lw_at lw_m1 92 rfl) rfl
theorem q122 : (Jvm.Cond.instanceMethod ({ cls := "MutantLab", name := "emit", desc := "(III)I" } : Jvm.MethodName)) ∈ lw_all := lw_g (lw_at lw_m1 96 rfl) rfl
theorem q123 : (Jvm.Cond.selects "MutantLab" ({ cls := "MutantLab", name := "emit", desc := "(III)I" } : Jvm.MethodName) ({ cls := "MutantLab", name := "emit", desc := "(III)I" } : Jvm.MethodName)) ∈ lw_all := lw_g (lw_at lw_m1 97 rfl) rfl
theorem q124 : (Jvm.Cond.code ({ cls := "MutantLab", name := "emit", desc := "(III)I" } : Jvm.MethodName) prog_1_method_2_code (4 : Nat) (Option.some Jvm.ClassFile.FieldType.int)) ∈ lw_all := lw_g (lw_at lw_m1 98 rfl) rfl
theorem q126 : (Jvm.Cond.instanceMethod ({ cls := "MutantLab", name := "test", desc := "(III)I" } : Jvm.MethodName)) ∈ lw_all := lw_g (lw_at lw_m1 100 rfl) rfl
theorem q127 : (Jvm.Cond.selects "MutantLab" ({ cls := "MutantLab", name := "test", desc := "(III)I" } : Jvm.MethodName) ({ cls := "MutantLab", name := "test", desc := "(III)I" } : Jvm.MethodName)) ∈ lw_all := lw_g (lw_at lw_m1 101 rfl) rfl
theorem q128 : (Jvm.Cond.code ({ cls := "MutantLab", name := "test", desc := "(III)I" } : Jvm.MethodName) prog_1_method_4_code (4 : Nat) (Option.some Jvm.ClassFile.FieldType.int)) ∈ lw_all := lw_g (lw_at lw_m1 102 rfl) rfl
theorem q129 : (Jvm.Cond.methodLink "MutantLab" (82 : Nat) ({ cls := "MutantLab", name := "addTest", desc := "(IIZI)I" } : Jvm.MethodName)) ∈ lw_all := lw_g (lw_at lw_m1 103 rfl) rfl
theorem q130 : (Jvm.Cond.privateMethod ({ cls := "MutantLab", name := "addTest", desc := "(IIZI)I" } : Jvm.MethodName)) ∈ lw_tbl := lw_at lw_m1 104 rfl
theorem q131 : (Jvm.Cond.instanceMethod ({ cls := "MutantLab", name := "addTest", desc := "(IIZI)I" } : Jvm.MethodName)) ∈ lw_all := lw_g (lw_at lw_m1 105 rfl) rfl
theorem q132 : (Jvm.Cond.code ({ cls := "MutantLab", name := "addTest", desc := "(IIZI)I" } : Jvm.MethodName) prog_1_method_3_code (6 : Nat) (Option.some Jvm.ClassFile.FieldType.int)) ∈ lw_all := lw_g (lw_at lw_m1 106 rfl) rfl
theorem q134 : (Jvm.Cond.instanceMethod ({ cls := "MutantLab", name := "snapshotTest", desc := "(II)I" } : Jvm.MethodName)) ∈ lw_all := lw_g (lw_at lw_m1 108 rfl) rfl
theorem q135 : (Jvm.Cond.selects "MutantLab" ({ cls := "MutantLab", name := "snapshotTest", desc := "(II)I" } : Jvm.MethodName) ({ cls := "MutantLab", name := "snapshotTest", desc := "(II)I" } : Jvm.MethodName)) ∈ lw_all := lw_g (lw_at lw_m1 109 rfl) rfl
theorem q136 : (Jvm.Cond.code ({ cls := "MutantLab", name := "snapshotTest", desc := "(II)I" } : Jvm.MethodName) prog_1_method_5_code (6 : Nat) (Option.some Jvm.ClassFile.FieldType.int)) ∈ lw_all := lw_g (lw_at lw_m1 110 rfl) rfl
theorem q137 : (Jvm.Cond.methodLink "MutantLab" (86 : Nat) ({ cls := "MutantLab", name := "carryOut", desc := "(IIII)I" } : Jvm.MethodName)) ∈ lw_all := lw_g (lw_at lw_m1 111 rfl) rfl
theorem q138 : (Jvm.Cond.privateMethod ({ cls := "MutantLab", name := "carryOut", desc := "(IIII)I" } : Jvm.MethodName)) ∈ lw_tbl := lw_at lw_m1 112 rfl
theorem q139 : (Jvm.Cond.instanceMethod ({ cls := "MutantLab", name := "carryOut", desc := "(IIII)I" } : Jvm.MethodName)) ∈ lw_all := lw_g (lw_at lw_m1 113 rfl) rfl
theorem q140 : (Jvm.Cond.code ({ cls := "MutantLab", name := "carryOut", desc := "(IIII)I" } : Jvm.MethodName) prog_1_method_10_code (7 : Nat) (Option.some Jvm.ClassFile.FieldType.int)) ∈ lw_all := lw_g (lw_at lw_m1 114 rfl) rfl
theorem q142 : (Jvm.Cond.instanceMethod ({ cls := "MutantLab", name := "mutateOp", desc := "(II)I" } : Jvm.MethodName)) ∈ lw_all := lw_g (lw_at lw_m1 116 rfl) rfl
theorem q143 : (Jvm.Cond.selects "MutantLab" ({ cls := "MutantLab", name := "mutateOp", desc := "(II)I" } : Jvm.MethodName) ({ cls := "MutantLab", name := "mutateOp", desc := "(II)I" } : Jvm.MethodName)) ∈ lw_all := lw_g (lw_at lw_m1 117 rfl) rfl
theorem q144 : (Jvm.Cond.code ({ cls := "MutantLab", name := "mutateOp", desc := "(II)I" } : Jvm.MethodName) prog_1_method_7_code (3 : Nat) (Option.some Jvm.ClassFile.FieldType.int)) ∈ lw_all := lw_g (lw_at lw_m1 118 rfl) rfl
theorem q145 : (Jvm.Cond.methodLink "MutantLab" (93 : Nat) ({ cls := "MutantLab", name := "addMutant", desc := "(IZI)I" } : Jvm.MethodName)) ∈ lw_all := lw_g (lw_at lw_m1 119 rfl) rfl
theorem q146 : (Jvm.Cond.privateMethod ({ cls := "MutantLab", name := "addMutant", desc := "(IZI)I" } : Jvm.MethodName)) ∈ lw_tbl := lw_at lw_m1 120 rfl
theorem q147 : (Jvm.Cond.instanceMethod ({ cls := "MutantLab", name := "addMutant", desc := "(IZI)I" } : Jvm.MethodName)) ∈ lw_all := lw_g (lw_at lw_m1 121 rfl) rfl
theorem q148 : (Jvm.Cond.code ({ cls := "MutantLab", name := "addMutant", desc := "(IZI)I" } : Jvm.MethodName) prog_1_method_6_code (5 : Nat) (Option.some Jvm.ClassFile.FieldType.int)) ∈ lw_all := lw_g (lw_at lw_m1 122 rfl) rfl
theorem q150 : (Jvm.Cond.instanceMethod ({ cls := "MutantLab", name := "mutateC", desc := "(II)I" } : Jvm.MethodName)) ∈ lw_all := lw_g (lw_at lw_m1 124 rfl) rfl
theorem q151 : (Jvm.Cond.selects "MutantLab" ({ cls := "MutantLab", name := "mutateC", desc := "(II)I" } : Jvm.MethodName) ({ cls := "MutantLab", name := "mutateC", desc := "(II)I" } : Jvm.MethodName)) ∈ lw_all := lw_g (lw_at lw_m1 125 rfl) rfl
theorem q152 : (Jvm.Cond.code ({ cls := "MutantLab", name := "mutateC", desc := "(II)I" } : Jvm.MethodName) prog_1_method_8_code (3 : Nat) (Option.some Jvm.ClassFile.FieldType.int)) ∈ lw_all := lw_g (lw_at lw_m1 126 rfl) rfl
theorem q154 : (Jvm.Cond.instanceMethod ({ cls := "MutantLab", name := "clear", desc := "()V" } : Jvm.MethodName)) ∈ lw_all := lw_g (lw_at lw_m1 128 rfl) rfl
theorem q155 : (Jvm.Cond.selects "MutantLab" ({ cls := "MutantLab", name := "clear", desc := "()V" } : Jvm.MethodName) ({ cls := "MutantLab", name := "clear", desc := "()V" } : Jvm.MethodName)) ∈ lw_all := lw_g (lw_at lw_m1 129 rfl) rfl
theorem q156 : (Jvm.Cond.code ({ cls := "MutantLab", name := "clear", desc := "()V" } : Jvm.MethodName) prog_1_method_9_code (1 : Nat) (Option.none : Option Jvm.ClassFile.FieldType)) ∈ lw_all := lw_g (lw_at lw_m1 130 rfl) rfl
theorem q158 : (Jvm.Cond.instanceMethod ({ cls := "MutantLab", name := "passes", desc := "(I)Z" } : Jvm.MethodName)) ∈ lw_all := lw_g (lw_at lw_m1 132 rfl) rfl
theorem q159 : (Jvm.Cond.selects "MutantLab" ({ cls := "MutantLab", name := "passes", desc := "(I)Z" } : Jvm.MethodName) ({ cls := "MutantLab", name := "passes", desc := "(I)Z" } : Jvm.MethodName)) ∈ lw_all := lw_g (lw_at lw_m1 133 rfl) rfl
theorem q160 : (Jvm.Cond.code ({ cls := "MutantLab", name := "passes", desc := "(I)Z" } : Jvm.MethodName) prog_1_method_24_code (2 : Nat) (Option.some Jvm.ClassFile.FieldType.boolean)) ∈ lw_all := lw_g (lw_at lw_m1 134 rfl) rfl
theorem q161 : (Jvm.Cond.methodLink "MutantLab" (125 : Nat) ({ cls := "MutantLab", name := "prepare", desc := "()V" } : Jvm.MethodName)) ∈ lw_all := lw_g (lw_at lw_m1 135 rfl) rfl
theorem q162 : (Jvm.Cond.privateMethod ({ cls := "MutantLab", name := "prepare", desc := "()V" } : Jvm.MethodName)) ∈ lw_tbl := lw_at lw_m1 136 rfl
theorem q163 : (Jvm.Cond.instanceMethod ({ cls := "MutantLab", name := "prepare", desc := "()V" } : Jvm.MethodName)) ∈ lw_all := lw_g (lw_at lw_m1 137 rfl) rfl
theorem q164 : (Jvm.Cond.code ({ cls := "MutantLab", name := "prepare", desc := "()V" } : Jvm.MethodName) prog_1_method_16_code (2 : Nat) (Option.none : Option Jvm.ClassFile.FieldType)) ∈ lw_all := lw_g (lw_at lw_m1 138 rfl) rfl
theorem q165 : (Jvm.Cond.methodLink "MutantLab" (121 : Nat) ({ cls := "MutantLab", name := "runTest", desc := "(I)V" } : Jvm.MethodName)) ∈ lw_all := lw_g (lw_at lw_m1 139 rfl) rfl
theorem q166 : (Jvm.Cond.privateMethod ({ cls := "MutantLab", name := "runTest", desc := "(I)V" } : Jvm.MethodName)) ∈ lw_tbl := lw_at lw_m1 140 rfl
theorem q167 : (Jvm.Cond.instanceMethod ({ cls := "MutantLab", name := "runTest", desc := "(I)V" } : Jvm.MethodName)) ∈ lw_all := lw_g (lw_at lw_m1 141 rfl) rfl
theorem q168 : (Jvm.Cond.code ({ cls := "MutantLab", name := "runTest", desc := "(I)V" } : Jvm.MethodName) prog_1_method_14_code (6 : Nat) (Option.none : Option Jvm.ClassFile.FieldType)) ∈ lw_all := lw_g (lw_at lw_m1 142 rfl) rfl
theorem q169 : (Jvm.Cond.methodLink "MutantLab" (114 : Nat) ({ cls := "MutantLab", name := "splitAll", desc := "(III)V" } : Jvm.MethodName)) ∈ lw_all := lw_g (lw_at lw_m1 143 rfl) rfl
theorem q170 : (Jvm.Cond.privateMethod ({ cls := "MutantLab", name := "splitAll", desc := "(III)V" } : Jvm.MethodName)) ∈ lw_tbl := lw_at lw_m1 144 rfl
theorem q171 : (Jvm.Cond.instanceMethod ({ cls := "MutantLab", name := "splitAll", desc := "(III)V" } : Jvm.MethodName)) ∈ lw_all := lw_g (lw_at lw_m1 145 rfl) rfl
theorem q172 : (Jvm.Cond.code ({ cls := "MutantLab", name := "splitAll", desc := "(III)V" } : Jvm.MethodName) prog_1_method_13_code (5 : Nat) (Option.none : Option Jvm.ClassFile.FieldType)) ∈ lw_all := lw_g (lw_at lw_m1 146 rfl) rfl
theorem q173 : (Jvm.Cond.methodLink "MutantLab" (110 : Nat) ({ cls := "MutantLab", name := "split", desc := "(III)V" } : Jvm.MethodName)) ∈ lw_all := lw_g (lw_at lw_m1 147 rfl) rfl
theorem q174 : (Jvm.Cond.privateMethod ({ cls := "MutantLab", name := "split", desc := "(III)V" } : Jvm.MethodName)) ∈ lw_tbl := lw_at lw_m1 148 rfl
theorem q175 : (Jvm.Cond.instanceMethod ({ cls := "MutantLab", name := "split", desc := "(III)V" } : Jvm.MethodName)) ∈ lw_all := lw_g (lw_at lw_m1 149 rfl) rfl
theorem q176 : (Jvm.Cond.code ({ cls := "MutantLab", name := "split", desc := "(III)V" } : Jvm.MethodName) prog_1_method_12_code (7 : Nat) (Option.none : Option Jvm.ClassFile.FieldType)) ∈ lw_all := lw_g (lw_at lw_m1 150 rfl) rfl
theorem q177 : (Jvm.Cond.methodLink "MutantLab" (106 : Nat) ({ cls := "MutantLab", name := "stepMutant", desc := "(I)I" } : Jvm.MethodName)) ∈ lw_all := lw_g (lw_at lw_m1 151 rfl) rfl
theorem q178 : (Jvm.Cond.privateMethod ({ cls := "MutantLab", name := "stepMutant", desc := "(I)I" } : Jvm.MethodName)) ∈ lw_tbl := lw_at lw_m1 152 rfl
theorem q179 : (Jvm.Cond.instanceMethod ({ cls := "MutantLab", name := "stepMutant", desc := "(I)I" } : Jvm.MethodName)) ∈ lw_all := lw_g (lw_at lw_m1 153 rfl) rfl
theorem q180 : (Jvm.Cond.code ({ cls := "MutantLab", name := "stepMutant", desc := "(I)I" } : Jvm.MethodName) prog_1_method_11_code (2 : Nat) (Option.some Jvm.ClassFile.FieldType.int)) ∈ lw_all := lw_g (lw_at lw_m1 154 rfl) rfl
theorem q181 : (Jvm.Cond.methodLink "MutantLab" (117 : Nat) ({ cls := "MutantLab", name := "share", desc := "(II)V" } : Jvm.MethodName)) ∈ lw_all := lw_g (lw_at lw_m1 155 rfl) rfl
theorem q182 : (Jvm.Cond.privateMethod ({ cls := "MutantLab", name := "share", desc := "(II)V" } : Jvm.MethodName)) ∈ lw_tbl := lw_at lw_m1 156 rfl
theorem q183 : (Jvm.Cond.instanceMethod ({ cls := "MutantLab", name := "share", desc := "(II)V" } : Jvm.MethodName)) ∈ lw_all := lw_g (lw_at lw_m1 157 rfl) rfl
theorem q184 : (Jvm.Cond.code ({ cls := "MutantLab", name := "share", desc := "(II)V" } : Jvm.MethodName) prog_1_method_15_code (4 : Nat) (Option.none : Option Jvm.ClassFile.FieldType)) ∈ lw_all := lw_g (lw_at lw_m1 158 rfl) rfl
theorem q186 : (Jvm.Cond.instanceMethod ({ cls := "MutantLab", name := "killers", desc := "(I)I" } : Jvm.MethodName)) ∈ lw_all := lw_g (lw_at lw_m1 160 rfl) rfl
theorem q187 : (Jvm.Cond.selects "MutantLab" ({ cls := "MutantLab", name := "killers", desc := "(I)I" } : Jvm.MethodName) ({ cls := "MutantLab", name := "killers", desc := "(I)I" } : Jvm.MethodName)) ∈ lw_all := lw_g (lw_at lw_m1 161 rfl) rfl
theorem q188 : (Jvm.Cond.code ({ cls := "MutantLab", name := "killers", desc := "(I)I" } : Jvm.MethodName) prog_1_method_26_code (2 : Nat) (Option.some Jvm.ClassFile.FieldType.int)) ∈ lw_all := lw_g (lw_at lw_m1 162 rfl) rfl
theorem q189 : (Jvm.Cond.methodLink "MutantLab" (144 : Nat) ({ cls := "MutantLab", name := "noMutant", desc := "(I)Z" } : Jvm.MethodName)) ∈ lw_all := lw_g (lw_at lw_m1 163 rfl) rfl
theorem q190 : (Jvm.Cond.privateMethod ({ cls := "MutantLab", name := "noMutant", desc := "(I)Z" } : Jvm.MethodName)) ∈ lw_tbl := lw_at lw_m1 164 rfl
theorem q191 : (Jvm.Cond.instanceMethod ({ cls := "MutantLab", name := "noMutant", desc := "(I)Z" } : Jvm.MethodName)) ∈ lw_all := lw_g (lw_at lw_m1 165 rfl) rfl
theorem q192 : (Jvm.Cond.code ({ cls := "MutantLab", name := "noMutant", desc := "(I)Z" } : Jvm.MethodName) prog_1_method_25_code (2 : Nat) (Option.some Jvm.ClassFile.FieldType.boolean)) ∈ lw_all := lw_g (lw_at lw_m1 166 rfl) rfl
theorem q193 : (Jvm.Cond.methodLink "MutantLab" (148 : Nat) ({ cls := "MutantLab", name := "gatherKills", desc := "()V" } : Jvm.MethodName)) ∈ lw_all := lw_g (lw_at lw_m1 167 rfl) rfl
theorem q194 : (Jvm.Cond.privateMethod ({ cls := "MutantLab", name := "gatherKills", desc := "()V" } : Jvm.MethodName)) ∈ lw_tbl := lw_at lw_m1 168 rfl
theorem q195 : (Jvm.Cond.instanceMethod ({ cls := "MutantLab", name := "gatherKills", desc := "()V" } : Jvm.MethodName)) ∈ lw_all := lw_g (lw_at lw_m1 169 rfl) rfl
theorem q196 : (Jvm.Cond.code ({ cls := "MutantLab", name := "gatherKills", desc := "()V" } : Jvm.MethodName) prog_1_method_18_code (4 : Nat) (Option.none : Option Jvm.ClassFile.FieldType)) ∈ lw_all := lw_g (lw_at lw_m1 170 rfl) rfl
theorem q197 : (Jvm.Cond.methodLink "MutantLab" (128 : Nat) ({ cls := "MutantLab", name := "killsIt", desc := "(II)Z" } : Jvm.MethodName)) ∈ lw_all := lw_g (lw_at lw_m1 171 rfl) rfl
theorem q198 : (Jvm.Cond.privateMethod ({ cls := "MutantLab", name := "killsIt", desc := "(II)Z" } : Jvm.MethodName)) ∈ lw_tbl := lw_at lw_m1 172 rfl
theorem q199 : (Jvm.Cond.instanceMethod ({ cls := "MutantLab", name := "killsIt", desc := "(II)Z" } : Jvm.MethodName)) ∈ lw_all := lw_g (lw_at lw_m1 173 rfl) rfl
theorem q200 : (Jvm.Cond.code ({ cls := "MutantLab", name := "killsIt", desc := "(II)Z" } : Jvm.MethodName) prog_1_method_17_code (4 : Nat) (Option.some Jvm.ClassFile.FieldType.boolean)) ∈ lw_all := lw_g (lw_at lw_m1 174 rfl) rfl
theorem q201 : (Jvm.Cond.methodLink "MutantLab" (132 : Nat) ({ cls := "MutantLab", name := "killersOf", desc := "(I)I" } : Jvm.MethodName)) ∈ lw_all := lw_g (lw_at lw_m1 175 rfl) rfl
theorem q202 : (Jvm.Cond.privateMethod ({ cls := "MutantLab", name := "killersOf", desc := "(I)I" } : Jvm.MethodName)) ∈ lw_tbl := lw_at lw_m1 176 rfl
theorem q203 : (Jvm.Cond.instanceMethod ({ cls := "MutantLab", name := "killersOf", desc := "(I)I" } : Jvm.MethodName)) ∈ lw_all := lw_g (lw_at lw_m1 177 rfl) rfl
theorem q204 : (Jvm.Cond.code ({ cls := "MutantLab", name := "killersOf", desc := "(I)I" } : Jvm.MethodName) prog_1_method_20_code (4 : Nat) (Option.some Jvm.ClassFile.FieldType.int)) ∈ lw_all := lw_g (lw_at lw_m1 178 rfl) rfl
theorem q206 : (Jvm.Cond.instanceMethod ({ cls := "MutantLab", name := "killed", desc := "(I)I" } : Jvm.MethodName)) ∈ lw_all := lw_g (lw_at lw_m1 180 rfl) rfl
theorem q207 : (Jvm.Cond.selects "MutantLab" ({ cls := "MutantLab", name := "killed", desc := "(I)I" } : Jvm.MethodName) ({ cls := "MutantLab", name := "killed", desc := "(I)I" } : Jvm.MethodName)) ∈ lw_all := lw_g (lw_at lw_m1 181 rfl) rfl
theorem q208 : (Jvm.Cond.code ({ cls := "MutantLab", name := "killed", desc := "(I)I" } : Jvm.MethodName) prog_1_method_27_code (4 : Nat) (Option.some Jvm.ClassFile.FieldType.int)) ∈ lw_all := lw_g (lw_at lw_m1 182 rfl) rfl
theorem q209 : (Jvm.Cond.methodLink "MutantLab" (135 : Nat) ({ cls := "MutantLab", name := "ones", desc := "(I)I" } : Jvm.MethodName)) ∈ lw_all := lw_g (lw_at lw_m1 183 rfl) rfl
theorem q210 : (Jvm.Cond.static ({ cls := "MutantLab", name := "ones", desc := "(I)I" } : Jvm.MethodName)) ∈ lw_all := lw_g (lw_at lw_m1 184 rfl) rfl
theorem q211 : (Jvm.Cond.code ({ cls := "MutantLab", name := "ones", desc := "(I)I" } : Jvm.MethodName) prog_1_method_19_code (3 : Nat) (Option.some Jvm.ClassFile.FieldType.int)) ∈ lw_all := lw_g (lw_at lw_m1 185 rfl) rfl
theorem q213 : (Jvm.Cond.instanceMethod ({ cls := "MutantLab", name := "output", desc := "(II)I" } : Jvm.MethodName)) ∈ lw_all := lw_g (lw_at lw_m1 187 rfl) rfl
theorem q214 : (Jvm.Cond.selects "MutantLab" ({ cls := "MutantLab", name := "output", desc := "(II)I" } : Jvm.MethodName) ({ cls := "MutantLab", name := "output", desc := "(II)I" } : Jvm.MethodName)) ∈ lw_all := lw_g (lw_at lw_m1 188 rfl) rfl
theorem q215 : (Jvm.Cond.code ({ cls := "MutantLab", name := "output", desc := "(II)I" } : Jvm.MethodName) prog_1_method_28_code (3 : Nat) (Option.some Jvm.ClassFile.FieldType.int)) ∈ lw_all := lw_g (lw_at lw_m1 189 rfl) rfl
theorem q217 : (Jvm.Cond.instanceMethod ({ cls := "MutantLab", name := "length", desc := "(II)I" } : Jvm.MethodName)) ∈ lw_all := lw_g (lw_at lw_m1 191 rfl) rfl
theorem q218 : (Jvm.Cond.selects "MutantLab" ({ cls := "MutantLab", name := "length", desc := "(II)I" } : Jvm.MethodName) ({ cls := "MutantLab", name := "length", desc := "(II)I" } : Jvm.MethodName)) ∈ lw_all := lw_g (lw_at lw_m1 192 rfl) rfl
theorem q219 : (Jvm.Cond.code ({ cls := "MutantLab", name := "length", desc := "(II)I" } : Jvm.MethodName) prog_1_method_29_code (3 : Nat) (Option.some Jvm.ClassFile.FieldType.int)) ∈ lw_all := lw_g (lw_at lw_m1 193 rfl) rfl
theorem q221 : (Jvm.Cond.instanceMethod ({ cls := "MutantLab", name := "enough", desc := "()I" } : Jvm.MethodName)) ∈ lw_all := lw_g (lw_at lw_m1 195 rfl) rfl
theorem q222 : (Jvm.Cond.selects "MutantLab" ({ cls := "MutantLab", name := "enough", desc := "()I" } : Jvm.MethodName) ({ cls := "MutantLab", name := "enough", desc := "()I" } : Jvm.MethodName)) ∈ lw_all := lw_g (lw_at lw_m1 196 rfl) rfl
theorem q223 : (Jvm.Cond.code ({ cls := "MutantLab", name := "enough", desc := "()I" } : Jvm.MethodName) prog_1_method_30_code (3 : Nat) (Option.some Jvm.ClassFile.FieldType.int)) ∈ lw_all := lw_g (lw_at lw_m1 197 rfl) rfl
theorem q224 : (Jvm.Cond.methodLink "MutantLab" (151 : Nat) ({ cls := "MutantLab", name := "smallest", desc := "(I)I" } : Jvm.MethodName)) ∈ lw_all := lw_g (lw_at lw_m1 198 rfl) rfl
theorem q225 : (Jvm.Cond.privateMethod ({ cls := "MutantLab", name := "smallest", desc := "(I)I" } : Jvm.MethodName)) ∈ lw_tbl := lw_at lw_m1 199 rfl
theorem q226 : (Jvm.Cond.instanceMethod ({ cls := "MutantLab", name := "smallest", desc := "(I)I" } : Jvm.MethodName)) ∈ lw_all := lw_g (lw_at lw_m1 200 rfl) rfl
theorem q227 : (Jvm.Cond.code ({ cls := "MutantLab", name := "smallest", desc := "(I)I" } : Jvm.MethodName) prog_1_method_22_code (7 : Nat) (Option.some Jvm.ClassFile.FieldType.int)) ∈ lw_all := lw_g (lw_at lw_m1 201 rfl) rfl
theorem q228 : (Jvm.Cond.methodLink "MutantLab" (138 : Nat) ({ cls := "MutantLab", name := "choices", desc := "(I)I" } : Jvm.MethodName)) ∈ lw_all := lw_g (lw_at lw_m1 202 rfl) rfl
theorem q229 : (Jvm.Cond.privateMethod ({ cls := "MutantLab", name := "choices", desc := "(I)I" } : Jvm.MethodName)) ∈ lw_tbl := lw_at lw_m1 203 rfl
theorem q230 : (Jvm.Cond.instanceMethod ({ cls := "MutantLab", name := "choices", desc := "(I)I" } : Jvm.MethodName)) ∈ lw_all := lw_g (lw_at lw_m1 204 rfl) rfl
theorem q231 : (Jvm.Cond.code ({ cls := "MutantLab", name := "choices", desc := "(I)I" } : Jvm.MethodName) prog_1_method_21_code (7 : Nat) (Option.some Jvm.ClassFile.FieldType.int)) ∈ lw_all := lw_g (lw_at lw_m1 205 rfl) rfl
theorem q232 : (Jvm.Cond.methodLink "MutantLab" (141 : Nat) ({ cls := "MutantLab", name := "killsOf", desc := "(I)I" } : Jvm.MethodName)) ∈ lw_all := lw_g (lw_at lw_m1 206 rfl) rfl
theorem q233 : (Jvm.Cond.privateMethod ({ cls := "MutantLab", name := "killsOf", desc := "(I)I" } : Jvm.MethodName)) ∈ lw_tbl := lw_at lw_m1 207 rfl
theorem q234 : (Jvm.Cond.instanceMethod ({ cls := "MutantLab", name := "killsOf", desc := "(I)I" } : Jvm.MethodName)) ∈ lw_all := lw_g (lw_at lw_m1 208 rfl) rfl
theorem q235 : (Jvm.Cond.code ({ cls := "MutantLab", name := "killsOf", desc := "(I)I" } : Jvm.MethodName) prog_1_method_23_code (3 : Nat) (Option.some Jvm.ClassFile.FieldType.int)) ∈ lw_all := lw_g (lw_at lw_m1 209 rfl) rfl
theorem q237 : (Jvm.Cond.instanceMethod ({ cls := "MutantLab", name := "same", desc := "()I" } : Jvm.MethodName)) ∈ lw_all := lw_g (lw_at lw_m1 211 rfl) rfl
theorem q238 : (Jvm.Cond.selects "MutantLab" ({ cls := "MutantLab", name := "same", desc := "()I" } : Jvm.MethodName) ({ cls := "MutantLab", name := "same", desc := "()I" } : Jvm.MethodName)) ∈ lw_all := lw_g (lw_at lw_m1 212 rfl) rfl
theorem q239 : (Jvm.Cond.code ({ cls := "MutantLab", name := "same", desc := "()I" } : Jvm.MethodName) prog_1_method_32_code (4 : Nat) (Option.some Jvm.ClassFile.FieldType.int)) ∈ lw_all := lw_g (lw_at lw_m1 213 rfl) rfl
theorem q240 : (Jvm.Cond.methodLink "MutantLab" (154 : Nat) ({ cls := "MutantLab", name := "alike", desc := "(I)Z" } : Jvm.MethodName)) ∈ lw_all := lw_g (lw_at lw_m1 214 rfl) rfl
theorem q241 : (Jvm.Cond.privateMethod ({ cls := "MutantLab", name := "alike", desc := "(I)Z" } : Jvm.MethodName)) ∈ lw_tbl := lw_at lw_m1 215 rfl
theorem q242 : (Jvm.Cond.instanceMethod ({ cls := "MutantLab", name := "alike", desc := "(I)Z" } : Jvm.MethodName)) ∈ lw_all := lw_g (lw_at lw_m1 216 rfl) rfl
theorem q243 : (Jvm.Cond.code ({ cls := "MutantLab", name := "alike", desc := "(I)Z" } : Jvm.MethodName) prog_1_method_31_code (4 : Nat) (Option.some Jvm.ClassFile.FieldType.boolean)) ∈ lw_all := lw_g (lw_at lw_m1 217 rfl) rfl
theorem in_X0 : ∀ w ∈ wsX00, w ∈ lw_all := lw_in wsX00 [64, 66, 68, 70, 72, 74, 76, 78, 80, 82, 84, 86, 88, 90, 92, 94, 96, 98, 100, 102, 104, 106, 108, 110, 112, 114, 116] (by decide +kernel) (by decide +kernel)

/-! MutantLabModel -/
set_option maxRecDepth 100000
def RX1 : String := "MutantLabModel"
def TX1 : u_T := fun k => match k with
  | 0 => ("MutantLabModel", "size", "I", false)
  | 1 => ("MutantLabModel", "ops", "[I", true)
  | 2 => ("MutantLabModel", "as", "[I", true)
  | 3 => ("MutantLabModel", "bs", "[I", true)
  | 4 => ("MutantLabModel", "cs", "[I", true)
  | 5 => ("MutantLabModel", "tests", "I", false)
  | 6 => ("MutantLabModel", "xs", "[I", true)
  | 7 => ("MutantLabModel", "ys", "[I", true)
  | 8 => ("MutantLabModel", "ends", "[Z", true)
  | 9 => ("MutantLabModel", "expected", "[I", true)
  | 10 => ("MutantLabModel", "mutants", "I", false)
  | 11 => ("MutantLabModel", "places", "[I", true)
  | 12 => ("MutantLabModel", "changesOp", "[Z", true)
  | 13 => ("MutantLabModel", "changes", "[I", true)
  | 14 => ("MutantLabModel", "\x72", "[I", true)
  | 15 => ("MutantLabModel", "ended", "Z", false)
  | _ => ("MutantLabModel", "carried", "I", false)
def tyX1 : Nat → FieldType := fun k => match k with
  | 0 => .int
  | 1 => .array .int
  | 2 => .array .int
  | 3 => .array .int
  | 4 => .array .int
  | 5 => .int
  | 6 => .array .int
  | 7 => .array .int
  | 8 => .array .boolean
  | 9 => .array .int
  | 10 => .int
  | 11 => .array .int
  | 12 => .array .boolean
  | 13 => .array .int
  | 14 => .array .int
  | 15 => .boolean
  | _ => .int
abbrev wsX10 : List Cond := u_ws RX1 TX1 17
set_option maxRecDepth 100000 in
theorem nmX1 : ∀ a, a < 17 → ∀ b, b < 17 → a ≠ b → (TX1 a).2.1 ≠ (TX1 b).2.1 := by decide +kernel
set_option maxRecDepth 100000 in
theorem tyX1_ok : ∀ k, k < 17 → parseFieldDescriptor (TX1 k).2.2.1 = some (tyX1 k) := by decide +kernel
abbrev cX1_init : ByteArray := prog_3_method_1_code
def yX1_init : MethodName := ⟨RX1, "<init>", "()V"⟩
abbrev cX1_emit : ByteArray := prog_3_method_2_code
def yX1_emit : MethodName := ⟨RX1, "emit", "(III)I"⟩
abbrev cX1_test : ByteArray := prog_3_method_4_code
def yX1_test : MethodName := ⟨RX1, "test", "(III)I"⟩
abbrev cX1_add : ByteArray := prog_3_method_3_code
def yX1_add : MethodName := ⟨RX1, "add", "(IIZI)I"⟩
abbrev cX1_snapshotTest : ByteArray := prog_3_method_5_code
def yX1_snapshotTest : MethodName := ⟨RX1, "snapshotTest", "(II)I"⟩
abbrev cX1_run : ByteArray := prog_3_method_10_code
def yX1_run : MethodName := ⟨RX1, "run", "(III)V"⟩
abbrev cX1_carryOut : ByteArray := prog_3_method_11_code
def yX1_carryOut : MethodName := ⟨RX1, "carryOut", "(IIIII)I"⟩
abbrev cX1_mutateOp : ByteArray := prog_3_method_7_code
def yX1_mutateOp : MethodName := ⟨RX1, "mutateOp", "(II)I"⟩
abbrev cX1_mutate : ByteArray := prog_3_method_6_code
def yX1_mutate : MethodName := ⟨RX1, "mutate", "(IZI)I"⟩
abbrev cX1_mutateC : ByteArray := prog_3_method_8_code
def yX1_mutateC : MethodName := ⟨RX1, "mutateC", "(II)I"⟩
abbrev cX1_clear : ByteArray := prog_3_method_9_code
def yX1_clear : MethodName := ⟨RX1, "clear", "()V"⟩
abbrev cX1_passes : ByteArray := prog_3_method_15_code
def yX1_passes : MethodName := ⟨RX1, "passes", "(I)Z"⟩
abbrev cX1_noTest : ByteArray := prog_3_method_12_code
def yX1_noTest : MethodName := ⟨RX1, "noTest", "(I)Z"⟩
abbrev cX1_ok : ByteArray := prog_3_method_14_code
def yX1_ok : MethodName := ⟨RX1, "ok", "(II)Z"⟩
abbrev cX1_killers : ByteArray := prog_3_method_16_code
def yX1_killers : MethodName := ⟨RX1, "killers", "(I)I"⟩
abbrev cX1_noMutant : ByteArray := prog_3_method_13_code
def yX1_noMutant : MethodName := ⟨RX1, "noMutant", "(I)Z"⟩
abbrev cX1_killed : ByteArray := prog_3_method_17_code
def yX1_killed : MethodName := ⟨RX1, "killed", "(I)I"⟩
abbrev cX1_output : ByteArray := prog_3_method_18_code
def yX1_output : MethodName := ⟨RX1, "output", "(II)I"⟩
abbrev cX1_length : ByteArray := prog_3_method_19_code
def yX1_length : MethodName := ⟨RX1, "length", "(II)I"⟩
abbrev cX1_enough : ByteArray := prog_3_method_21_code
def yX1_enough : MethodName := ⟨RX1, "enough", "()I"⟩
abbrev cX1_killsAll : ByteArray := prog_3_method_20_code
def yX1_killsAll : MethodName := ⟨RX1, "killsAll", "(I)Z"⟩
abbrev cX1_same : ByteArray := prog_3_method_23_code
def yX1_same : MethodName := ⟨RX1, "same", "()I"⟩
abbrev cX1_alike : ByteArray := prog_3_method_22_code
def yX1_alike : MethodName := ⟨RX1, "alike", "(I)Z"⟩
theorem q28 : (Jvm.Cond.initialized "MutantLabModel") ∈ lw_all := lw_g (lw_at lw_m1 2 rfl) rfl
theorem q245 : (Jvm.Cond.instantiable "MutantLabModel" (17 : Nat)) ∈ lw_all := lw_g (lw_at lw_m1 219 rfl) rfl
theorem q247 : (Jvm.Cond.instanceMethod ({ cls := "MutantLabModel", name := "<init>", desc := "()V" } : Jvm.MethodName)) ∈ lw_all := lw_g (lw_at lw_m1 221 rfl) rfl
theorem q248 : (Jvm.Cond.code ({ cls := "MutantLabModel", name := "<init>", desc := "()V" } : Jvm.MethodName) prog_3_method_1_code (1 : Nat) (Option.none : Option Jvm.ClassFile.FieldType)) ∈ lw_all := lw_g (lw_at lw_m1 222 rfl) rfl
theorem q249 : (Jvm.Cond.methodLink "MutantLabModel" (1 : Nat) ({ cls := "java/lang/Object", name := "<init>", desc := "()V" } : Jvm.MethodName)) ∈ lw_all := lw_g (lw_at lw_m1 223 rfl) rfl
theorem q250 : (Jvm.Cond.fieldLink "MutantLabModel" (47 : Nat) "MutantLabModel" "size" "I") ∈ lw_all := lw_g (lw_at lw_m1 224 rfl) rfl
theorem q251 : (Jvm.Cond.fieldLink "MutantLabModel" (7 : Nat) "MutantLabModel" "ops" "[I") ∈ lw_all := lw_g (lw_at lw_m1 225 rfl) rfl
theorem q252 : (Jvm.Cond.fieldLink "MutantLabModel" (13 : Nat) "MutantLabModel" "as" "[I") ∈ lw_all := lw_g (lw_at lw_m1 226 rfl) rfl
theorem q253 : (Jvm.Cond.fieldLink "MutantLabModel" (16 : Nat) "MutantLabModel" "bs" "[I") ∈ lw_all := lw_g (lw_at lw_m1 227 rfl) rfl
theorem q254 : (Jvm.Cond.fieldLink "MutantLabModel" (19 : Nat) "MutantLabModel" "cs" "[I") ∈ lw_all := lw_g (lw_at lw_m1 228 rfl) rfl
theorem q255 : (Jvm.Cond.fieldLink "MutantLabModel" (51 : Nat) "MutantLabModel" "tests" "I") ∈ lw_all := lw_g (lw_at lw_m1 229 rfl) rfl
theorem q256 : (Jvm.Cond.fieldLink "MutantLabModel" (22 : Nat) "MutantLabModel" "xs" "[I") ∈ lw_all := lw_g (lw_at lw_m1 230 rfl) rfl
theorem q257 : (Jvm.Cond.fieldLink "MutantLabModel" (25 : Nat) "MutantLabModel" "ys" "[I") ∈ lw_all := lw_g (lw_at lw_m1 231 rfl) rfl
theorem q258 : (Jvm.Cond.fieldLink "MutantLabModel" (28 : Nat) "MutantLabModel" "ends" "[Z") ∈ lw_all := lw_g (lw_at lw_m1 232 rfl) rfl
theorem q259 : (Jvm.Cond.fieldLink "MutantLabModel" (32 : Nat) "MutantLabModel" "expected" "[I") ∈ lw_all := lw_g (lw_at lw_m1 233 rfl) rfl
theorem q260 : (Jvm.Cond.fieldLink "MutantLabModel" (66 : Nat) "MutantLabModel" "mutants" "I") ∈ lw_all := lw_g (lw_at lw_m1 234 rfl) rfl
theorem q261 : (Jvm.Cond.fieldLink "MutantLabModel" (35 : Nat) "MutantLabModel" "places" "[I") ∈ lw_all := lw_g (lw_at lw_m1 235 rfl) rfl
theorem q262 : (Jvm.Cond.fieldLink "MutantLabModel" (38 : Nat) "MutantLabModel" "changesOp" "[Z") ∈ lw_all := lw_g (lw_at lw_m1 236 rfl) rfl
theorem q263 : (Jvm.Cond.fieldLink "MutantLabModel" (41 : Nat) "MutantLabModel" "changes" "[I") ∈ lw_all := lw_g (lw_at lw_m1 237 rfl) rfl
theorem q264 : (Jvm.Cond.fieldLink "MutantLabModel" (44 : Nat) "MutantLabModel" "\x72" "[I") ∈ lw_all := lw_g (lw_at lw_m1 238 rfl) rfl
theorem q265 : (Jvm.Cond.fieldLink "MutantLabModel" (62 : Nat) "MutantLabModel" "ended" "Z") ∈ lw_all := lw_g (lw_at lw_m1 239 rfl) rfl
theorem q266 : (Jvm.Cond.fieldLink "MutantLabModel" (73 : Nat) "MutantLabModel" "carried" "I") ∈ lw_all := lw_g (lw_at lw_m2 0 rfl) rfl
theorem q267 : (Jvm.Cond.lays "MutantLabModel" "MutantLabModel" "size" "I") ∈ lw_all := lw_g (lw_at lw_m2 1 rfl) rfl
theorem q268 : (Jvm.Cond.soleField "MutantLabModel" "size") ∈ lw_all := lw_g (lw_at lw_m2 2 rfl) rfl
theorem q269 : (Jvm.Cond.laysFinal "MutantLabModel" "MutantLabModel" "ops" "[I") ∈ lw_all := lw_g (lw_at lw_m2 3 rfl) rfl
theorem q270 : (Jvm.Cond.soleField "MutantLabModel" "ops") ∈ lw_all := lw_g (lw_at lw_m2 4 rfl) rfl
theorem q271 : (Jvm.Cond.laysFinal "MutantLabModel" "MutantLabModel" "as" "[I") ∈ lw_all := lw_g (lw_at lw_m2 5 rfl) rfl
theorem q272 : (Jvm.Cond.soleField "MutantLabModel" "as") ∈ lw_all := lw_g (lw_at lw_m2 6 rfl) rfl
theorem q273 : (Jvm.Cond.laysFinal "MutantLabModel" "MutantLabModel" "bs" "[I") ∈ lw_all := lw_g (lw_at lw_m2 7 rfl) rfl
theorem q274 : (Jvm.Cond.soleField "MutantLabModel" "bs") ∈ lw_all := lw_g (lw_at lw_m2 8 rfl) rfl
theorem q275 : (Jvm.Cond.laysFinal "MutantLabModel" "MutantLabModel" "cs" "[I") ∈ lw_all := lw_g (lw_at lw_m2 9 rfl) rfl
theorem q276 : (Jvm.Cond.soleField "MutantLabModel" "cs") ∈ lw_all := lw_g (lw_at lw_m2 10 rfl) rfl
theorem q277 : (Jvm.Cond.lays "MutantLabModel" "MutantLabModel" "tests" "I") ∈ lw_all := lw_g (lw_at lw_m2 11 rfl) rfl
theorem q278 : (Jvm.Cond.soleField "MutantLabModel" "tests") ∈ lw_all := lw_g (lw_at lw_m2 12 rfl) rfl
theorem q279 : (Jvm.Cond.laysFinal "MutantLabModel" "MutantLabModel" "xs" "[I") ∈ lw_all := lw_g (lw_at lw_m2 13 rfl) rfl
theorem q280 : (Jvm.Cond.soleField "MutantLabModel" "xs") ∈ lw_all := lw_g (lw_at lw_m2 14 rfl) rfl
theorem q281 : (Jvm.Cond.laysFinal "MutantLabModel" "MutantLabModel" "ys" "[I") ∈ lw_all := lw_g (lw_at lw_m2 15 rfl) rfl
theorem q282 : (Jvm.Cond.soleField "MutantLabModel" "ys") ∈ lw_all := lw_g (lw_at lw_m2 16 rfl) rfl
theorem q283 : (Jvm.Cond.laysFinal "MutantLabModel" "MutantLabModel" "ends" "[Z") ∈ lw_all := lw_g (lw_at lw_m2 17 rfl) rfl
theorem q284 : (Jvm.Cond.soleField "MutantLabModel" "ends") ∈ lw_all := lw_g (lw_at lw_m2 18 rfl) rfl
theorem q285 : (Jvm.Cond.laysFinal "MutantLabModel" "MutantLabModel" "expected" "[I") ∈ lw_all := lw_g (lw_at lw_m2 19 rfl) rfl
theorem q286 : (Jvm.Cond.soleField "MutantLabModel" "expected") ∈ lw_all := lw_g (lw_at lw_m2 20 rfl) rfl
theorem q287 : (Jvm.Cond.lays "MutantLabModel" "MutantLabModel" "mutants" "I") ∈ lw_all := lw_g (lw_at lw_m2 21 rfl) rfl
theorem q288 : (Jvm.Cond.soleField "MutantLabModel" "mutants") ∈ lw_all := lw_g (lw_at lw_m2 22 rfl) rfl
theorem q289 : (Jvm.Cond.laysFinal "MutantLabModel" "MutantLabModel" "places" "[I") ∈ lw_all := lw_g (lw_at lw_m2 23 rfl) rfl
theorem q290 : (Jvm.Cond.soleField "MutantLabModel" "places") ∈ lw_all := lw_g (lw_at lw_m2 24 rfl) rfl
theorem q291 : (Jvm.Cond.laysFinal "MutantLabModel" "MutantLabModel" "changesOp" "[Z") ∈ lw_all := lw_g (lw_at lw_m2 25 rfl) rfl
theorem q292 : (Jvm.Cond.soleField "MutantLabModel" "changesOp") ∈ lw_all := lw_g (lw_at lw_m2 26 rfl) rfl
theorem q293 : (Jvm.Cond.laysFinal "MutantLabModel" "MutantLabModel" "changes" "[I") ∈ lw_all := lw_g (lw_at lw_m2 27 rfl) rfl
theorem q294 : (Jvm.Cond.soleField "MutantLabModel" "changes") ∈ lw_all := lw_g (lw_at lw_m2 28 rfl) rfl
theorem q295 : (Jvm.Cond.laysFinal "MutantLabModel" "MutantLabModel" "\x72" "[I") ∈ lw_all := lw_g (lw_at lw_m2 29 rfl) rfl
theorem q296 : (Jvm.Cond.soleField "MutantLabModel" "\x72") ∈ lw_all := lw_g (lw_at lw_m2 30 rfl) rfl
theorem q297 : (Jvm.Cond.lays "MutantLabModel" "MutantLabModel" "ended" "Z") ∈ lw_all := lw_g (lw_at lw_m2 31 rfl) rfl
theorem q298 : (Jvm.Cond.soleField "MutantLabModel" "ended") ∈ lw_all := lw_g (lw_at lw_m2 32 rfl) rfl
theorem q299 : (Jvm.Cond.lays "MutantLabModel" "MutantLabModel" "carried" "I") ∈ lw_all := lw_g (lw_at lw_m2 33 rfl) rfl
theorem q300 : (Jvm.Cond.soleField "MutantLabModel" "carried") ∈ lw_all := lw_g (lw_at lw_m2 34 rfl) rfl
theorem q301 : (Jvm.Cond.superclass "MutantLabModel" "java/lang/Object") ∈ lw_all := lw_g (lw_at lw_m2 35 rfl) rfl
theorem q303 : (Jvm.Cond.instanceMethod ({ cls := "MutantLabModel", name := "emit", desc := "(III)I" } : Jvm.MethodName)) ∈ lw_all := lw_g (lw_at lw_m2 37 rfl) rfl
theorem q304 : (Jvm.Cond.selects "MutantLabModel" ({ cls := "MutantLabModel", name := "emit", desc := "(III)I" } : Jvm.MethodName) ({ cls := "MutantLabModel", name := "emit", desc := "(III)I" } : Jvm.MethodName)) ∈ lw_all := lw_g (lw_at lw_m2 38 rfl) rfl
theorem q305 : (Jvm.Cond.code ({ cls := "MutantLabModel", name := "emit", desc := "(III)I" } : Jvm.MethodName) prog_3_method_2_code (4 : Nat) (Option.some Jvm.ClassFile.FieldType.int)) ∈ lw_all := lw_g (lw_at lw_m2 39 rfl) rfl
theorem q307 : (Jvm.Cond.instanceMethod ({ cls := "MutantLabModel", name := "test", desc := "(III)I" } : Jvm.MethodName)) ∈ lw_all := lw_g (lw_at lw_m2 41 rfl) rfl
theorem q308 : (Jvm.Cond.selects "MutantLabModel" ({ cls := "MutantLabModel", name := "test", desc := "(III)I" } : Jvm.MethodName) ({ cls := "MutantLabModel", name := "test", desc := "(III)I" } : Jvm.MethodName)) ∈ lw_all := lw_g (lw_at lw_m2 42 rfl) rfl
theorem q309 : (Jvm.Cond.code ({ cls := "MutantLabModel", name := "test", desc := "(III)I" } : Jvm.MethodName) prog_3_method_4_code (4 : Nat) (Option.some Jvm.ClassFile.FieldType.int)) ∈ lw_all := lw_g (lw_at lw_m2 43 rfl) rfl
theorem q310 : (Jvm.Cond.methodLink "MutantLabModel" (54 : Nat) ({ cls := "MutantLabModel", name := "add", desc := "(IIZI)I" } : Jvm.MethodName)) ∈ lw_all := lw_g (lw_at lw_m2 44 rfl) rfl
theorem q311 : (Jvm.Cond.privateMethod ({ cls := "MutantLabModel", name := "add", desc := "(IIZI)I" } : Jvm.MethodName)) ∈ lw_tbl := lw_at lw_m2 45 rfl
theorem q312 : (Jvm.Cond.instanceMethod ({ cls := "MutantLabModel", name := "add", desc := "(IIZI)I" } : Jvm.MethodName)) ∈ lw_all := lw_g (lw_at lw_m2 46 rfl) rfl
theorem q313 : (Jvm.Cond.code ({ cls := "MutantLabModel", name := "add", desc := "(IIZI)I" } : Jvm.MethodName) prog_3_method_3_code (5 : Nat) (Option.some Jvm.ClassFile.FieldType.int)) ∈ lw_all := lw_g (lw_at lw_m2 47 rfl) rfl
theorem q315 : (Jvm.Cond.instanceMethod ({ cls := "MutantLabModel", name := "snapshotTest", desc := "(II)I" } : Jvm.MethodName)) ∈ lw_all := lw_g (lw_at lw_m2 49 rfl) rfl
theorem q316 : (Jvm.Cond.selects "MutantLabModel" ({ cls := "MutantLabModel", name := "snapshotTest", desc := "(II)I" } : Jvm.MethodName) ({ cls := "MutantLabModel", name := "snapshotTest", desc := "(II)I" } : Jvm.MethodName)) ∈ lw_all := lw_g (lw_at lw_m2 50 rfl) rfl
theorem q317 : (Jvm.Cond.code ({ cls := "MutantLabModel", name := "snapshotTest", desc := "(II)I" } : Jvm.MethodName) prog_3_method_5_code (3 : Nat) (Option.some Jvm.ClassFile.FieldType.int)) ∈ lw_all := lw_g (lw_at lw_m2 51 rfl) rfl
theorem q318 : (Jvm.Cond.methodLink "MutantLabModel" (58 : Nat) ({ cls := "MutantLabModel", name := "run", desc := "(III)V" } : Jvm.MethodName)) ∈ lw_all := lw_g (lw_at lw_m2 52 rfl) rfl
theorem q319 : (Jvm.Cond.privateMethod ({ cls := "MutantLabModel", name := "run", desc := "(III)V" } : Jvm.MethodName)) ∈ lw_tbl := lw_at lw_m2 53 rfl
theorem q320 : (Jvm.Cond.instanceMethod ({ cls := "MutantLabModel", name := "run", desc := "(III)V" } : Jvm.MethodName)) ∈ lw_all := lw_g (lw_at lw_m2 54 rfl) rfl
theorem q321 : (Jvm.Cond.code ({ cls := "MutantLabModel", name := "run", desc := "(III)V" } : Jvm.MethodName) prog_3_method_10_code (8 : Nat) (Option.none : Option Jvm.ClassFile.FieldType)) ∈ lw_all := lw_g (lw_at lw_m2 55 rfl) rfl
theorem q322 : (Jvm.Cond.methodLink "MutantLabModel" (76 : Nat) ({ cls := "MutantLabModel", name := "carryOut", desc := "(IIIII)I" } : Jvm.MethodName)) ∈ lw_all := lw_g (lw_at lw_m2 56 rfl) rfl
theorem q323 : (Jvm.Cond.privateMethod ({ cls := "MutantLabModel", name := "carryOut", desc := "(IIIII)I" } : Jvm.MethodName)) ∈ lw_tbl := lw_at lw_m2 57 rfl
theorem q324 : (Jvm.Cond.instanceMethod ({ cls := "MutantLabModel", name := "carryOut", desc := "(IIIII)I" } : Jvm.MethodName)) ∈ lw_all := lw_g (lw_at lw_m2 58 rfl) rfl
theorem q325 : (Jvm.Cond.code ({ cls := "MutantLabModel", name := "carryOut", desc := "(IIIII)I" } : Jvm.MethodName) prog_3_method_11_code (6 : Nat) (Option.some Jvm.ClassFile.FieldType.int)) ∈ lw_all := lw_g (lw_at lw_m2 59 rfl) rfl
theorem q327 : (Jvm.Cond.instanceMethod ({ cls := "MutantLabModel", name := "mutateOp", desc := "(II)I" } : Jvm.MethodName)) ∈ lw_all := lw_g (lw_at lw_m2 61 rfl) rfl
theorem q328 : (Jvm.Cond.selects "MutantLabModel" ({ cls := "MutantLabModel", name := "mutateOp", desc := "(II)I" } : Jvm.MethodName) ({ cls := "MutantLabModel", name := "mutateOp", desc := "(II)I" } : Jvm.MethodName)) ∈ lw_all := lw_g (lw_at lw_m2 62 rfl) rfl
theorem q329 : (Jvm.Cond.code ({ cls := "MutantLabModel", name := "mutateOp", desc := "(II)I" } : Jvm.MethodName) prog_3_method_7_code (3 : Nat) (Option.some Jvm.ClassFile.FieldType.int)) ∈ lw_all := lw_g (lw_at lw_m2 63 rfl) rfl
theorem q330 : (Jvm.Cond.methodLink "MutantLabModel" (69 : Nat) ({ cls := "MutantLabModel", name := "mutate", desc := "(IZI)I" } : Jvm.MethodName)) ∈ lw_all := lw_g (lw_at lw_m2 64 rfl) rfl
theorem q331 : (Jvm.Cond.privateMethod ({ cls := "MutantLabModel", name := "mutate", desc := "(IZI)I" } : Jvm.MethodName)) ∈ lw_tbl := lw_at lw_m2 65 rfl
theorem q332 : (Jvm.Cond.instanceMethod ({ cls := "MutantLabModel", name := "mutate", desc := "(IZI)I" } : Jvm.MethodName)) ∈ lw_all := lw_g (lw_at lw_m2 66 rfl) rfl
theorem q333 : (Jvm.Cond.code ({ cls := "MutantLabModel", name := "mutate", desc := "(IZI)I" } : Jvm.MethodName) prog_3_method_6_code (4 : Nat) (Option.some Jvm.ClassFile.FieldType.int)) ∈ lw_all := lw_g (lw_at lw_m2 67 rfl) rfl
theorem q335 : (Jvm.Cond.instanceMethod ({ cls := "MutantLabModel", name := "mutateC", desc := "(II)I" } : Jvm.MethodName)) ∈ lw_all := lw_g (lw_at lw_m2 69 rfl) rfl
theorem q336 : (Jvm.Cond.selects "MutantLabModel" ({ cls := "MutantLabModel", name := "mutateC", desc := "(II)I" } : Jvm.MethodName) ({ cls := "MutantLabModel", name := "mutateC", desc := "(II)I" } : Jvm.MethodName)) ∈ lw_all := lw_g (lw_at lw_m2 70 rfl) rfl
theorem q337 : (Jvm.Cond.code ({ cls := "MutantLabModel", name := "mutateC", desc := "(II)I" } : Jvm.MethodName) prog_3_method_8_code (3 : Nat) (Option.some Jvm.ClassFile.FieldType.int)) ∈ lw_all := lw_g (lw_at lw_m2 71 rfl) rfl
theorem q339 : (Jvm.Cond.instanceMethod ({ cls := "MutantLabModel", name := "clear", desc := "()V" } : Jvm.MethodName)) ∈ lw_all := lw_g (lw_at lw_m2 73 rfl) rfl
theorem q340 : (Jvm.Cond.selects "MutantLabModel" ({ cls := "MutantLabModel", name := "clear", desc := "()V" } : Jvm.MethodName) ({ cls := "MutantLabModel", name := "clear", desc := "()V" } : Jvm.MethodName)) ∈ lw_all := lw_g (lw_at lw_m2 74 rfl) rfl
theorem q341 : (Jvm.Cond.code ({ cls := "MutantLabModel", name := "clear", desc := "()V" } : Jvm.MethodName) prog_3_method_9_code (1 : Nat) (Option.none : Option Jvm.ClassFile.FieldType)) ∈ lw_all := lw_g (lw_at lw_m2 75 rfl) rfl
theorem q343 : (Jvm.Cond.instanceMethod ({ cls := "MutantLabModel", name := "passes", desc := "(I)Z" } : Jvm.MethodName)) ∈ lw_all := lw_g (lw_at lw_m2 77 rfl) rfl
theorem q344 : (Jvm.Cond.selects "MutantLabModel" ({ cls := "MutantLabModel", name := "passes", desc := "(I)Z" } : Jvm.MethodName) ({ cls := "MutantLabModel", name := "passes", desc := "(I)Z" } : Jvm.MethodName)) ∈ lw_all := lw_g (lw_at lw_m2 78 rfl) rfl
theorem q345 : (Jvm.Cond.code ({ cls := "MutantLabModel", name := "passes", desc := "(I)Z" } : Jvm.MethodName) prog_3_method_15_code (2 : Nat) (Option.some Jvm.ClassFile.FieldType.boolean)) ∈ lw_all := lw_g (lw_at lw_m2 79 rfl) rfl
theorem q346 : (Jvm.Cond.methodLink "MutantLabModel" (80 : Nat) ({ cls := "MutantLabModel", name := "noTest", desc := "(I)Z" } : Jvm.MethodName)) ∈ lw_all := lw_g (lw_at lw_m2 80 rfl) rfl
theorem q347 : (Jvm.Cond.privateMethod ({ cls := "MutantLabModel", name := "noTest", desc := "(I)Z" } : Jvm.MethodName)) ∈ lw_tbl := lw_at lw_m2 81 rfl
theorem q348 : (Jvm.Cond.instanceMethod ({ cls := "MutantLabModel", name := "noTest", desc := "(I)Z" } : Jvm.MethodName)) ∈ lw_all := lw_g (lw_at lw_m2 82 rfl) rfl
theorem q349 : (Jvm.Cond.code ({ cls := "MutantLabModel", name := "noTest", desc := "(I)Z" } : Jvm.MethodName) prog_3_method_12_code (2 : Nat) (Option.some Jvm.ClassFile.FieldType.boolean)) ∈ lw_all := lw_g (lw_at lw_m2 83 rfl) rfl
theorem q350 : (Jvm.Cond.methodLink "MutantLabModel" (84 : Nat) ({ cls := "MutantLabModel", name := "ok", desc := "(II)Z" } : Jvm.MethodName)) ∈ lw_all := lw_g (lw_at lw_m2 84 rfl) rfl
theorem q351 : (Jvm.Cond.privateMethod ({ cls := "MutantLabModel", name := "ok", desc := "(II)Z" } : Jvm.MethodName)) ∈ lw_tbl := lw_at lw_m2 85 rfl
theorem q352 : (Jvm.Cond.instanceMethod ({ cls := "MutantLabModel", name := "ok", desc := "(II)Z" } : Jvm.MethodName)) ∈ lw_all := lw_g (lw_at lw_m2 86 rfl) rfl
theorem q353 : (Jvm.Cond.code ({ cls := "MutantLabModel", name := "ok", desc := "(II)Z" } : Jvm.MethodName) prog_3_method_14_code (3 : Nat) (Option.some Jvm.ClassFile.FieldType.boolean)) ∈ lw_all := lw_g (lw_at lw_m2 87 rfl) rfl
theorem q355 : (Jvm.Cond.instanceMethod ({ cls := "MutantLabModel", name := "killers", desc := "(I)I" } : Jvm.MethodName)) ∈ lw_all := lw_g (lw_at lw_m2 89 rfl) rfl
theorem q356 : (Jvm.Cond.selects "MutantLabModel" ({ cls := "MutantLabModel", name := "killers", desc := "(I)I" } : Jvm.MethodName) ({ cls := "MutantLabModel", name := "killers", desc := "(I)I" } : Jvm.MethodName)) ∈ lw_all := lw_g (lw_at lw_m2 90 rfl) rfl
theorem q357 : (Jvm.Cond.code ({ cls := "MutantLabModel", name := "killers", desc := "(I)I" } : Jvm.MethodName) prog_3_method_16_code (4 : Nat) (Option.some Jvm.ClassFile.FieldType.int)) ∈ lw_all := lw_g (lw_at lw_m2 91 rfl) rfl
theorem q358 : (Jvm.Cond.methodLink "MutantLabModel" (88 : Nat) ({ cls := "MutantLabModel", name := "noMutant", desc := "(I)Z" } : Jvm.MethodName)) ∈ lw_all := lw_g (lw_at lw_m2 92 rfl) rfl
theorem q359 : (Jvm.Cond.privateMethod ({ cls := "MutantLabModel", name := "noMutant", desc := "(I)Z" } : Jvm.MethodName)) ∈ lw_tbl := lw_at lw_m2 93 rfl
theorem q360 : (Jvm.Cond.instanceMethod ({ cls := "MutantLabModel", name := "noMutant", desc := "(I)Z" } : Jvm.MethodName)) ∈ lw_all := lw_g (lw_at lw_m2 94 rfl) rfl
theorem q361 : (Jvm.Cond.code ({ cls := "MutantLabModel", name := "noMutant", desc := "(I)Z" } : Jvm.MethodName) prog_3_method_13_code (2 : Nat) (Option.some Jvm.ClassFile.FieldType.boolean)) ∈ lw_all := lw_g (lw_at lw_m2 95 rfl) rfl
theorem q363 : (Jvm.Cond.instanceMethod ({ cls := "MutantLabModel", name := "killed", desc := "(I)I" } : Jvm.MethodName)) ∈ lw_all := lw_g (lw_at lw_m2 97 rfl) rfl
theorem q364 : (Jvm.Cond.selects "MutantLabModel" ({ cls := "MutantLabModel", name := "killed", desc := "(I)I" } : Jvm.MethodName) ({ cls := "MutantLabModel", name := "killed", desc := "(I)I" } : Jvm.MethodName)) ∈ lw_all := lw_g (lw_at lw_m2 98 rfl) rfl
theorem q365 : (Jvm.Cond.code ({ cls := "MutantLabModel", name := "killed", desc := "(I)I" } : Jvm.MethodName) prog_3_method_17_code (5 : Nat) (Option.some Jvm.ClassFile.FieldType.int)) ∈ lw_all := lw_g (lw_at lw_m2 99 rfl) rfl
theorem q366 : (Jvm.Cond.methodLink "MutantLabModel" (91 : Nat) ({ cls := "MutantLabModel", name := "killers", desc := "(I)I" } : Jvm.MethodName)) ∈ lw_all := lw_g (lw_at lw_m2 100 rfl) rfl
theorem q368 : (Jvm.Cond.instanceMethod ({ cls := "MutantLabModel", name := "output", desc := "(II)I" } : Jvm.MethodName)) ∈ lw_all := lw_g (lw_at lw_m2 102 rfl) rfl
theorem q369 : (Jvm.Cond.selects "MutantLabModel" ({ cls := "MutantLabModel", name := "output", desc := "(II)I" } : Jvm.MethodName) ({ cls := "MutantLabModel", name := "output", desc := "(II)I" } : Jvm.MethodName)) ∈ lw_all := lw_g (lw_at lw_m2 103 rfl) rfl
theorem q370 : (Jvm.Cond.code ({ cls := "MutantLabModel", name := "output", desc := "(II)I" } : Jvm.MethodName) prog_3_method_18_code (3 : Nat) (Option.some Jvm.ClassFile.FieldType.int)) ∈ lw_all := lw_g (lw_at lw_m2 104 rfl) rfl
theorem q372 : (Jvm.Cond.instanceMethod ({ cls := "MutantLabModel", name := "length", desc := "(II)I" } : Jvm.MethodName)) ∈ lw_all := lw_g (lw_at lw_m2 106 rfl) rfl
theorem q373 : (Jvm.Cond.selects "MutantLabModel" ({ cls := "MutantLabModel", name := "length", desc := "(II)I" } : Jvm.MethodName) ({ cls := "MutantLabModel", name := "length", desc := "(II)I" } : Jvm.MethodName)) ∈ lw_all := lw_g (lw_at lw_m2 107 rfl) rfl
theorem q374 : (Jvm.Cond.code ({ cls := "MutantLabModel", name := "length", desc := "(II)I" } : Jvm.MethodName) prog_3_method_19_code (3 : Nat) (Option.some Jvm.ClassFile.FieldType.int)) ∈ lw_all := lw_g (lw_at lw_m2 108 rfl) rfl
theorem q376 : (Jvm.Cond.instanceMethod ({ cls := "MutantLabModel", name := "enough", desc := "()I" } : Jvm.MethodName)) ∈ lw_all := lw_g (lw_at lw_m2 110 rfl) rfl
theorem q377 : (Jvm.Cond.selects "MutantLabModel" ({ cls := "MutantLabModel", name := "enough", desc := "()I" } : Jvm.MethodName) ({ cls := "MutantLabModel", name := "enough", desc := "()I" } : Jvm.MethodName)) ∈ lw_all := lw_g (lw_at lw_m2 111 rfl) rfl
theorem q378 : (Jvm.Cond.code ({ cls := "MutantLabModel", name := "enough", desc := "()I" } : Jvm.MethodName) prog_3_method_21_code (5 : Nat) (Option.some Jvm.ClassFile.FieldType.int)) ∈ lw_all := lw_g (lw_at lw_m2 112 rfl) rfl
theorem q379 : (Jvm.Cond.methodLink "MutantLabModel" (95 : Nat) ({ cls := "MutantLabModel", name := "killsAll", desc := "(I)Z" } : Jvm.MethodName)) ∈ lw_all := lw_g (lw_at lw_m2 113 rfl) rfl
theorem q380 : (Jvm.Cond.privateMethod ({ cls := "MutantLabModel", name := "killsAll", desc := "(I)Z" } : Jvm.MethodName)) ∈ lw_tbl := lw_at lw_m2 114 rfl
theorem q381 : (Jvm.Cond.instanceMethod ({ cls := "MutantLabModel", name := "killsAll", desc := "(I)Z" } : Jvm.MethodName)) ∈ lw_all := lw_g (lw_at lw_m2 115 rfl) rfl
theorem q382 : (Jvm.Cond.code ({ cls := "MutantLabModel", name := "killsAll", desc := "(I)Z" } : Jvm.MethodName) prog_3_method_20_code (4 : Nat) (Option.some Jvm.ClassFile.FieldType.boolean)) ∈ lw_all := lw_g (lw_at lw_m2 116 rfl) rfl
theorem q384 : (Jvm.Cond.instanceMethod ({ cls := "MutantLabModel", name := "same", desc := "()I" } : Jvm.MethodName)) ∈ lw_all := lw_g (lw_at lw_m2 118 rfl) rfl
theorem q385 : (Jvm.Cond.selects "MutantLabModel" ({ cls := "MutantLabModel", name := "same", desc := "()I" } : Jvm.MethodName) ({ cls := "MutantLabModel", name := "same", desc := "()I" } : Jvm.MethodName)) ∈ lw_all := lw_g (lw_at lw_m2 119 rfl) rfl
theorem q386 : (Jvm.Cond.code ({ cls := "MutantLabModel", name := "same", desc := "()I" } : Jvm.MethodName) prog_3_method_23_code (3 : Nat) (Option.some Jvm.ClassFile.FieldType.int)) ∈ lw_all := lw_g (lw_at lw_m2 120 rfl) rfl
theorem q387 : (Jvm.Cond.methodLink "MutantLabModel" (98 : Nat) ({ cls := "MutantLabModel", name := "alike", desc := "(I)Z" } : Jvm.MethodName)) ∈ lw_all := lw_g (lw_at lw_m2 121 rfl) rfl
theorem q388 : (Jvm.Cond.privateMethod ({ cls := "MutantLabModel", name := "alike", desc := "(I)Z" } : Jvm.MethodName)) ∈ lw_tbl := lw_at lw_m2 122 rfl
theorem q389 : (Jvm.Cond.instanceMethod ({ cls := "MutantLabModel", name := "alike", desc := "(I)Z" } : Jvm.MethodName)) ∈ lw_all := lw_g (lw_at lw_m2 123 rfl) rfl
theorem q390 : (Jvm.Cond.code ({ cls := "MutantLabModel", name := "alike", desc := "(I)Z" } : Jvm.MethodName) prog_3_method_22_code (5 : Nat) (Option.some Jvm.ClassFile.FieldType.boolean)) ∈ lw_all := lw_g (lw_at lw_m2 124 rfl) rfl
theorem in_X1 : ∀ w ∈ wsX10, w ∈ lw_all := lw_in wsX10 [267, 269, 271, 273, 275, 277, 279, 281, 283, 285, 287, 289, 291, 293, 295, 297, 299] (by decide +kernel) (by decide +kernel)

/-! the law's own entry -/
set_option maxRecDepth 100000
abbrev cL_law : ByteArray := code

theorem q119 : (Jvm.Cond.arrayClass Jvm.ClassFile.FieldType.int) ∈ lw_all := lw_g (lw_at lw_m1 93 rfl) rfl
set_option maxRecDepth 100000
theorem q120 : (Jvm.Cond.arrayClass Jvm.ClassFile.FieldType.boolean) ∈ lw_all := lw_g (lw_at lw_m1 94 rfl) rfl

theorem q26 : (Jvm.Cond.initialized "MutantLabLaw") ∈ lw_all := lw_g (lw_at lw_m1 0 rfl) rfl
set_option maxRecDepth 100000
theorem q29 : (Jvm.Cond.classLink "MutantLabLaw" (7 : Nat) "MutantLab") ∈ lw_all := lw_g (lw_at lw_m1 3 rfl) rfl
theorem q31 : (Jvm.Cond.methodLink "MutantLabLaw" (9 : Nat) ({ cls := "MutantLab", name := "<init>", desc := "()V" } : Jvm.MethodName)) ∈ lw_all := lw_g (lw_at lw_m1 5 rfl) rfl
theorem q121 : (Jvm.Cond.methodLink "MutantLabLaw" (13 : Nat) ({ cls := "MutantLab", name := "emit", desc := "(III)I" } : Jvm.MethodName)) ∈ lw_all := lw_g (lw_at lw_m1 95 rfl) rfl
theorem q125 : (Jvm.Cond.methodLink "MutantLabLaw" (18 : Nat) ({ cls := "MutantLab", name := "test", desc := "(III)I" } : Jvm.MethodName)) ∈ lw_all := lw_g (lw_at lw_m1 99 rfl) rfl
theorem q133 : (Jvm.Cond.methodLink "MutantLabLaw" (22 : Nat) ({ cls := "MutantLab", name := "snapshotTest", desc := "(II)I" } : Jvm.MethodName)) ∈ lw_all := lw_g (lw_at lw_m1 107 rfl) rfl
theorem q141 : (Jvm.Cond.methodLink "MutantLabLaw" (27 : Nat) ({ cls := "MutantLab", name := "mutateOp", desc := "(II)I" } : Jvm.MethodName)) ∈ lw_all := lw_g (lw_at lw_m1 115 rfl) rfl
theorem q149 : (Jvm.Cond.methodLink "MutantLabLaw" (31 : Nat) ({ cls := "MutantLab", name := "mutateC", desc := "(II)I" } : Jvm.MethodName)) ∈ lw_all := lw_g (lw_at lw_m1 123 rfl) rfl
theorem q153 : (Jvm.Cond.methodLink "MutantLabLaw" (35 : Nat) ({ cls := "MutantLab", name := "clear", desc := "()V" } : Jvm.MethodName)) ∈ lw_all := lw_g (lw_at lw_m1 127 rfl) rfl
theorem q157 : (Jvm.Cond.methodLink "MutantLabLaw" (39 : Nat) ({ cls := "MutantLab", name := "passes", desc := "(I)Z" } : Jvm.MethodName)) ∈ lw_all := lw_g (lw_at lw_m1 131 rfl) rfl
theorem q185 : (Jvm.Cond.methodLink "MutantLabLaw" (44 : Nat) ({ cls := "MutantLab", name := "killers", desc := "(I)I" } : Jvm.MethodName)) ∈ lw_all := lw_g (lw_at lw_m1 159 rfl) rfl
theorem q205 : (Jvm.Cond.methodLink "MutantLabLaw" (49 : Nat) ({ cls := "MutantLab", name := "killed", desc := "(I)I" } : Jvm.MethodName)) ∈ lw_all := lw_g (lw_at lw_m1 179 rfl) rfl
theorem q212 : (Jvm.Cond.methodLink "MutantLabLaw" (53 : Nat) ({ cls := "MutantLab", name := "output", desc := "(II)I" } : Jvm.MethodName)) ∈ lw_all := lw_g (lw_at lw_m1 186 rfl) rfl
theorem q216 : (Jvm.Cond.methodLink "MutantLabLaw" (57 : Nat) ({ cls := "MutantLab", name := "length", desc := "(II)I" } : Jvm.MethodName)) ∈ lw_all := lw_g (lw_at lw_m1 190 rfl) rfl
theorem q220 : (Jvm.Cond.methodLink "MutantLabLaw" (61 : Nat) ({ cls := "MutantLab", name := "enough", desc := "()I" } : Jvm.MethodName)) ∈ lw_all := lw_g (lw_at lw_m1 194 rfl) rfl
theorem q236 : (Jvm.Cond.methodLink "MutantLabLaw" (66 : Nat) ({ cls := "MutantLab", name := "same", desc := "()I" } : Jvm.MethodName)) ∈ lw_all := lw_g (lw_at lw_m1 210 rfl) rfl
theorem q244 : (Jvm.Cond.classLink "MutantLabLaw" (10 : Nat) "MutantLabModel") ∈ lw_all := lw_g (lw_at lw_m1 218 rfl) rfl
theorem q246 : (Jvm.Cond.methodLink "MutantLabLaw" (12 : Nat) ({ cls := "MutantLabModel", name := "<init>", desc := "()V" } : Jvm.MethodName)) ∈ lw_all := lw_g (lw_at lw_m1 220 rfl) rfl
theorem q302 : (Jvm.Cond.methodLink "MutantLabLaw" (17 : Nat) ({ cls := "MutantLabModel", name := "emit", desc := "(III)I" } : Jvm.MethodName)) ∈ lw_all := lw_g (lw_at lw_m2 36 rfl) rfl
theorem q306 : (Jvm.Cond.methodLink "MutantLabLaw" (21 : Nat) ({ cls := "MutantLabModel", name := "test", desc := "(III)I" } : Jvm.MethodName)) ∈ lw_all := lw_g (lw_at lw_m2 40 rfl) rfl
theorem q314 : (Jvm.Cond.methodLink "MutantLabLaw" (26 : Nat) ({ cls := "MutantLabModel", name := "snapshotTest", desc := "(II)I" } : Jvm.MethodName)) ∈ lw_all := lw_g (lw_at lw_m2 48 rfl) rfl
theorem q326 : (Jvm.Cond.methodLink "MutantLabLaw" (30 : Nat) ({ cls := "MutantLabModel", name := "mutateOp", desc := "(II)I" } : Jvm.MethodName)) ∈ lw_all := lw_g (lw_at lw_m2 60 rfl) rfl
theorem q334 : (Jvm.Cond.methodLink "MutantLabLaw" (34 : Nat) ({ cls := "MutantLabModel", name := "mutateC", desc := "(II)I" } : Jvm.MethodName)) ∈ lw_all := lw_g (lw_at lw_m2 68 rfl) rfl
theorem q338 : (Jvm.Cond.methodLink "MutantLabLaw" (38 : Nat) ({ cls := "MutantLabModel", name := "clear", desc := "()V" } : Jvm.MethodName)) ∈ lw_all := lw_g (lw_at lw_m2 72 rfl) rfl
theorem q342 : (Jvm.Cond.methodLink "MutantLabLaw" (43 : Nat) ({ cls := "MutantLabModel", name := "passes", desc := "(I)Z" } : Jvm.MethodName)) ∈ lw_all := lw_g (lw_at lw_m2 76 rfl) rfl
theorem q354 : (Jvm.Cond.methodLink "MutantLabLaw" (48 : Nat) ({ cls := "MutantLabModel", name := "killers", desc := "(I)I" } : Jvm.MethodName)) ∈ lw_all := lw_g (lw_at lw_m2 88 rfl) rfl
theorem q362 : (Jvm.Cond.methodLink "MutantLabLaw" (52 : Nat) ({ cls := "MutantLabModel", name := "killed", desc := "(I)I" } : Jvm.MethodName)) ∈ lw_all := lw_g (lw_at lw_m2 96 rfl) rfl
theorem q367 : (Jvm.Cond.methodLink "MutantLabLaw" (56 : Nat) ({ cls := "MutantLabModel", name := "output", desc := "(II)I" } : Jvm.MethodName)) ∈ lw_all := lw_g (lw_at lw_m2 101 rfl) rfl
theorem q371 : (Jvm.Cond.methodLink "MutantLabLaw" (60 : Nat) ({ cls := "MutantLabModel", name := "length", desc := "(II)I" } : Jvm.MethodName)) ∈ lw_all := lw_g (lw_at lw_m2 105 rfl) rfl
theorem q375 : (Jvm.Cond.methodLink "MutantLabLaw" (65 : Nat) ({ cls := "MutantLabModel", name := "enough", desc := "()I" } : Jvm.MethodName)) ∈ lw_all := lw_g (lw_at lw_m2 109 rfl) rfl
theorem q383 : (Jvm.Cond.methodLink "MutantLabLaw" (69 : Nat) ({ cls := "MutantLabModel", name := "same", desc := "()I" } : Jvm.MethodName)) ∈ lw_all := lw_g (lw_at lw_m2 117 rfl) rfl
end
section
set_option maxRecDepth 100000
theorem dX0_init_0 : decode cX0_init 0 = .ok (.aload_n 0, 1) := by decide +kernel
theorem dX0_init_1 : decode cX0_init 1 = .ok (.invokespecial 1, 3) := by decide +kernel
theorem dX0_init_4 : decode cX0_init 4 = .ok (.aload_n 0, 1) := by decide +kernel
theorem dX0_init_5 : decode cX0_init 5 = .ok (.bipush 12, 2) := by decide +kernel
theorem dX0_init_7 : decode cX0_init 7 = .ok (.newarray .int, 2) := by decide +kernel
theorem dX0_init_9 : decode cX0_init 9 = .ok (.putfield 7, 3) := by decide +kernel
theorem dX0_init_12 : decode cX0_init 12 = .ok (.aload_n 0, 1) := by decide +kernel
theorem dX0_init_13 : decode cX0_init 13 = .ok (.bipush 12, 2) := by decide +kernel
theorem dX0_init_15 : decode cX0_init 15 = .ok (.newarray .int, 2) := by decide +kernel
theorem dX0_init_17 : decode cX0_init 17 = .ok (.putfield 13, 3) := by decide +kernel
theorem dX0_init_20 : decode cX0_init 20 = .ok (.aload_n 0, 1) := by decide +kernel
theorem dX0_init_21 : decode cX0_init 21 = .ok (.bipush 12, 2) := by decide +kernel
theorem dX0_init_23 : decode cX0_init 23 = .ok (.newarray .int, 2) := by decide +kernel
theorem dX0_init_25 : decode cX0_init 25 = .ok (.putfield 16, 3) := by decide +kernel
theorem dX0_init_28 : decode cX0_init 28 = .ok (.aload_n 0, 1) := by decide +kernel
theorem dX0_init_29 : decode cX0_init 29 = .ok (.bipush 6, 2) := by decide +kernel
theorem dX0_init_31 : decode cX0_init 31 = .ok (.newarray .int, 2) := by decide +kernel
theorem dX0_init_33 : decode cX0_init 33 = .ok (.putfield 19, 3) := by decide +kernel
theorem dX0_init_36 : decode cX0_init 36 = .ok (.aload_n 0, 1) := by decide +kernel
theorem dX0_init_37 : decode cX0_init 37 = .ok (.bipush 6, 2) := by decide +kernel
theorem dX0_init_39 : decode cX0_init 39 = .ok (.newarray .int, 2) := by decide +kernel
theorem dX0_init_41 : decode cX0_init 41 = .ok (.putfield 22, 3) := by decide +kernel
theorem dX0_init_44 : decode cX0_init 44 = .ok (.aload_n 0, 1) := by decide +kernel
theorem dX0_init_45 : decode cX0_init 45 = .ok (.bipush 6, 2) := by decide +kernel
theorem dX0_init_47 : decode cX0_init 47 = .ok (.newarray .boolean, 2) := by decide +kernel
theorem dX0_init_49 : decode cX0_init 49 = .ok (.putfield 25, 3) := by decide +kernel
theorem dX0_init_52 : decode cX0_init 52 = .ok (.aload_n 0, 1) := by decide +kernel
theorem dX0_init_53 : decode cX0_init 53 = .ok (.bipush 6, 2) := by decide +kernel
theorem dX0_init_55 : decode cX0_init 55 = .ok (.newarray .int, 2) := by decide +kernel
theorem dX0_init_57 : decode cX0_init 57 = .ok (.putfield 29, 3) := by decide +kernel
theorem dX0_init_60 : decode cX0_init 60 = .ok (.aload_n 0, 1) := by decide +kernel
theorem dX0_init_61 : decode cX0_init 61 = .ok (.bipush 24, 2) := by decide +kernel
theorem dX0_init_63 : decode cX0_init 63 = .ok (.newarray .int, 2) := by decide +kernel
theorem dX0_init_65 : decode cX0_init 65 = .ok (.putfield 32, 3) := by decide +kernel
theorem dX0_init_68 : decode cX0_init 68 = .ok (.aload_n 0, 1) := by decide +kernel
theorem dX0_init_69 : decode cX0_init 69 = .ok (.bipush 24, 2) := by decide +kernel
theorem dX0_init_71 : decode cX0_init 71 = .ok (.newarray .boolean, 2) := by decide +kernel
theorem dX0_init_73 : decode cX0_init 73 = .ok (.putfield 35, 3) := by decide +kernel
theorem dX0_init_76 : decode cX0_init 76 = .ok (.aload_n 0, 1) := by decide +kernel
theorem dX0_init_77 : decode cX0_init 77 = .ok (.bipush 24, 2) := by decide +kernel
theorem dX0_init_79 : decode cX0_init 79 = .ok (.newarray .int, 2) := by decide +kernel
theorem dX0_init_81 : decode cX0_init 81 = .ok (.putfield 38, 3) := by decide +kernel
theorem dX0_init_84 : decode cX0_init 84 = .ok (.aload_n 0, 1) := by decide +kernel
theorem dX0_init_85 : decode cX0_init 85 = .ok (.bipush 6, 2) := by decide +kernel
theorem dX0_init_87 : decode cX0_init 87 = .ok (.newarray .boolean, 2) := by decide +kernel
theorem dX0_init_89 : decode cX0_init 89 = .ok (.putfield 41, 3) := by decide +kernel
theorem dX0_init_92 : decode cX0_init 92 = .ok (.aload_n 0, 1) := by decide +kernel
theorem dX0_init_93 : decode cX0_init 93 = .ok (.bipush 6, 2) := by decide +kernel
theorem dX0_init_95 : decode cX0_init 95 = .ok (.newarray .int, 2) := by decide +kernel
theorem dX0_init_97 : decode cX0_init 97 = .ok (.putfield 44, 3) := by decide +kernel
theorem dX0_init_100 : decode cX0_init 100 = .ok (.aload_n 0, 1) := by decide +kernel
theorem dX0_init_101 : decode cX0_init 101 = .ok (.bipush 6, 2) := by decide +kernel
theorem dX0_init_103 : decode cX0_init 103 = .ok (.newarray .int, 2) := by decide +kernel
theorem dX0_init_105 : decode cX0_init 105 = .ok (.putfield 47, 3) := by decide +kernel
theorem dX0_init_108 : decode cX0_init 108 = .ok (.aload_n 0, 1) := by decide +kernel
theorem dX0_init_109 : decode cX0_init 109 = .ok (.sipush 144, 3) := by decide +kernel
theorem dX0_init_112 : decode cX0_init 112 = .ok (.newarray .boolean, 2) := by decide +kernel
theorem dX0_init_114 : decode cX0_init 114 = .ok (.putfield 50, 3) := by decide +kernel
theorem dX0_init_117 : decode cX0_init 117 = .ok (.aload_n 0, 1) := by decide +kernel
theorem dX0_init_118 : decode cX0_init 118 = .ok (.sipush 144, 3) := by decide +kernel
theorem dX0_init_121 : decode cX0_init 121 = .ok (.newarray .int, 2) := by decide +kernel
theorem dX0_init_123 : decode cX0_init 123 = .ok (.putfield 53, 3) := by decide +kernel
theorem dX0_init_126 : decode cX0_init 126 = .ok (.aload_n 0, 1) := by decide +kernel
theorem dX0_init_127 : decode cX0_init 127 = .ok (.sipush 144, 3) := by decide +kernel
theorem dX0_init_130 : decode cX0_init 130 = .ok (.newarray .int, 2) := by decide +kernel
theorem dX0_init_132 : decode cX0_init 132 = .ok (.putfield 56, 3) := by decide +kernel
theorem dX0_init_135 : decode cX0_init 135 = .ok (.aload_n 0, 1) := by decide +kernel
theorem dX0_init_136 : decode cX0_init 136 = .ok (.bipush 8, 2) := by decide +kernel
theorem dX0_init_138 : decode cX0_init 138 = .ok (.newarray .int, 2) := by decide +kernel
theorem dX0_init_140 : decode cX0_init 140 = .ok (.putfield 59, 3) := by decide +kernel
theorem dX0_init_143 : decode cX0_init 143 = .ok (.aload_n 0, 1) := by decide +kernel
theorem dX0_init_144 : decode cX0_init 144 = .ok (.bipush 6, 2) := by decide +kernel
theorem dX0_init_146 : decode cX0_init 146 = .ok (.newarray .int, 2) := by decide +kernel
theorem dX0_init_148 : decode cX0_init 148 = .ok (.putfield 62, 3) := by decide +kernel
theorem dX0_init_151 : decode cX0_init 151 = .ok (.aload_n 0, 1) := by decide +kernel
theorem dX0_init_152 : decode cX0_init 152 = .ok (.bipush 8, 2) := by decide +kernel
theorem dX0_init_154 : decode cX0_init 154 = .ok (.newarray .int, 2) := by decide +kernel
theorem dX0_init_156 : decode cX0_init 156 = .ok (.putfield 65, 3) := by decide +kernel
theorem dX0_init_159 : decode cX0_init 159 = .ok (.aload_n 0, 1) := by decide +kernel
theorem dX0_init_160 : decode cX0_init 160 = .ok (.bipush 8, 2) := by decide +kernel
theorem dX0_init_162 : decode cX0_init 162 = .ok (.newarray .int, 2) := by decide +kernel
theorem dX0_init_164 : decode cX0_init 164 = .ok (.putfield 68, 3) := by decide +kernel
theorem dX0_init_167 : decode cX0_init 167 = .ok (.aload_n 0, 1) := by decide +kernel
theorem dX0_init_168 : decode cX0_init 168 = .ok (.iconst 0, 1) := by decide +kernel
theorem dX0_init_169 : decode cX0_init 169 = .ok (.putfield 71, 3) := by decide +kernel
theorem dX0_init_172 : decode cX0_init 172 = .ok (.return_, 1) := by decide +kernel
theorem dX0_emit_0 : decode cX0_emit 0 = .ok (.iload_n 1, 1) := by decide +kernel
theorem dX0_emit_1 : decode cX0_emit 1 = .ok (.ifCond .lt 9, 3) := by decide +kernel
theorem dX0_emit_4 : decode cX0_emit 4 = .ok (.iload_n 1, 1) := by decide +kernel
theorem dX0_emit_5 : decode cX0_emit 5 = .ok (.bipush 7, 2) := by decide +kernel
theorem dX0_emit_7 : decode cX0_emit 7 = .ok (.if_icmp .le 5, 3) := by decide +kernel
theorem dX0_emit_10 : decode cX0_emit 10 = .ok (.iconst (-1), 1) := by decide +kernel
theorem dX0_emit_11 : decode cX0_emit 11 = .ok (.ireturn, 1) := by decide +kernel
theorem dX0_emit_12 : decode cX0_emit 12 = .ok (.aload_n 0, 1) := by decide +kernel
theorem dX0_emit_13 : decode cX0_emit 13 = .ok (.getfield 71, 3) := by decide +kernel
theorem dX0_emit_16 : decode cX0_emit 16 = .ok (.bipush 12, 2) := by decide +kernel
theorem dX0_emit_18 : decode cX0_emit 18 = .ok (.if_icmp .lt 6, 3) := by decide +kernel
theorem dX0_emit_21 : decode cX0_emit 21 = .ok (.bipush (-2), 2) := by decide +kernel
theorem dX0_emit_23 : decode cX0_emit 23 = .ok (.ireturn, 1) := by decide +kernel
theorem dX0_emit_24 : decode cX0_emit 24 = .ok (.aload_n 0, 1) := by decide +kernel
theorem dX0_emit_25 : decode cX0_emit 25 = .ok (.getfield 7, 3) := by decide +kernel
theorem dX0_emit_28 : decode cX0_emit 28 = .ok (.aload_n 0, 1) := by decide +kernel
theorem dX0_emit_29 : decode cX0_emit 29 = .ok (.getfield 71, 3) := by decide +kernel
theorem dX0_emit_32 : decode cX0_emit 32 = .ok (.iload_n 1, 1) := by decide +kernel
theorem dX0_emit_33 : decode cX0_emit 33 = .ok (.iastore, 1) := by decide +kernel
theorem dX0_emit_34 : decode cX0_emit 34 = .ok (.aload_n 0, 1) := by decide +kernel
theorem dX0_emit_35 : decode cX0_emit 35 = .ok (.getfield 13, 3) := by decide +kernel
theorem dX0_emit_38 : decode cX0_emit 38 = .ok (.aload_n 0, 1) := by decide +kernel
theorem dX0_emit_39 : decode cX0_emit 39 = .ok (.getfield 71, 3) := by decide +kernel
theorem dX0_emit_42 : decode cX0_emit 42 = .ok (.iload_n 2, 1) := by decide +kernel
theorem dX0_emit_43 : decode cX0_emit 43 = .ok (.bipush 15, 2) := by decide +kernel
theorem dX0_emit_45 : decode cX0_emit 45 = .ok (.iand, 1) := by decide +kernel
theorem dX0_emit_46 : decode cX0_emit 46 = .ok (.iastore, 1) := by decide +kernel
theorem dX0_emit_47 : decode cX0_emit 47 = .ok (.aload_n 0, 1) := by decide +kernel
theorem dX0_emit_48 : decode cX0_emit 48 = .ok (.getfield 16, 3) := by decide +kernel
theorem dX0_emit_51 : decode cX0_emit 51 = .ok (.aload_n 0, 1) := by decide +kernel
theorem dX0_emit_52 : decode cX0_emit 52 = .ok (.getfield 71, 3) := by decide +kernel
theorem dX0_emit_55 : decode cX0_emit 55 = .ok (.iload_n 3, 1) := by decide +kernel
theorem dX0_emit_56 : decode cX0_emit 56 = .ok (.iastore, 1) := by decide +kernel
theorem dX0_emit_57 : decode cX0_emit 57 = .ok (.aload_n 0, 1) := by decide +kernel
theorem dX0_emit_58 : decode cX0_emit 58 = .ok (.dup, 1) := by decide +kernel
theorem dX0_emit_59 : decode cX0_emit 59 = .ok (.getfield 71, 3) := by decide +kernel
theorem dX0_emit_62 : decode cX0_emit 62 = .ok (.iconst 1, 1) := by decide +kernel
theorem dX0_emit_63 : decode cX0_emit 63 = .ok (.iadd, 1) := by decide +kernel
theorem dX0_emit_64 : decode cX0_emit 64 = .ok (.putfield 71, 3) := by decide +kernel
theorem dX0_emit_67 : decode cX0_emit 67 = .ok (.aload_n 0, 1) := by decide +kernel
theorem dX0_emit_68 : decode cX0_emit 68 = .ok (.iconst 0, 1) := by decide +kernel
theorem dX0_emit_69 : decode cX0_emit 69 = .ok (.putfield 75, 3) := by decide +kernel
theorem dX0_emit_72 : decode cX0_emit 72 = .ok (.aload_n 0, 1) := by decide +kernel
theorem dX0_emit_73 : decode cX0_emit 73 = .ok (.getfield 71, 3) := by decide +kernel
theorem dX0_emit_76 : decode cX0_emit 76 = .ok (.iconst 1, 1) := by decide +kernel
theorem dX0_emit_77 : decode cX0_emit 77 = .ok (.isub, 1) := by decide +kernel
theorem dX0_emit_78 : decode cX0_emit 78 = .ok (.ireturn, 1) := by decide +kernel
theorem dX0_test_0 : decode cX0_test 0 = .ok (.aload_n 0, 1) := by decide +kernel
theorem dX0_test_1 : decode cX0_test 1 = .ok (.iload_n 1, 1) := by decide +kernel
theorem dX0_test_2 : decode cX0_test 2 = .ok (.iload_n 2, 1) := by decide +kernel
theorem dX0_test_3 : decode cX0_test 3 = .ok (.iconst 1, 1) := by decide +kernel
theorem dX0_test_4 : decode cX0_test 4 = .ok (.iload_n 3, 1) := by decide +kernel
theorem dX0_test_5 : decode cX0_test 5 = .ok (.invokevirtual 82, 3) := by decide +kernel
theorem dX0_test_8 : decode cX0_test 8 = .ok (.ireturn, 1) := by decide +kernel
theorem dX0_addTest_0 : decode cX0_addTest 0 = .ok (.aload_n 0, 1) := by decide +kernel
theorem dX0_addTest_1 : decode cX0_addTest 1 = .ok (.getfield 79, 3) := by decide +kernel
theorem dX0_addTest_4 : decode cX0_addTest 4 = .ok (.bipush 6, 2) := by decide +kernel
theorem dX0_addTest_6 : decode cX0_addTest 6 = .ok (.if_icmp .lt 6, 3) := by decide +kernel
theorem dX0_addTest_9 : decode cX0_addTest 9 = .ok (.bipush (-2), 2) := by decide +kernel
theorem dX0_addTest_11 : decode cX0_addTest 11 = .ok (.ireturn, 1) := by decide +kernel
theorem dX0_addTest_12 : decode cX0_addTest 12 = .ok (.aload_n 0, 1) := by decide +kernel
theorem dX0_addTest_13 : decode cX0_addTest 13 = .ok (.getfield 79, 3) := by decide +kernel
theorem dX0_addTest_16 : decode cX0_addTest 16 = .ok (.istore 5, 2) := by decide +kernel
theorem dX0_addTest_18 : decode cX0_addTest 18 = .ok (.aload_n 0, 1) := by decide +kernel
theorem dX0_addTest_19 : decode cX0_addTest 19 = .ok (.getfield 19, 3) := by decide +kernel
theorem dX0_addTest_22 : decode cX0_addTest 22 = .ok (.iload 5, 2) := by decide +kernel
theorem dX0_addTest_24 : decode cX0_addTest 24 = .ok (.iload_n 1, 1) := by decide +kernel
theorem dX0_addTest_25 : decode cX0_addTest 25 = .ok (.iastore, 1) := by decide +kernel
theorem dX0_addTest_26 : decode cX0_addTest 26 = .ok (.aload_n 0, 1) := by decide +kernel
theorem dX0_addTest_27 : decode cX0_addTest 27 = .ok (.getfield 22, 3) := by decide +kernel
theorem dX0_addTest_30 : decode cX0_addTest 30 = .ok (.iload 5, 2) := by decide +kernel
theorem dX0_addTest_32 : decode cX0_addTest 32 = .ok (.iload_n 2, 1) := by decide +kernel
theorem dX0_addTest_33 : decode cX0_addTest 33 = .ok (.iastore, 1) := by decide +kernel
theorem dX0_addTest_34 : decode cX0_addTest 34 = .ok (.aload_n 0, 1) := by decide +kernel
theorem dX0_addTest_35 : decode cX0_addTest 35 = .ok (.getfield 25, 3) := by decide +kernel
theorem dX0_addTest_38 : decode cX0_addTest 38 = .ok (.iload 5, 2) := by decide +kernel
theorem dX0_addTest_40 : decode cX0_addTest 40 = .ok (.iload_n 3, 1) := by decide +kernel
theorem dX0_addTest_41 : decode cX0_addTest 41 = .ok (.bastore, 1) := by decide +kernel
theorem dX0_addTest_42 : decode cX0_addTest 42 = .ok (.aload_n 0, 1) := by decide +kernel
theorem dX0_addTest_43 : decode cX0_addTest 43 = .ok (.getfield 29, 3) := by decide +kernel
theorem dX0_addTest_46 : decode cX0_addTest 46 = .ok (.iload 5, 2) := by decide +kernel
theorem dX0_addTest_48 : decode cX0_addTest 48 = .ok (.iload 4, 2) := by decide +kernel
theorem dX0_addTest_50 : decode cX0_addTest 50 = .ok (.iastore, 1) := by decide +kernel
theorem dX0_addTest_51 : decode cX0_addTest 51 = .ok (.aload_n 0, 1) := by decide +kernel
theorem dX0_addTest_52 : decode cX0_addTest 52 = .ok (.dup, 1) := by decide +kernel
theorem dX0_addTest_53 : decode cX0_addTest 53 = .ok (.getfield 79, 3) := by decide +kernel
theorem dX0_addTest_56 : decode cX0_addTest 56 = .ok (.iconst 1, 1) := by decide +kernel
theorem dX0_addTest_57 : decode cX0_addTest 57 = .ok (.iadd, 1) := by decide +kernel
theorem dX0_addTest_58 : decode cX0_addTest 58 = .ok (.putfield 79, 3) := by decide +kernel
theorem dX0_addTest_61 : decode cX0_addTest 61 = .ok (.aload_n 0, 1) := by decide +kernel
theorem dX0_addTest_62 : decode cX0_addTest 62 = .ok (.iconst 0, 1) := by decide +kernel
theorem dX0_addTest_63 : decode cX0_addTest 63 = .ok (.putfield 75, 3) := by decide +kernel
theorem dX0_addTest_66 : decode cX0_addTest 66 = .ok (.iload 5, 2) := by decide +kernel
theorem dX0_addTest_68 : decode cX0_addTest 68 = .ok (.ireturn, 1) := by decide +kernel
theorem dX0_snapshotTest_0 : decode cX0_snapshotTest 0 = .ok (.aload_n 0, 1) := by decide +kernel
theorem dX0_snapshotTest_1 : decode cX0_snapshotTest 1 = .ok (.getfield 79, 3) := by decide +kernel
theorem dX0_snapshotTest_4 : decode cX0_snapshotTest 4 = .ok (.bipush 6, 2) := by decide +kernel
theorem dX0_snapshotTest_6 : decode cX0_snapshotTest 6 = .ok (.if_icmp .lt 6, 3) := by decide +kernel
theorem dX0_snapshotTest_9 : decode cX0_snapshotTest 9 = .ok (.bipush (-2), 2) := by decide +kernel
theorem dX0_snapshotTest_11 : decode cX0_snapshotTest 11 = .ok (.ireturn, 1) := by decide +kernel
theorem dX0_snapshotTest_12 : decode cX0_snapshotTest 12 = .ok (.aload_n 0, 1) := by decide +kernel
theorem dX0_snapshotTest_13 : decode cX0_snapshotTest 13 = .ok (.getfield 59, 3) := by decide +kernel
theorem dX0_snapshotTest_16 : decode cX0_snapshotTest 16 = .ok (.iconst 0, 1) := by decide +kernel
theorem dX0_snapshotTest_17 : decode cX0_snapshotTest 17 = .ok (.iload_n 1, 1) := by decide +kernel
theorem dX0_snapshotTest_18 : decode cX0_snapshotTest 18 = .ok (.iastore, 1) := by decide +kernel
theorem dX0_snapshotTest_19 : decode cX0_snapshotTest 19 = .ok (.aload_n 0, 1) := by decide +kernel
theorem dX0_snapshotTest_20 : decode cX0_snapshotTest 20 = .ok (.getfield 59, 3) := by decide +kernel
theorem dX0_snapshotTest_23 : decode cX0_snapshotTest 23 = .ok (.iconst 1, 1) := by decide +kernel
theorem dX0_snapshotTest_24 : decode cX0_snapshotTest 24 = .ok (.iload_n 2, 1) := by decide +kernel
theorem dX0_snapshotTest_25 : decode cX0_snapshotTest 25 = .ok (.iastore, 1) := by decide +kernel
theorem dX0_snapshotTest_26 : decode cX0_snapshotTest 26 = .ok (.aload_n 0, 1) := by decide +kernel
theorem dX0_snapshotTest_27 : decode cX0_snapshotTest 27 = .ok (.getfield 59, 3) := by decide +kernel
theorem dX0_snapshotTest_30 : decode cX0_snapshotTest 30 = .ok (.iconst 2, 1) := by decide +kernel
theorem dX0_snapshotTest_31 : decode cX0_snapshotTest 31 = .ok (.iconst 0, 1) := by decide +kernel
theorem dX0_snapshotTest_32 : decode cX0_snapshotTest 32 = .ok (.iastore, 1) := by decide +kernel
theorem dX0_snapshotTest_33 : decode cX0_snapshotTest 33 = .ok (.aload_n 0, 1) := by decide +kernel
theorem dX0_snapshotTest_34 : decode cX0_snapshotTest 34 = .ok (.getfield 59, 3) := by decide +kernel
theorem dX0_snapshotTest_37 : decode cX0_snapshotTest 37 = .ok (.iconst 3, 1) := by decide +kernel
theorem dX0_snapshotTest_38 : decode cX0_snapshotTest 38 = .ok (.iconst 0, 1) := by decide +kernel
theorem dX0_snapshotTest_39 : decode cX0_snapshotTest 39 = .ok (.iastore, 1) := by decide +kernel
theorem dX0_snapshotTest_40 : decode cX0_snapshotTest 40 = .ok (.iconst 0, 1) := by decide +kernel
theorem dX0_snapshotTest_41 : decode cX0_snapshotTest 41 = .ok (.istore_n 3, 1) := by decide +kernel
theorem dX0_snapshotTest_42 : decode cX0_snapshotTest 42 = .ok (.iconst 0, 1) := by decide +kernel
theorem dX0_snapshotTest_43 : decode cX0_snapshotTest 43 = .ok (.istore 4, 2) := by decide +kernel
theorem dX0_snapshotTest_45 : decode cX0_snapshotTest 45 = .ok (.iload 4, 2) := by decide +kernel
theorem dX0_snapshotTest_47 : decode cX0_snapshotTest 47 = .ok (.bipush 100, 2) := by decide +kernel
theorem dX0_snapshotTest_49 : decode cX0_snapshotTest 49 = .ok (.if_icmp .ge 40, 3) := by decide +kernel
theorem dX0_snapshotTest_52 : decode cX0_snapshotTest 52 = .ok (.iload_n 3, 1) := by decide +kernel
theorem dX0_snapshotTest_53 : decode cX0_snapshotTest 53 = .ok (.ifCond .lt 36, 3) := by decide +kernel
theorem dX0_snapshotTest_56 : decode cX0_snapshotTest 56 = .ok (.iload_n 3, 1) := by decide +kernel
theorem dX0_snapshotTest_57 : decode cX0_snapshotTest 57 = .ok (.aload_n 0, 1) := by decide +kernel
theorem dX0_snapshotTest_58 : decode cX0_snapshotTest 58 = .ok (.getfield 71, 3) := by decide +kernel
theorem dX0_snapshotTest_61 : decode cX0_snapshotTest 61 = .ok (.if_icmp .ge 28, 3) := by decide +kernel
theorem dX0_snapshotTest_64 : decode cX0_snapshotTest 64 = .ok (.aload_n 0, 1) := by decide +kernel
theorem dX0_snapshotTest_65 : decode cX0_snapshotTest 65 = .ok (.iconst 0, 1) := by decide +kernel
theorem dX0_snapshotTest_66 : decode cX0_snapshotTest 66 = .ok (.iload_n 3, 1) := by decide +kernel
theorem dX0_snapshotTest_67 : decode cX0_snapshotTest 67 = .ok (.aload_n 0, 1) := by decide +kernel
theorem dX0_snapshotTest_68 : decode cX0_snapshotTest 68 = .ok (.getfield 7, 3) := by decide +kernel
theorem dX0_snapshotTest_71 : decode cX0_snapshotTest 71 = .ok (.iload_n 3, 1) := by decide +kernel
theorem dX0_snapshotTest_72 : decode cX0_snapshotTest 72 = .ok (.iaload, 1) := by decide +kernel
theorem dX0_snapshotTest_73 : decode cX0_snapshotTest 73 = .ok (.aload_n 0, 1) := by decide +kernel
theorem dX0_snapshotTest_74 : decode cX0_snapshotTest 74 = .ok (.getfield 16, 3) := by decide +kernel
theorem dX0_snapshotTest_77 : decode cX0_snapshotTest 77 = .ok (.iload_n 3, 1) := by decide +kernel
theorem dX0_snapshotTest_78 : decode cX0_snapshotTest 78 = .ok (.iaload, 1) := by decide +kernel
theorem dX0_snapshotTest_79 : decode cX0_snapshotTest 79 = .ok (.invokevirtual 86, 3) := by decide +kernel
theorem dX0_snapshotTest_82 : decode cX0_snapshotTest 82 = .ok (.istore_n 3, 1) := by decide +kernel
theorem dX0_snapshotTest_83 : decode cX0_snapshotTest 83 = .ok (.iinc 4 1, 3) := by decide +kernel
theorem dX0_snapshotTest_86 : decode cX0_snapshotTest 86 = .ok (.goto (-41), 3) := by decide +kernel
theorem dX0_snapshotTest_89 : decode cX0_snapshotTest 89 = .ok (.iload_n 3, 1) := by decide +kernel
theorem dX0_snapshotTest_90 : decode cX0_snapshotTest 90 = .ok (.ifCond .lt 11, 3) := by decide +kernel
theorem dX0_snapshotTest_93 : decode cX0_snapshotTest 93 = .ok (.iload_n 3, 1) := by decide +kernel
theorem dX0_snapshotTest_94 : decode cX0_snapshotTest 94 = .ok (.aload_n 0, 1) := by decide +kernel
theorem dX0_snapshotTest_95 : decode cX0_snapshotTest 95 = .ok (.getfield 71, 3) := by decide +kernel
theorem dX0_snapshotTest_98 : decode cX0_snapshotTest 98 = .ok (.if_icmp .lt 7, 3) := by decide +kernel
theorem dX0_snapshotTest_101 : decode cX0_snapshotTest 101 = .ok (.iconst 1, 1) := by decide +kernel
theorem dX0_snapshotTest_102 : decode cX0_snapshotTest 102 = .ok (.goto 4, 3) := by decide +kernel
theorem dX0_snapshotTest_105 : decode cX0_snapshotTest 105 = .ok (.iconst 0, 1) := by decide +kernel
theorem dX0_snapshotTest_106 : decode cX0_snapshotTest 106 = .ok (.istore 5, 2) := by decide +kernel
theorem dX0_snapshotTest_108 : decode cX0_snapshotTest 108 = .ok (.aload_n 0, 1) := by decide +kernel
theorem dX0_snapshotTest_109 : decode cX0_snapshotTest 109 = .ok (.iload_n 1, 1) := by decide +kernel
theorem dX0_snapshotTest_110 : decode cX0_snapshotTest 110 = .ok (.iload_n 2, 1) := by decide +kernel
theorem dX0_snapshotTest_111 : decode cX0_snapshotTest 111 = .ok (.iload 5, 2) := by decide +kernel
theorem dX0_snapshotTest_113 : decode cX0_snapshotTest 113 = .ok (.aload_n 0, 1) := by decide +kernel
theorem dX0_snapshotTest_114 : decode cX0_snapshotTest 114 = .ok (.getfield 59, 3) := by decide +kernel
theorem dX0_snapshotTest_117 : decode cX0_snapshotTest 117 = .ok (.iconst 0, 1) := by decide +kernel
theorem dX0_snapshotTest_118 : decode cX0_snapshotTest 118 = .ok (.iaload, 1) := by decide +kernel
theorem dX0_snapshotTest_119 : decode cX0_snapshotTest 119 = .ok (.invokevirtual 82, 3) := by decide +kernel
theorem dX0_snapshotTest_122 : decode cX0_snapshotTest 122 = .ok (.ireturn, 1) := by decide +kernel
theorem dX0_carryOut_0 : decode cX0_carryOut 0 = .ok (.iload_n 1, 1) := by decide +kernel
theorem dX0_carryOut_1 : decode cX0_carryOut 1 = .ok (.aload_n 0, 1) := by decide +kernel
theorem dX0_carryOut_2 : decode cX0_carryOut 2 = .ok (.getfield 13, 3) := by decide +kernel
theorem dX0_carryOut_5 : decode cX0_carryOut 5 = .ok (.iload_n 2, 1) := by decide +kernel
theorem dX0_carryOut_6 : decode cX0_carryOut 6 = .ok (.iaload, 1) := by decide +kernel
theorem dX0_carryOut_7 : decode cX0_carryOut 7 = .ok (.iconst 3, 1) := by decide +kernel
theorem dX0_carryOut_8 : decode cX0_carryOut 8 = .ok (.iand, 1) := by decide +kernel
theorem dX0_carryOut_9 : decode cX0_carryOut 9 = .ok (.iadd, 1) := by decide +kernel
theorem dX0_carryOut_10 : decode cX0_carryOut 10 = .ok (.istore 5, 2) := by decide +kernel
theorem dX0_carryOut_12 : decode cX0_carryOut 12 = .ok (.iload_n 1, 1) := by decide +kernel
theorem dX0_carryOut_13 : decode cX0_carryOut 13 = .ok (.aload_n 0, 1) := by decide +kernel
theorem dX0_carryOut_14 : decode cX0_carryOut 14 = .ok (.getfield 13, 3) := by decide +kernel
theorem dX0_carryOut_17 : decode cX0_carryOut 17 = .ok (.iload_n 2, 1) := by decide +kernel
theorem dX0_carryOut_18 : decode cX0_carryOut 18 = .ok (.iaload, 1) := by decide +kernel
theorem dX0_carryOut_19 : decode cX0_carryOut 19 = .ok (.iconst 2, 1) := by decide +kernel
theorem dX0_carryOut_20 : decode cX0_carryOut 20 = .ok (.ishr, 1) := by decide +kernel
theorem dX0_carryOut_21 : decode cX0_carryOut 21 = .ok (.iadd, 1) := by decide +kernel
theorem dX0_carryOut_22 : decode cX0_carryOut 22 = .ok (.istore 6, 2) := by decide +kernel
theorem dX0_carryOut_24 : decode cX0_carryOut 24 = .ok (.iload_n 3, 1) := by decide +kernel
theorem dX0_carryOut_25 : decode cX0_carryOut 25 = .ok (.tableswitch 219 0 6 #[43, 55, 80, 105, 130, 174, 200], 43) := by decide +kernel
theorem dX0_carryOut_68 : decode cX0_carryOut 68 = .ok (.aload_n 0, 1) := by decide +kernel
theorem dX0_carryOut_69 : decode cX0_carryOut 69 = .ok (.getfield 59, 3) := by decide +kernel
theorem dX0_carryOut_72 : decode cX0_carryOut 72 = .ok (.iload 5, 2) := by decide +kernel
theorem dX0_carryOut_74 : decode cX0_carryOut 74 = .ok (.iload 4, 2) := by decide +kernel
theorem dX0_carryOut_76 : decode cX0_carryOut 76 = .ok (.iastore, 1) := by decide +kernel
theorem dX0_carryOut_77 : decode cX0_carryOut 77 = .ok (.goto 184, 3) := by decide +kernel
theorem dX0_carryOut_80 : decode cX0_carryOut 80 = .ok (.aload_n 0, 1) := by decide +kernel
theorem dX0_carryOut_81 : decode cX0_carryOut 81 = .ok (.getfield 59, 3) := by decide +kernel
theorem dX0_carryOut_84 : decode cX0_carryOut 84 = .ok (.iload 5, 2) := by decide +kernel
theorem dX0_carryOut_86 : decode cX0_carryOut 86 = .ok (.aload_n 0, 1) := by decide +kernel
theorem dX0_carryOut_87 : decode cX0_carryOut 87 = .ok (.getfield 59, 3) := by decide +kernel
theorem dX0_carryOut_90 : decode cX0_carryOut 90 = .ok (.iload 5, 2) := by decide +kernel
theorem dX0_carryOut_92 : decode cX0_carryOut 92 = .ok (.iaload, 1) := by decide +kernel
theorem dX0_carryOut_93 : decode cX0_carryOut 93 = .ok (.aload_n 0, 1) := by decide +kernel
theorem dX0_carryOut_94 : decode cX0_carryOut 94 = .ok (.getfield 59, 3) := by decide +kernel
theorem dX0_carryOut_97 : decode cX0_carryOut 97 = .ok (.iload 6, 2) := by decide +kernel
theorem dX0_carryOut_99 : decode cX0_carryOut 99 = .ok (.iaload, 1) := by decide +kernel
theorem dX0_carryOut_100 : decode cX0_carryOut 100 = .ok (.iadd, 1) := by decide +kernel
theorem dX0_carryOut_101 : decode cX0_carryOut 101 = .ok (.iastore, 1) := by decide +kernel
theorem dX0_carryOut_102 : decode cX0_carryOut 102 = .ok (.goto 159, 3) := by decide +kernel
theorem dX0_carryOut_105 : decode cX0_carryOut 105 = .ok (.aload_n 0, 1) := by decide +kernel
theorem dX0_carryOut_106 : decode cX0_carryOut 106 = .ok (.getfield 59, 3) := by decide +kernel
theorem dX0_carryOut_109 : decode cX0_carryOut 109 = .ok (.iload 5, 2) := by decide +kernel
theorem dX0_carryOut_111 : decode cX0_carryOut 111 = .ok (.aload_n 0, 1) := by decide +kernel
theorem dX0_carryOut_112 : decode cX0_carryOut 112 = .ok (.getfield 59, 3) := by decide +kernel
theorem dX0_carryOut_115 : decode cX0_carryOut 115 = .ok (.iload 5, 2) := by decide +kernel
theorem dX0_carryOut_117 : decode cX0_carryOut 117 = .ok (.iaload, 1) := by decide +kernel
theorem dX0_carryOut_118 : decode cX0_carryOut 118 = .ok (.aload_n 0, 1) := by decide +kernel
theorem dX0_carryOut_119 : decode cX0_carryOut 119 = .ok (.getfield 59, 3) := by decide +kernel
theorem dX0_carryOut_122 : decode cX0_carryOut 122 = .ok (.iload 6, 2) := by decide +kernel
theorem dX0_carryOut_124 : decode cX0_carryOut 124 = .ok (.iaload, 1) := by decide +kernel
theorem dX0_carryOut_125 : decode cX0_carryOut 125 = .ok (.isub, 1) := by decide +kernel
theorem dX0_carryOut_126 : decode cX0_carryOut 126 = .ok (.iastore, 1) := by decide +kernel
theorem dX0_carryOut_127 : decode cX0_carryOut 127 = .ok (.goto 134, 3) := by decide +kernel
theorem dX0_carryOut_130 : decode cX0_carryOut 130 = .ok (.aload_n 0, 1) := by decide +kernel
theorem dX0_carryOut_131 : decode cX0_carryOut 131 = .ok (.getfield 59, 3) := by decide +kernel
theorem dX0_carryOut_134 : decode cX0_carryOut 134 = .ok (.iload 5, 2) := by decide +kernel
theorem dX0_carryOut_136 : decode cX0_carryOut 136 = .ok (.aload_n 0, 1) := by decide +kernel
theorem dX0_carryOut_137 : decode cX0_carryOut 137 = .ok (.getfield 59, 3) := by decide +kernel
theorem dX0_carryOut_140 : decode cX0_carryOut 140 = .ok (.iload 5, 2) := by decide +kernel
theorem dX0_carryOut_142 : decode cX0_carryOut 142 = .ok (.iaload, 1) := by decide +kernel
theorem dX0_carryOut_143 : decode cX0_carryOut 143 = .ok (.aload_n 0, 1) := by decide +kernel
theorem dX0_carryOut_144 : decode cX0_carryOut 144 = .ok (.getfield 59, 3) := by decide +kernel
theorem dX0_carryOut_147 : decode cX0_carryOut 147 = .ok (.iload 6, 2) := by decide +kernel
theorem dX0_carryOut_149 : decode cX0_carryOut 149 = .ok (.iaload, 1) := by decide +kernel
theorem dX0_carryOut_150 : decode cX0_carryOut 150 = .ok (.imul, 1) := by decide +kernel
theorem dX0_carryOut_151 : decode cX0_carryOut 151 = .ok (.iastore, 1) := by decide +kernel
theorem dX0_carryOut_152 : decode cX0_carryOut 152 = .ok (.goto 109, 3) := by decide +kernel
theorem dX0_carryOut_155 : decode cX0_carryOut 155 = .ok (.aload_n 0, 1) := by decide +kernel
theorem dX0_carryOut_156 : decode cX0_carryOut 156 = .ok (.getfield 59, 3) := by decide +kernel
theorem dX0_carryOut_159 : decode cX0_carryOut 159 = .ok (.iload 5, 2) := by decide +kernel
theorem dX0_carryOut_161 : decode cX0_carryOut 161 = .ok (.aload_n 0, 1) := by decide +kernel
theorem dX0_carryOut_162 : decode cX0_carryOut 162 = .ok (.getfield 59, 3) := by decide +kernel
theorem dX0_carryOut_165 : decode cX0_carryOut 165 = .ok (.iload 5, 2) := by decide +kernel
theorem dX0_carryOut_167 : decode cX0_carryOut 167 = .ok (.iaload, 1) := by decide +kernel
theorem dX0_carryOut_168 : decode cX0_carryOut 168 = .ok (.aload_n 0, 1) := by decide +kernel
theorem dX0_carryOut_169 : decode cX0_carryOut 169 = .ok (.getfield 59, 3) := by decide +kernel
theorem dX0_carryOut_172 : decode cX0_carryOut 172 = .ok (.iload 6, 2) := by decide +kernel
theorem dX0_carryOut_174 : decode cX0_carryOut 174 = .ok (.iaload, 1) := by decide +kernel
theorem dX0_carryOut_175 : decode cX0_carryOut 175 = .ok (.if_icmp .ge 13, 3) := by decide +kernel
theorem dX0_carryOut_178 : decode cX0_carryOut 178 = .ok (.aload_n 0, 1) := by decide +kernel
theorem dX0_carryOut_179 : decode cX0_carryOut 179 = .ok (.getfield 59, 3) := by decide +kernel
theorem dX0_carryOut_182 : decode cX0_carryOut 182 = .ok (.iload 5, 2) := by decide +kernel
theorem dX0_carryOut_184 : decode cX0_carryOut 184 = .ok (.iaload, 1) := by decide +kernel
theorem dX0_carryOut_185 : decode cX0_carryOut 185 = .ok (.goto 10, 3) := by decide +kernel
theorem dX0_carryOut_188 : decode cX0_carryOut 188 = .ok (.aload_n 0, 1) := by decide +kernel
theorem dX0_carryOut_189 : decode cX0_carryOut 189 = .ok (.getfield 59, 3) := by decide +kernel
theorem dX0_carryOut_192 : decode cX0_carryOut 192 = .ok (.iload 6, 2) := by decide +kernel
theorem dX0_carryOut_194 : decode cX0_carryOut 194 = .ok (.iaload, 1) := by decide +kernel
theorem dX0_carryOut_195 : decode cX0_carryOut 195 = .ok (.iastore, 1) := by decide +kernel
theorem dX0_carryOut_196 : decode cX0_carryOut 196 = .ok (.goto 65, 3) := by decide +kernel
theorem dX0_carryOut_199 : decode cX0_carryOut 199 = .ok (.aload_n 0, 1) := by decide +kernel
theorem dX0_carryOut_200 : decode cX0_carryOut 200 = .ok (.getfield 59, 3) := by decide +kernel
theorem dX0_carryOut_203 : decode cX0_carryOut 203 = .ok (.iload 5, 2) := by decide +kernel
theorem dX0_carryOut_205 : decode cX0_carryOut 205 = .ok (.iaload, 1) := by decide +kernel
theorem dX0_carryOut_206 : decode cX0_carryOut 206 = .ok (.aload_n 0, 1) := by decide +kernel
theorem dX0_carryOut_207 : decode cX0_carryOut 207 = .ok (.getfield 59, 3) := by decide +kernel
theorem dX0_carryOut_210 : decode cX0_carryOut 210 = .ok (.iload 6, 2) := by decide +kernel
theorem dX0_carryOut_212 : decode cX0_carryOut 212 = .ok (.iaload, 1) := by decide +kernel
theorem dX0_carryOut_213 : decode cX0_carryOut 213 = .ok (.if_icmp .ge 8, 3) := by decide +kernel
theorem dX0_carryOut_216 : decode cX0_carryOut 216 = .ok (.iload 4, 2) := by decide +kernel
theorem dX0_carryOut_218 : decode cX0_carryOut 218 = .ok (.goto 6, 3) := by decide +kernel
theorem dX0_carryOut_221 : decode cX0_carryOut 221 = .ok (.iload_n 2, 1) := by decide +kernel
theorem dX0_carryOut_222 : decode cX0_carryOut 222 = .ok (.iconst 1, 1) := by decide +kernel
theorem dX0_carryOut_223 : decode cX0_carryOut 223 = .ok (.iadd, 1) := by decide +kernel
theorem dX0_carryOut_224 : decode cX0_carryOut 224 = .ok (.ireturn, 1) := by decide +kernel
theorem dX0_carryOut_225 : decode cX0_carryOut 225 = .ok (.aload_n 0, 1) := by decide +kernel
theorem dX0_carryOut_226 : decode cX0_carryOut 226 = .ok (.getfield 59, 3) := by decide +kernel
theorem dX0_carryOut_229 : decode cX0_carryOut 229 = .ok (.iload 5, 2) := by decide +kernel
theorem dX0_carryOut_231 : decode cX0_carryOut 231 = .ok (.iaload, 1) := by decide +kernel
theorem dX0_carryOut_232 : decode cX0_carryOut 232 = .ok (.ifCond .ne 8, 3) := by decide +kernel
theorem dX0_carryOut_235 : decode cX0_carryOut 235 = .ok (.iload 4, 2) := by decide +kernel
theorem dX0_carryOut_237 : decode cX0_carryOut 237 = .ok (.goto 6, 3) := by decide +kernel
theorem dX0_carryOut_240 : decode cX0_carryOut 240 = .ok (.iload_n 2, 1) := by decide +kernel
theorem dX0_carryOut_241 : decode cX0_carryOut 241 = .ok (.iconst 1, 1) := by decide +kernel
theorem dX0_carryOut_242 : decode cX0_carryOut 242 = .ok (.iadd, 1) := by decide +kernel
theorem dX0_carryOut_243 : decode cX0_carryOut 243 = .ok (.ireturn, 1) := by decide +kernel
theorem dX0_carryOut_244 : decode cX0_carryOut 244 = .ok (.aload_n 0, 1) := by decide +kernel
theorem dX0_carryOut_245 : decode cX0_carryOut 245 = .ok (.getfield 59, 3) := by decide +kernel
theorem dX0_carryOut_248 : decode cX0_carryOut 248 = .ok (.iload 5, 2) := by decide +kernel
theorem dX0_carryOut_250 : decode cX0_carryOut 250 = .ok (.aload_n 0, 1) := by decide +kernel
theorem dX0_carryOut_251 : decode cX0_carryOut 251 = .ok (.getfield 59, 3) := by decide +kernel
theorem dX0_carryOut_254 : decode cX0_carryOut 254 = .ok (.iload 5, 2) := by decide +kernel
theorem dX0_carryOut_256 : decode cX0_carryOut 256 = .ok (.iaload, 1) := by decide +kernel
theorem dX0_carryOut_257 : decode cX0_carryOut 257 = .ok (.iload 4, 2) := by decide +kernel
theorem dX0_carryOut_259 : decode cX0_carryOut 259 = .ok (.iadd, 1) := by decide +kernel
theorem dX0_carryOut_260 : decode cX0_carryOut 260 = .ok (.iastore, 1) := by decide +kernel
theorem dX0_carryOut_261 : decode cX0_carryOut 261 = .ok (.iload_n 2, 1) := by decide +kernel
theorem dX0_carryOut_262 : decode cX0_carryOut 262 = .ok (.iconst 1, 1) := by decide +kernel
theorem dX0_carryOut_263 : decode cX0_carryOut 263 = .ok (.iadd, 1) := by decide +kernel
theorem dX0_carryOut_264 : decode cX0_carryOut 264 = .ok (.ireturn, 1) := by decide +kernel
theorem dX0_mutateOp_0 : decode cX0_mutateOp 0 = .ok (.iload_n 1, 1) := by decide +kernel
theorem dX0_mutateOp_1 : decode cX0_mutateOp 1 = .ok (.ifCond .lt 11, 3) := by decide +kernel
theorem dX0_mutateOp_4 : decode cX0_mutateOp 4 = .ok (.iload_n 1, 1) := by decide +kernel
theorem dX0_mutateOp_5 : decode cX0_mutateOp 5 = .ok (.aload_n 0, 1) := by decide +kernel
theorem dX0_mutateOp_6 : decode cX0_mutateOp 6 = .ok (.getfield 71, 3) := by decide +kernel
theorem dX0_mutateOp_9 : decode cX0_mutateOp 9 = .ok (.if_icmp .lt 6, 3) := by decide +kernel
theorem dX0_mutateOp_12 : decode cX0_mutateOp 12 = .ok (.bipush (-3), 2) := by decide +kernel
theorem dX0_mutateOp_14 : decode cX0_mutateOp 14 = .ok (.ireturn, 1) := by decide +kernel
theorem dX0_mutateOp_15 : decode cX0_mutateOp 15 = .ok (.iload_n 2, 1) := by decide +kernel
theorem dX0_mutateOp_16 : decode cX0_mutateOp 16 = .ok (.ifCond .lt 9, 3) := by decide +kernel
theorem dX0_mutateOp_19 : decode cX0_mutateOp 19 = .ok (.iload_n 2, 1) := by decide +kernel
theorem dX0_mutateOp_20 : decode cX0_mutateOp 20 = .ok (.bipush 7, 2) := by decide +kernel
theorem dX0_mutateOp_22 : decode cX0_mutateOp 22 = .ok (.if_icmp .le 5, 3) := by decide +kernel
theorem dX0_mutateOp_25 : decode cX0_mutateOp 25 = .ok (.iconst (-1), 1) := by decide +kernel
theorem dX0_mutateOp_26 : decode cX0_mutateOp 26 = .ok (.ireturn, 1) := by decide +kernel
theorem dX0_mutateOp_27 : decode cX0_mutateOp 27 = .ok (.aload_n 0, 1) := by decide +kernel
theorem dX0_mutateOp_28 : decode cX0_mutateOp 28 = .ok (.iload_n 1, 1) := by decide +kernel
theorem dX0_mutateOp_29 : decode cX0_mutateOp 29 = .ok (.iconst 1, 1) := by decide +kernel
theorem dX0_mutateOp_30 : decode cX0_mutateOp 30 = .ok (.iload_n 2, 1) := by decide +kernel
theorem dX0_mutateOp_31 : decode cX0_mutateOp 31 = .ok (.invokevirtual 93, 3) := by decide +kernel
theorem dX0_mutateOp_34 : decode cX0_mutateOp 34 = .ok (.ireturn, 1) := by decide +kernel
theorem dX0_addMutant_0 : decode cX0_addMutant 0 = .ok (.aload_n 0, 1) := by decide +kernel
theorem dX0_addMutant_1 : decode cX0_addMutant 1 = .ok (.getfield 90, 3) := by decide +kernel
theorem dX0_addMutant_4 : decode cX0_addMutant 4 = .ok (.bipush 24, 2) := by decide +kernel
theorem dX0_addMutant_6 : decode cX0_addMutant 6 = .ok (.if_icmp .lt 6, 3) := by decide +kernel
theorem dX0_addMutant_9 : decode cX0_addMutant 9 = .ok (.bipush (-2), 2) := by decide +kernel
theorem dX0_addMutant_11 : decode cX0_addMutant 11 = .ok (.ireturn, 1) := by decide +kernel
theorem dX0_addMutant_12 : decode cX0_addMutant 12 = .ok (.aload_n 0, 1) := by decide +kernel
theorem dX0_addMutant_13 : decode cX0_addMutant 13 = .ok (.getfield 90, 3) := by decide +kernel
theorem dX0_addMutant_16 : decode cX0_addMutant 16 = .ok (.istore 4, 2) := by decide +kernel
theorem dX0_addMutant_18 : decode cX0_addMutant 18 = .ok (.aload_n 0, 1) := by decide +kernel
theorem dX0_addMutant_19 : decode cX0_addMutant 19 = .ok (.getfield 32, 3) := by decide +kernel
theorem dX0_addMutant_22 : decode cX0_addMutant 22 = .ok (.iload 4, 2) := by decide +kernel
theorem dX0_addMutant_24 : decode cX0_addMutant 24 = .ok (.iload_n 1, 1) := by decide +kernel
theorem dX0_addMutant_25 : decode cX0_addMutant 25 = .ok (.iastore, 1) := by decide +kernel
theorem dX0_addMutant_26 : decode cX0_addMutant 26 = .ok (.aload_n 0, 1) := by decide +kernel
theorem dX0_addMutant_27 : decode cX0_addMutant 27 = .ok (.getfield 35, 3) := by decide +kernel
theorem dX0_addMutant_30 : decode cX0_addMutant 30 = .ok (.iload 4, 2) := by decide +kernel
theorem dX0_addMutant_32 : decode cX0_addMutant 32 = .ok (.iload_n 2, 1) := by decide +kernel
theorem dX0_addMutant_33 : decode cX0_addMutant 33 = .ok (.bastore, 1) := by decide +kernel
theorem dX0_addMutant_34 : decode cX0_addMutant 34 = .ok (.aload_n 0, 1) := by decide +kernel
theorem dX0_addMutant_35 : decode cX0_addMutant 35 = .ok (.getfield 38, 3) := by decide +kernel
theorem dX0_addMutant_38 : decode cX0_addMutant 38 = .ok (.iload 4, 2) := by decide +kernel
theorem dX0_addMutant_40 : decode cX0_addMutant 40 = .ok (.iload_n 3, 1) := by decide +kernel
theorem dX0_addMutant_41 : decode cX0_addMutant 41 = .ok (.iastore, 1) := by decide +kernel
theorem dX0_addMutant_42 : decode cX0_addMutant 42 = .ok (.aload_n 0, 1) := by decide +kernel
theorem dX0_addMutant_43 : decode cX0_addMutant 43 = .ok (.dup, 1) := by decide +kernel
theorem dX0_addMutant_44 : decode cX0_addMutant 44 = .ok (.getfield 90, 3) := by decide +kernel
theorem dX0_addMutant_47 : decode cX0_addMutant 47 = .ok (.iconst 1, 1) := by decide +kernel
theorem dX0_addMutant_48 : decode cX0_addMutant 48 = .ok (.iadd, 1) := by decide +kernel
theorem dX0_addMutant_49 : decode cX0_addMutant 49 = .ok (.putfield 90, 3) := by decide +kernel
theorem dX0_addMutant_52 : decode cX0_addMutant 52 = .ok (.aload_n 0, 1) := by decide +kernel
theorem dX0_addMutant_53 : decode cX0_addMutant 53 = .ok (.iconst 0, 1) := by decide +kernel
theorem dX0_addMutant_54 : decode cX0_addMutant 54 = .ok (.putfield 75, 3) := by decide +kernel
theorem dX0_addMutant_57 : decode cX0_addMutant 57 = .ok (.iload 4, 2) := by decide +kernel
theorem dX0_addMutant_59 : decode cX0_addMutant 59 = .ok (.ireturn, 1) := by decide +kernel
theorem dX0_mutateC_0 : decode cX0_mutateC 0 = .ok (.iload_n 1, 1) := by decide +kernel
theorem dX0_mutateC_1 : decode cX0_mutateC 1 = .ok (.ifCond .lt 11, 3) := by decide +kernel
theorem dX0_mutateC_4 : decode cX0_mutateC 4 = .ok (.iload_n 1, 1) := by decide +kernel
theorem dX0_mutateC_5 : decode cX0_mutateC 5 = .ok (.aload_n 0, 1) := by decide +kernel
theorem dX0_mutateC_6 : decode cX0_mutateC 6 = .ok (.getfield 71, 3) := by decide +kernel
theorem dX0_mutateC_9 : decode cX0_mutateC 9 = .ok (.if_icmp .lt 6, 3) := by decide +kernel
theorem dX0_mutateC_12 : decode cX0_mutateC 12 = .ok (.bipush (-3), 2) := by decide +kernel
theorem dX0_mutateC_14 : decode cX0_mutateC 14 = .ok (.ireturn, 1) := by decide +kernel
theorem dX0_mutateC_15 : decode cX0_mutateC 15 = .ok (.aload_n 0, 1) := by decide +kernel
theorem dX0_mutateC_16 : decode cX0_mutateC 16 = .ok (.iload_n 1, 1) := by decide +kernel
theorem dX0_mutateC_17 : decode cX0_mutateC 17 = .ok (.iconst 0, 1) := by decide +kernel
theorem dX0_mutateC_18 : decode cX0_mutateC 18 = .ok (.iload_n 2, 1) := by decide +kernel
theorem dX0_mutateC_19 : decode cX0_mutateC 19 = .ok (.invokevirtual 93, 3) := by decide +kernel
theorem dX0_mutateC_22 : decode cX0_mutateC 22 = .ok (.ireturn, 1) := by decide +kernel
theorem dX0_clear_0 : decode cX0_clear 0 = .ok (.aload_n 0, 1) := by decide +kernel
theorem dX0_clear_1 : decode cX0_clear 1 = .ok (.iconst 0, 1) := by decide +kernel
theorem dX0_clear_2 : decode cX0_clear 2 = .ok (.putfield 79, 3) := by decide +kernel
theorem dX0_clear_5 : decode cX0_clear 5 = .ok (.aload_n 0, 1) := by decide +kernel
theorem dX0_clear_6 : decode cX0_clear 6 = .ok (.iconst 0, 1) := by decide +kernel
theorem dX0_clear_7 : decode cX0_clear 7 = .ok (.putfield 90, 3) := by decide +kernel
theorem dX0_clear_10 : decode cX0_clear 10 = .ok (.aload_n 0, 1) := by decide +kernel
theorem dX0_clear_11 : decode cX0_clear 11 = .ok (.iconst 0, 1) := by decide +kernel
theorem dX0_clear_12 : decode cX0_clear 12 = .ok (.putfield 75, 3) := by decide +kernel
theorem dX0_clear_15 : decode cX0_clear 15 = .ok (.return_, 1) := by decide +kernel
theorem dX0_passes_0 : decode cX0_passes 0 = .ok (.iload_n 1, 1) := by decide +kernel
theorem dX0_passes_1 : decode cX0_passes 1 = .ok (.ifCond .lt 11, 3) := by decide +kernel
theorem dX0_passes_4 : decode cX0_passes 4 = .ok (.iload_n 1, 1) := by decide +kernel
theorem dX0_passes_5 : decode cX0_passes 5 = .ok (.aload_n 0, 1) := by decide +kernel
theorem dX0_passes_6 : decode cX0_passes 6 = .ok (.getfield 79, 3) := by decide +kernel
theorem dX0_passes_9 : decode cX0_passes 9 = .ok (.if_icmp .lt 5, 3) := by decide +kernel
theorem dX0_passes_12 : decode cX0_passes 12 = .ok (.iconst 0, 1) := by decide +kernel
theorem dX0_passes_13 : decode cX0_passes 13 = .ok (.ireturn, 1) := by decide +kernel
theorem dX0_passes_14 : decode cX0_passes 14 = .ok (.aload_n 0, 1) := by decide +kernel
theorem dX0_passes_15 : decode cX0_passes 15 = .ok (.invokevirtual 125, 3) := by decide +kernel
theorem dX0_passes_18 : decode cX0_passes 18 = .ok (.aload_n 0, 1) := by decide +kernel
theorem dX0_passes_19 : decode cX0_passes 19 = .ok (.getfield 41, 3) := by decide +kernel
theorem dX0_passes_22 : decode cX0_passes 22 = .ok (.iload_n 1, 1) := by decide +kernel
theorem dX0_passes_23 : decode cX0_passes 23 = .ok (.baload, 1) := by decide +kernel
theorem dX0_passes_24 : decode cX0_passes 24 = .ok (.aload_n 0, 1) := by decide +kernel
theorem dX0_passes_25 : decode cX0_passes 25 = .ok (.getfield 25, 3) := by decide +kernel
theorem dX0_passes_28 : decode cX0_passes 28 = .ok (.iload_n 1, 1) := by decide +kernel
theorem dX0_passes_29 : decode cX0_passes 29 = .ok (.baload, 1) := by decide +kernel
theorem dX0_passes_30 : decode cX0_passes 30 = .ok (.if_icmp .eq 5, 3) := by decide +kernel
theorem dX0_passes_33 : decode cX0_passes 33 = .ok (.iconst 0, 1) := by decide +kernel
theorem dX0_passes_34 : decode cX0_passes 34 = .ok (.ireturn, 1) := by decide +kernel
theorem dX0_passes_35 : decode cX0_passes 35 = .ok (.aload_n 0, 1) := by decide +kernel
theorem dX0_passes_36 : decode cX0_passes 36 = .ok (.getfield 41, 3) := by decide +kernel
theorem dX0_passes_39 : decode cX0_passes 39 = .ok (.iload_n 1, 1) := by decide +kernel
theorem dX0_passes_40 : decode cX0_passes 40 = .ok (.baload, 1) := by decide +kernel
theorem dX0_passes_41 : decode cX0_passes 41 = .ok (.ifCond .eq 18, 3) := by decide +kernel
theorem dX0_passes_44 : decode cX0_passes 44 = .ok (.aload_n 0, 1) := by decide +kernel
theorem dX0_passes_45 : decode cX0_passes 45 = .ok (.getfield 44, 3) := by decide +kernel
theorem dX0_passes_48 : decode cX0_passes 48 = .ok (.iload_n 1, 1) := by decide +kernel
theorem dX0_passes_49 : decode cX0_passes 49 = .ok (.iaload, 1) := by decide +kernel
theorem dX0_passes_50 : decode cX0_passes 50 = .ok (.aload_n 0, 1) := by decide +kernel
theorem dX0_passes_51 : decode cX0_passes 51 = .ok (.getfield 29, 3) := by decide +kernel
theorem dX0_passes_54 : decode cX0_passes 54 = .ok (.iload_n 1, 1) := by decide +kernel
theorem dX0_passes_55 : decode cX0_passes 55 = .ok (.iaload, 1) := by decide +kernel
theorem dX0_passes_56 : decode cX0_passes 56 = .ok (.if_icmp .ne 7, 3) := by decide +kernel
theorem dX0_passes_59 : decode cX0_passes 59 = .ok (.iconst 1, 1) := by decide +kernel
theorem dX0_passes_60 : decode cX0_passes 60 = .ok (.goto 4, 3) := by decide +kernel
theorem dX0_passes_63 : decode cX0_passes 63 = .ok (.iconst 0, 1) := by decide +kernel
theorem dX0_passes_64 : decode cX0_passes 64 = .ok (.ireturn, 1) := by decide +kernel
theorem dX0_prepare_0 : decode cX0_prepare 0 = .ok (.aload_n 0, 1) := by decide +kernel
theorem dX0_prepare_1 : decode cX0_prepare 1 = .ok (.getfield 75, 3) := by decide +kernel
theorem dX0_prepare_4 : decode cX0_prepare 4 = .ok (.ifCond .eq 4, 3) := by decide +kernel
theorem dX0_prepare_7 : decode cX0_prepare 7 = .ok (.return_, 1) := by decide +kernel
theorem dX0_prepare_8 : decode cX0_prepare 8 = .ok (.aload_n 0, 1) := by decide +kernel
theorem dX0_prepare_9 : decode cX0_prepare 9 = .ok (.iconst 1, 1) := by decide +kernel
theorem dX0_prepare_10 : decode cX0_prepare 10 = .ok (.putfield 75, 3) := by decide +kernel
theorem dX0_prepare_13 : decode cX0_prepare 13 = .ok (.iconst 0, 1) := by decide +kernel
theorem dX0_prepare_14 : decode cX0_prepare 14 = .ok (.istore_n 1, 1) := by decide +kernel
theorem dX0_prepare_15 : decode cX0_prepare 15 = .ok (.iload_n 1, 1) := by decide +kernel
theorem dX0_prepare_16 : decode cX0_prepare 16 = .ok (.aload_n 0, 1) := by decide +kernel
theorem dX0_prepare_17 : decode cX0_prepare 17 = .ok (.getfield 79, 3) := by decide +kernel
theorem dX0_prepare_20 : decode cX0_prepare 20 = .ok (.if_icmp .ge 14, 3) := by decide +kernel
theorem dX0_prepare_23 : decode cX0_prepare 23 = .ok (.aload_n 0, 1) := by decide +kernel
theorem dX0_prepare_24 : decode cX0_prepare 24 = .ok (.iload_n 1, 1) := by decide +kernel
theorem dX0_prepare_25 : decode cX0_prepare 25 = .ok (.invokevirtual 121, 3) := by decide +kernel
theorem dX0_prepare_28 : decode cX0_prepare 28 = .ok (.iinc 1 1, 3) := by decide +kernel
theorem dX0_prepare_31 : decode cX0_prepare 31 = .ok (.goto (-16), 3) := by decide +kernel
theorem dX0_prepare_34 : decode cX0_prepare 34 = .ok (.return_, 1) := by decide +kernel
theorem dX0_runTest_0 : decode cX0_runTest 0 = .ok (.aload_n 0, 1) := by decide +kernel
theorem dX0_runTest_1 : decode cX0_runTest 1 = .ok (.getfield 59, 3) := by decide +kernel
theorem dX0_runTest_4 : decode cX0_runTest 4 = .ok (.iconst 0, 1) := by decide +kernel
theorem dX0_runTest_5 : decode cX0_runTest 5 = .ok (.aload_n 0, 1) := by decide +kernel
theorem dX0_runTest_6 : decode cX0_runTest 6 = .ok (.getfield 19, 3) := by decide +kernel
theorem dX0_runTest_9 : decode cX0_runTest 9 = .ok (.iload_n 1, 1) := by decide +kernel
theorem dX0_runTest_10 : decode cX0_runTest 10 = .ok (.iaload, 1) := by decide +kernel
theorem dX0_runTest_11 : decode cX0_runTest 11 = .ok (.iastore, 1) := by decide +kernel
theorem dX0_runTest_12 : decode cX0_runTest 12 = .ok (.aload_n 0, 1) := by decide +kernel
theorem dX0_runTest_13 : decode cX0_runTest 13 = .ok (.getfield 59, 3) := by decide +kernel
theorem dX0_runTest_16 : decode cX0_runTest 16 = .ok (.iconst 1, 1) := by decide +kernel
theorem dX0_runTest_17 : decode cX0_runTest 17 = .ok (.aload_n 0, 1) := by decide +kernel
theorem dX0_runTest_18 : decode cX0_runTest 18 = .ok (.getfield 22, 3) := by decide +kernel
theorem dX0_runTest_21 : decode cX0_runTest 21 = .ok (.iload_n 1, 1) := by decide +kernel
theorem dX0_runTest_22 : decode cX0_runTest 22 = .ok (.iaload, 1) := by decide +kernel
theorem dX0_runTest_23 : decode cX0_runTest 23 = .ok (.iastore, 1) := by decide +kernel
theorem dX0_runTest_24 : decode cX0_runTest 24 = .ok (.aload_n 0, 1) := by decide +kernel
theorem dX0_runTest_25 : decode cX0_runTest 25 = .ok (.getfield 59, 3) := by decide +kernel
theorem dX0_runTest_28 : decode cX0_runTest 28 = .ok (.iconst 2, 1) := by decide +kernel
theorem dX0_runTest_29 : decode cX0_runTest 29 = .ok (.iconst 0, 1) := by decide +kernel
theorem dX0_runTest_30 : decode cX0_runTest 30 = .ok (.iastore, 1) := by decide +kernel
theorem dX0_runTest_31 : decode cX0_runTest 31 = .ok (.aload_n 0, 1) := by decide +kernel
theorem dX0_runTest_32 : decode cX0_runTest 32 = .ok (.getfield 59, 3) := by decide +kernel
theorem dX0_runTest_35 : decode cX0_runTest 35 = .ok (.iconst 3, 1) := by decide +kernel
theorem dX0_runTest_36 : decode cX0_runTest 36 = .ok (.iconst 0, 1) := by decide +kernel
theorem dX0_runTest_37 : decode cX0_runTest 37 = .ok (.iastore, 1) := by decide +kernel
theorem dX0_runTest_38 : decode cX0_runTest 38 = .ok (.iconst 0, 1) := by decide +kernel
theorem dX0_runTest_39 : decode cX0_runTest 39 = .ok (.istore_n 2, 1) := by decide +kernel
theorem dX0_runTest_40 : decode cX0_runTest 40 = .ok (.iconst 0, 1) := by decide +kernel
theorem dX0_runTest_41 : decode cX0_runTest 41 = .ok (.istore_n 3, 1) := by decide +kernel
theorem dX0_runTest_42 : decode cX0_runTest 42 = .ok (.iconst 0, 1) := by decide +kernel
theorem dX0_runTest_43 : decode cX0_runTest 43 = .ok (.istore 4, 2) := by decide +kernel
theorem dX0_runTest_45 : decode cX0_runTest 45 = .ok (.iload 4, 2) := by decide +kernel
theorem dX0_runTest_47 : decode cX0_runTest 47 = .ok (.bipush 100, 2) := by decide +kernel
theorem dX0_runTest_49 : decode cX0_runTest 49 = .ok (.if_icmp .ge 62, 3) := by decide +kernel
theorem dX0_runTest_52 : decode cX0_runTest 52 = .ok (.iload_n 3, 1) := by decide +kernel
theorem dX0_runTest_53 : decode cX0_runTest 53 = .ok (.ifCond .lt 58, 3) := by decide +kernel
theorem dX0_runTest_56 : decode cX0_runTest 56 = .ok (.iload_n 3, 1) := by decide +kernel
theorem dX0_runTest_57 : decode cX0_runTest 57 = .ok (.aload_n 0, 1) := by decide +kernel
theorem dX0_runTest_58 : decode cX0_runTest 58 = .ok (.getfield 71, 3) := by decide +kernel
theorem dX0_runTest_61 : decode cX0_runTest 61 = .ok (.if_icmp .ge 50, 3) := by decide +kernel
theorem dX0_runTest_64 : decode cX0_runTest 64 = .ok (.iload_n 2, 1) := by decide +kernel
theorem dX0_runTest_65 : decode cX0_runTest 65 = .ok (.iload_n 3, 1) := by decide +kernel
theorem dX0_runTest_66 : decode cX0_runTest 66 = .ok (.ishr, 1) := by decide +kernel
theorem dX0_runTest_67 : decode cX0_runTest 67 = .ok (.iconst 1, 1) := by decide +kernel
theorem dX0_runTest_68 : decode cX0_runTest 68 = .ok (.iand, 1) := by decide +kernel
theorem dX0_runTest_69 : decode cX0_runTest 69 = .ok (.ifCond .ne 11, 3) := by decide +kernel
theorem dX0_runTest_72 : decode cX0_runTest 72 = .ok (.aload_n 0, 1) := by decide +kernel
theorem dX0_runTest_73 : decode cX0_runTest 73 = .ok (.iload_n 1, 1) := by decide +kernel
theorem dX0_runTest_74 : decode cX0_runTest 74 = .ok (.iload_n 3, 1) := by decide +kernel
theorem dX0_runTest_75 : decode cX0_runTest 75 = .ok (.iload 4, 2) := by decide +kernel
theorem dX0_runTest_77 : decode cX0_runTest 77 = .ok (.invokevirtual 114, 3) := by decide +kernel
theorem dX0_runTest_80 : decode cX0_runTest 80 = .ok (.iload_n 2, 1) := by decide +kernel
theorem dX0_runTest_81 : decode cX0_runTest 81 = .ok (.iconst 1, 1) := by decide +kernel
theorem dX0_runTest_82 : decode cX0_runTest 82 = .ok (.iload_n 3, 1) := by decide +kernel
theorem dX0_runTest_83 : decode cX0_runTest 83 = .ok (.ishl, 1) := by decide +kernel
theorem dX0_runTest_84 : decode cX0_runTest 84 = .ok (.ior, 1) := by decide +kernel
theorem dX0_runTest_85 : decode cX0_runTest 85 = .ok (.istore_n 2, 1) := by decide +kernel
theorem dX0_runTest_86 : decode cX0_runTest 86 = .ok (.aload_n 0, 1) := by decide +kernel
theorem dX0_runTest_87 : decode cX0_runTest 87 = .ok (.iconst 0, 1) := by decide +kernel
theorem dX0_runTest_88 : decode cX0_runTest 88 = .ok (.iload_n 3, 1) := by decide +kernel
theorem dX0_runTest_89 : decode cX0_runTest 89 = .ok (.aload_n 0, 1) := by decide +kernel
theorem dX0_runTest_90 : decode cX0_runTest 90 = .ok (.getfield 7, 3) := by decide +kernel
theorem dX0_runTest_93 : decode cX0_runTest 93 = .ok (.iload_n 3, 1) := by decide +kernel
theorem dX0_runTest_94 : decode cX0_runTest 94 = .ok (.iaload, 1) := by decide +kernel
theorem dX0_runTest_95 : decode cX0_runTest 95 = .ok (.aload_n 0, 1) := by decide +kernel
theorem dX0_runTest_96 : decode cX0_runTest 96 = .ok (.getfield 16, 3) := by decide +kernel
theorem dX0_runTest_99 : decode cX0_runTest 99 = .ok (.iload_n 3, 1) := by decide +kernel
theorem dX0_runTest_100 : decode cX0_runTest 100 = .ok (.iaload, 1) := by decide +kernel
theorem dX0_runTest_101 : decode cX0_runTest 101 = .ok (.invokevirtual 86, 3) := by decide +kernel
theorem dX0_runTest_104 : decode cX0_runTest 104 = .ok (.istore_n 3, 1) := by decide +kernel
theorem dX0_runTest_105 : decode cX0_runTest 105 = .ok (.iinc 4 1, 3) := by decide +kernel
theorem dX0_runTest_108 : decode cX0_runTest 108 = .ok (.goto (-63), 3) := by decide +kernel
theorem dX0_runTest_111 : decode cX0_runTest 111 = .ok (.aload_n 0, 1) := by decide +kernel
theorem dX0_runTest_112 : decode cX0_runTest 112 = .ok (.getfield 41, 3) := by decide +kernel
theorem dX0_runTest_115 : decode cX0_runTest 115 = .ok (.iload_n 1, 1) := by decide +kernel
theorem dX0_runTest_116 : decode cX0_runTest 116 = .ok (.iload_n 3, 1) := by decide +kernel
theorem dX0_runTest_117 : decode cX0_runTest 117 = .ok (.ifCond .lt 11, 3) := by decide +kernel
theorem dX0_runTest_120 : decode cX0_runTest 120 = .ok (.iload_n 3, 1) := by decide +kernel
theorem dX0_runTest_121 : decode cX0_runTest 121 = .ok (.aload_n 0, 1) := by decide +kernel
theorem dX0_runTest_122 : decode cX0_runTest 122 = .ok (.getfield 71, 3) := by decide +kernel
theorem dX0_runTest_125 : decode cX0_runTest 125 = .ok (.if_icmp .lt 7, 3) := by decide +kernel
theorem dX0_runTest_128 : decode cX0_runTest 128 = .ok (.iconst 1, 1) := by decide +kernel
theorem dX0_runTest_129 : decode cX0_runTest 129 = .ok (.goto 4, 3) := by decide +kernel
theorem dX0_runTest_132 : decode cX0_runTest 132 = .ok (.iconst 0, 1) := by decide +kernel
theorem dX0_runTest_133 : decode cX0_runTest 133 = .ok (.bastore, 1) := by decide +kernel
theorem dX0_runTest_134 : decode cX0_runTest 134 = .ok (.aload_n 0, 1) := by decide +kernel
theorem dX0_runTest_135 : decode cX0_runTest 135 = .ok (.getfield 44, 3) := by decide +kernel
theorem dX0_runTest_138 : decode cX0_runTest 138 = .ok (.iload_n 1, 1) := by decide +kernel
theorem dX0_runTest_139 : decode cX0_runTest 139 = .ok (.aload_n 0, 1) := by decide +kernel
theorem dX0_runTest_140 : decode cX0_runTest 140 = .ok (.getfield 41, 3) := by decide +kernel
theorem dX0_runTest_143 : decode cX0_runTest 143 = .ok (.iload_n 1, 1) := by decide +kernel
theorem dX0_runTest_144 : decode cX0_runTest 144 = .ok (.baload, 1) := by decide +kernel
theorem dX0_runTest_145 : decode cX0_runTest 145 = .ok (.ifCond .eq 12, 3) := by decide +kernel
theorem dX0_runTest_148 : decode cX0_runTest 148 = .ok (.aload_n 0, 1) := by decide +kernel
theorem dX0_runTest_149 : decode cX0_runTest 149 = .ok (.getfield 59, 3) := by decide +kernel
theorem dX0_runTest_152 : decode cX0_runTest 152 = .ok (.iconst 0, 1) := by decide +kernel
theorem dX0_runTest_153 : decode cX0_runTest 153 = .ok (.iaload, 1) := by decide +kernel
theorem dX0_runTest_154 : decode cX0_runTest 154 = .ok (.goto 4, 3) := by decide +kernel
theorem dX0_runTest_157 : decode cX0_runTest 157 = .ok (.iconst 0, 1) := by decide +kernel
theorem dX0_runTest_158 : decode cX0_runTest 158 = .ok (.iastore, 1) := by decide +kernel
theorem dX0_runTest_159 : decode cX0_runTest 159 = .ok (.aload_n 0, 1) := by decide +kernel
theorem dX0_runTest_160 : decode cX0_runTest 160 = .ok (.getfield 47, 3) := by decide +kernel
theorem dX0_runTest_163 : decode cX0_runTest 163 = .ok (.iload_n 1, 1) := by decide +kernel
theorem dX0_runTest_164 : decode cX0_runTest 164 = .ok (.iload 4, 2) := by decide +kernel
theorem dX0_runTest_166 : decode cX0_runTest 166 = .ok (.iastore, 1) := by decide +kernel
theorem dX0_runTest_167 : decode cX0_runTest 167 = .ok (.iconst 0, 1) := by decide +kernel
theorem dX0_runTest_168 : decode cX0_runTest 168 = .ok (.istore 5, 2) := by decide +kernel
theorem dX0_runTest_170 : decode cX0_runTest 170 = .ok (.iload 5, 2) := by decide +kernel
theorem dX0_runTest_172 : decode cX0_runTest 172 = .ok (.aload_n 0, 1) := by decide +kernel
theorem dX0_runTest_173 : decode cX0_runTest 173 = .ok (.getfield 90, 3) := by decide +kernel
theorem dX0_runTest_176 : decode cX0_runTest 176 = .ok (.if_icmp .ge 30, 3) := by decide +kernel
theorem dX0_runTest_179 : decode cX0_runTest 179 = .ok (.iload_n 2, 1) := by decide +kernel
theorem dX0_runTest_180 : decode cX0_runTest 180 = .ok (.aload_n 0, 1) := by decide +kernel
theorem dX0_runTest_181 : decode cX0_runTest 181 = .ok (.getfield 32, 3) := by decide +kernel
theorem dX0_runTest_184 : decode cX0_runTest 184 = .ok (.iload 5, 2) := by decide +kernel
theorem dX0_runTest_186 : decode cX0_runTest 186 = .ok (.iaload, 1) := by decide +kernel
theorem dX0_runTest_187 : decode cX0_runTest 187 = .ok (.ishr, 1) := by decide +kernel
theorem dX0_runTest_188 : decode cX0_runTest 188 = .ok (.iconst 1, 1) := by decide +kernel
theorem dX0_runTest_189 : decode cX0_runTest 189 = .ok (.iand, 1) := by decide +kernel
theorem dX0_runTest_190 : decode cX0_runTest 190 = .ok (.ifCond .ne 10, 3) := by decide +kernel
theorem dX0_runTest_193 : decode cX0_runTest 193 = .ok (.aload_n 0, 1) := by decide +kernel
theorem dX0_runTest_194 : decode cX0_runTest 194 = .ok (.iload_n 1, 1) := by decide +kernel
theorem dX0_runTest_195 : decode cX0_runTest 195 = .ok (.iload 5, 2) := by decide +kernel
theorem dX0_runTest_197 : decode cX0_runTest 197 = .ok (.invokevirtual 117, 3) := by decide +kernel
theorem dX0_runTest_200 : decode cX0_runTest 200 = .ok (.iinc 5 1, 3) := by decide +kernel
theorem dX0_runTest_203 : decode cX0_runTest 203 = .ok (.goto (-33), 3) := by decide +kernel
theorem dX0_runTest_206 : decode cX0_runTest 206 = .ok (.return_, 1) := by decide +kernel
end
section
set_option maxRecDepth 100000
theorem dX0_splitAll_0 : decode cX0_splitAll 0 = .ok (.iconst 0, 1) := by decide +kernel
theorem dX0_splitAll_1 : decode cX0_splitAll 1 = .ok (.istore 4, 2) := by decide +kernel
theorem dX0_splitAll_3 : decode cX0_splitAll 3 = .ok (.iload 4, 2) := by decide +kernel
theorem dX0_splitAll_5 : decode cX0_splitAll 5 = .ok (.aload_n 0, 1) := by decide +kernel
theorem dX0_splitAll_6 : decode cX0_splitAll 6 = .ok (.getfield 90, 3) := by decide +kernel
theorem dX0_splitAll_9 : decode cX0_splitAll 9 = .ok (.if_icmp .ge 28, 3) := by decide +kernel
theorem dX0_splitAll_12 : decode cX0_splitAll 12 = .ok (.aload_n 0, 1) := by decide +kernel
theorem dX0_splitAll_13 : decode cX0_splitAll 13 = .ok (.getfield 32, 3) := by decide +kernel
theorem dX0_splitAll_16 : decode cX0_splitAll 16 = .ok (.iload 4, 2) := by decide +kernel
theorem dX0_splitAll_18 : decode cX0_splitAll 18 = .ok (.iaload, 1) := by decide +kernel
theorem dX0_splitAll_19 : decode cX0_splitAll 19 = .ok (.iload_n 2, 1) := by decide +kernel
theorem dX0_splitAll_20 : decode cX0_splitAll 20 = .ok (.if_icmp .ne 11, 3) := by decide +kernel
theorem dX0_splitAll_23 : decode cX0_splitAll 23 = .ok (.aload_n 0, 1) := by decide +kernel
theorem dX0_splitAll_24 : decode cX0_splitAll 24 = .ok (.iload_n 1, 1) := by decide +kernel
theorem dX0_splitAll_25 : decode cX0_splitAll 25 = .ok (.iload 4, 2) := by decide +kernel
theorem dX0_splitAll_27 : decode cX0_splitAll 27 = .ok (.iload_n 3, 1) := by decide +kernel
theorem dX0_splitAll_28 : decode cX0_splitAll 28 = .ok (.invokevirtual 110, 3) := by decide +kernel
theorem dX0_splitAll_31 : decode cX0_splitAll 31 = .ok (.iinc 4 1, 3) := by decide +kernel
theorem dX0_splitAll_34 : decode cX0_splitAll 34 = .ok (.goto (-31), 3) := by decide +kernel
theorem dX0_splitAll_37 : decode cX0_splitAll 37 = .ok (.return_, 1) := by decide +kernel
theorem dX0_split_0 : decode cX0_split 0 = .ok (.iconst 0, 1) := by decide +kernel
theorem dX0_split_1 : decode cX0_split 1 = .ok (.istore 4, 2) := by decide +kernel
theorem dX0_split_3 : decode cX0_split 3 = .ok (.iload 4, 2) := by decide +kernel
theorem dX0_split_5 : decode cX0_split 5 = .ok (.iconst 4, 1) := by decide +kernel
theorem dX0_split_6 : decode cX0_split 6 = .ok (.if_icmp .ge 25, 3) := by decide +kernel
theorem dX0_split_9 : decode cX0_split 9 = .ok (.aload_n 0, 1) := by decide +kernel
theorem dX0_split_10 : decode cX0_split 10 = .ok (.getfield 59, 3) := by decide +kernel
theorem dX0_split_13 : decode cX0_split 13 = .ok (.iconst 4, 1) := by decide +kernel
theorem dX0_split_14 : decode cX0_split 14 = .ok (.iload 4, 2) := by decide +kernel
theorem dX0_split_16 : decode cX0_split 16 = .ok (.iadd, 1) := by decide +kernel
theorem dX0_split_17 : decode cX0_split 17 = .ok (.aload_n 0, 1) := by decide +kernel
theorem dX0_split_18 : decode cX0_split 18 = .ok (.getfield 59, 3) := by decide +kernel
theorem dX0_split_21 : decode cX0_split 21 = .ok (.iload 4, 2) := by decide +kernel
theorem dX0_split_23 : decode cX0_split 23 = .ok (.iaload, 1) := by decide +kernel
theorem dX0_split_24 : decode cX0_split 24 = .ok (.iastore, 1) := by decide +kernel
theorem dX0_split_25 : decode cX0_split 25 = .ok (.iinc 4 1, 3) := by decide +kernel
theorem dX0_split_28 : decode cX0_split 28 = .ok (.goto (-25), 3) := by decide +kernel
theorem dX0_split_31 : decode cX0_split 31 = .ok (.aload_n 0, 1) := by decide +kernel
theorem dX0_split_32 : decode cX0_split 32 = .ok (.aload_n 0, 1) := by decide +kernel
theorem dX0_split_33 : decode cX0_split 33 = .ok (.getfield 32, 3) := by decide +kernel
theorem dX0_split_36 : decode cX0_split 36 = .ok (.iload_n 2, 1) := by decide +kernel
theorem dX0_split_37 : decode cX0_split 37 = .ok (.iaload, 1) := by decide +kernel
theorem dX0_split_38 : decode cX0_split 38 = .ok (.putfield 97, 3) := by decide +kernel
theorem dX0_split_41 : decode cX0_split 41 = .ok (.aload_n 0, 1) := by decide +kernel
theorem dX0_split_42 : decode cX0_split 42 = .ok (.aload_n 0, 1) := by decide +kernel
theorem dX0_split_43 : decode cX0_split 43 = .ok (.getfield 35, 3) := by decide +kernel
theorem dX0_split_46 : decode cX0_split 46 = .ok (.iload_n 2, 1) := by decide +kernel
theorem dX0_split_47 : decode cX0_split 47 = .ok (.baload, 1) := by decide +kernel
theorem dX0_split_48 : decode cX0_split 48 = .ok (.ifCond .eq 12, 3) := by decide +kernel
theorem dX0_split_51 : decode cX0_split 51 = .ok (.aload_n 0, 1) := by decide +kernel
theorem dX0_split_52 : decode cX0_split 52 = .ok (.getfield 38, 3) := by decide +kernel
theorem dX0_split_55 : decode cX0_split 55 = .ok (.iload_n 2, 1) := by decide +kernel
theorem dX0_split_56 : decode cX0_split 56 = .ok (.iaload, 1) := by decide +kernel
theorem dX0_split_57 : decode cX0_split 57 = .ok (.goto 14, 3) := by decide +kernel
theorem dX0_split_60 : decode cX0_split 60 = .ok (.aload_n 0, 1) := by decide +kernel
theorem dX0_split_61 : decode cX0_split 61 = .ok (.getfield 7, 3) := by decide +kernel
theorem dX0_split_64 : decode cX0_split 64 = .ok (.aload_n 0, 1) := by decide +kernel
theorem dX0_split_65 : decode cX0_split 65 = .ok (.getfield 32, 3) := by decide +kernel
theorem dX0_split_68 : decode cX0_split 68 = .ok (.iload_n 2, 1) := by decide +kernel
theorem dX0_split_69 : decode cX0_split 69 = .ok (.iaload, 1) := by decide +kernel
theorem dX0_split_70 : decode cX0_split 70 = .ok (.iaload, 1) := by decide +kernel
theorem dX0_split_71 : decode cX0_split 71 = .ok (.putfield 100, 3) := by decide +kernel
theorem dX0_split_74 : decode cX0_split 74 = .ok (.aload_n 0, 1) := by decide +kernel
theorem dX0_split_75 : decode cX0_split 75 = .ok (.aload_n 0, 1) := by decide +kernel
theorem dX0_split_76 : decode cX0_split 76 = .ok (.getfield 35, 3) := by decide +kernel
theorem dX0_split_79 : decode cX0_split 79 = .ok (.iload_n 2, 1) := by decide +kernel
theorem dX0_split_80 : decode cX0_split 80 = .ok (.baload, 1) := by decide +kernel
theorem dX0_split_81 : decode cX0_split 81 = .ok (.ifCond .eq 17, 3) := by decide +kernel
theorem dX0_split_84 : decode cX0_split 84 = .ok (.aload_n 0, 1) := by decide +kernel
theorem dX0_split_85 : decode cX0_split 85 = .ok (.getfield 16, 3) := by decide +kernel
theorem dX0_split_88 : decode cX0_split 88 = .ok (.aload_n 0, 1) := by decide +kernel
theorem dX0_split_89 : decode cX0_split 89 = .ok (.getfield 32, 3) := by decide +kernel
theorem dX0_split_92 : decode cX0_split 92 = .ok (.iload_n 2, 1) := by decide +kernel
theorem dX0_split_93 : decode cX0_split 93 = .ok (.iaload, 1) := by decide +kernel
theorem dX0_split_94 : decode cX0_split 94 = .ok (.iaload, 1) := by decide +kernel
theorem dX0_split_95 : decode cX0_split 95 = .ok (.goto 9, 3) := by decide +kernel
theorem dX0_split_98 : decode cX0_split 98 = .ok (.aload_n 0, 1) := by decide +kernel
theorem dX0_split_99 : decode cX0_split 99 = .ok (.getfield 38, 3) := by decide +kernel
theorem dX0_split_102 : decode cX0_split 102 = .ok (.iload_n 2, 1) := by decide +kernel
theorem dX0_split_103 : decode cX0_split 103 = .ok (.iaload, 1) := by decide +kernel
theorem dX0_split_104 : decode cX0_split 104 = .ok (.putfield 103, 3) := by decide +kernel
theorem dX0_split_107 : decode cX0_split 107 = .ok (.aload_n 0, 1) := by decide +kernel
theorem dX0_split_108 : decode cX0_split 108 = .ok (.getfield 32, 3) := by decide +kernel
theorem dX0_split_111 : decode cX0_split 111 = .ok (.iload_n 2, 1) := by decide +kernel
theorem dX0_split_112 : decode cX0_split 112 = .ok (.iaload, 1) := by decide +kernel
theorem dX0_split_113 : decode cX0_split 113 = .ok (.istore 4, 2) := by decide +kernel
theorem dX0_split_115 : decode cX0_split 115 = .ok (.iload_n 3, 1) := by decide +kernel
theorem dX0_split_116 : decode cX0_split 116 = .ok (.istore 5, 2) := by decide +kernel
theorem dX0_split_118 : decode cX0_split 118 = .ok (.iload 5, 2) := by decide +kernel
theorem dX0_split_120 : decode cX0_split 120 = .ok (.bipush 100, 2) := by decide +kernel
theorem dX0_split_122 : decode cX0_split 122 = .ok (.if_icmp .ge 31, 3) := by decide +kernel
theorem dX0_split_125 : decode cX0_split 125 = .ok (.iload 4, 2) := by decide +kernel
theorem dX0_split_127 : decode cX0_split 127 = .ok (.ifCond .lt 26, 3) := by decide +kernel
theorem dX0_split_130 : decode cX0_split 130 = .ok (.iload 4, 2) := by decide +kernel
theorem dX0_split_132 : decode cX0_split 132 = .ok (.aload_n 0, 1) := by decide +kernel
theorem dX0_split_133 : decode cX0_split 133 = .ok (.getfield 71, 3) := by decide +kernel
theorem dX0_split_136 : decode cX0_split 136 = .ok (.if_icmp .ge 17, 3) := by decide +kernel
theorem dX0_split_139 : decode cX0_split 139 = .ok (.aload_n 0, 1) := by decide +kernel
theorem dX0_split_140 : decode cX0_split 140 = .ok (.iload 4, 2) := by decide +kernel
theorem dX0_split_142 : decode cX0_split 142 = .ok (.invokevirtual 106, 3) := by decide +kernel
theorem dX0_split_145 : decode cX0_split 145 = .ok (.istore 4, 2) := by decide +kernel
theorem dX0_split_147 : decode cX0_split 147 = .ok (.iinc 5 1, 3) := by decide +kernel
theorem dX0_split_150 : decode cX0_split 150 = .ok (.goto (-32), 3) := by decide +kernel
theorem dX0_split_153 : decode cX0_split 153 = .ok (.iload_n 1, 1) := by decide +kernel
theorem dX0_split_154 : decode cX0_split 154 = .ok (.bipush 24, 2) := by decide +kernel
theorem dX0_split_156 : decode cX0_split 156 = .ok (.imul, 1) := by decide +kernel
theorem dX0_split_157 : decode cX0_split 157 = .ok (.iload_n 2, 1) := by decide +kernel
theorem dX0_split_158 : decode cX0_split 158 = .ok (.iadd, 1) := by decide +kernel
theorem dX0_split_159 : decode cX0_split 159 = .ok (.istore 6, 2) := by decide +kernel
theorem dX0_split_161 : decode cX0_split 161 = .ok (.aload_n 0, 1) := by decide +kernel
theorem dX0_split_162 : decode cX0_split 162 = .ok (.getfield 50, 3) := by decide +kernel
theorem dX0_split_165 : decode cX0_split 165 = .ok (.iload 6, 2) := by decide +kernel
theorem dX0_split_167 : decode cX0_split 167 = .ok (.iload 4, 2) := by decide +kernel
theorem dX0_split_169 : decode cX0_split 169 = .ok (.ifCond .lt 12, 3) := by decide +kernel
theorem dX0_split_172 : decode cX0_split 172 = .ok (.iload 4, 2) := by decide +kernel
theorem dX0_split_174 : decode cX0_split 174 = .ok (.aload_n 0, 1) := by decide +kernel
theorem dX0_split_175 : decode cX0_split 175 = .ok (.getfield 71, 3) := by decide +kernel
theorem dX0_split_178 : decode cX0_split 178 = .ok (.if_icmp .lt 7, 3) := by decide +kernel
theorem dX0_split_181 : decode cX0_split 181 = .ok (.iconst 1, 1) := by decide +kernel
theorem dX0_split_182 : decode cX0_split 182 = .ok (.goto 4, 3) := by decide +kernel
theorem dX0_split_185 : decode cX0_split 185 = .ok (.iconst 0, 1) := by decide +kernel
theorem dX0_split_186 : decode cX0_split 186 = .ok (.bastore, 1) := by decide +kernel
theorem dX0_split_187 : decode cX0_split 187 = .ok (.aload_n 0, 1) := by decide +kernel
theorem dX0_split_188 : decode cX0_split 188 = .ok (.getfield 53, 3) := by decide +kernel
theorem dX0_split_191 : decode cX0_split 191 = .ok (.iload 6, 2) := by decide +kernel
theorem dX0_split_193 : decode cX0_split 193 = .ok (.aload_n 0, 1) := by decide +kernel
theorem dX0_split_194 : decode cX0_split 194 = .ok (.getfield 50, 3) := by decide +kernel
theorem dX0_split_197 : decode cX0_split 197 = .ok (.iload 6, 2) := by decide +kernel
theorem dX0_split_199 : decode cX0_split 199 = .ok (.baload, 1) := by decide +kernel
theorem dX0_split_200 : decode cX0_split 200 = .ok (.ifCond .eq 12, 3) := by decide +kernel
theorem dX0_split_203 : decode cX0_split 203 = .ok (.aload_n 0, 1) := by decide +kernel
theorem dX0_split_204 : decode cX0_split 204 = .ok (.getfield 59, 3) := by decide +kernel
theorem dX0_split_207 : decode cX0_split 207 = .ok (.iconst 4, 1) := by decide +kernel
theorem dX0_split_208 : decode cX0_split 208 = .ok (.iaload, 1) := by decide +kernel
theorem dX0_split_209 : decode cX0_split 209 = .ok (.goto 4, 3) := by decide +kernel
theorem dX0_split_212 : decode cX0_split 212 = .ok (.iconst 0, 1) := by decide +kernel
theorem dX0_split_213 : decode cX0_split 213 = .ok (.iastore, 1) := by decide +kernel
theorem dX0_split_214 : decode cX0_split 214 = .ok (.aload_n 0, 1) := by decide +kernel
theorem dX0_split_215 : decode cX0_split 215 = .ok (.getfield 56, 3) := by decide +kernel
theorem dX0_split_218 : decode cX0_split 218 = .ok (.iload 6, 2) := by decide +kernel
theorem dX0_split_220 : decode cX0_split 220 = .ok (.iload 5, 2) := by decide +kernel
theorem dX0_split_222 : decode cX0_split 222 = .ok (.iastore, 1) := by decide +kernel
theorem dX0_split_223 : decode cX0_split 223 = .ok (.return_, 1) := by decide +kernel
theorem dX0_stepMutant_0 : decode cX0_stepMutant 0 = .ok (.iload_n 1, 1) := by decide +kernel
theorem dX0_stepMutant_1 : decode cX0_stepMutant 1 = .ok (.aload_n 0, 1) := by decide +kernel
theorem dX0_stepMutant_2 : decode cX0_stepMutant 2 = .ok (.getfield 97, 3) := by decide +kernel
theorem dX0_stepMutant_5 : decode cX0_stepMutant 5 = .ok (.if_icmp .ne 18, 3) := by decide +kernel
theorem dX0_stepMutant_8 : decode cX0_stepMutant 8 = .ok (.aload_n 0, 1) := by decide +kernel
theorem dX0_stepMutant_9 : decode cX0_stepMutant 9 = .ok (.iconst 4, 1) := by decide +kernel
theorem dX0_stepMutant_10 : decode cX0_stepMutant 10 = .ok (.iload_n 1, 1) := by decide +kernel
theorem dX0_stepMutant_11 : decode cX0_stepMutant 11 = .ok (.aload_n 0, 1) := by decide +kernel
theorem dX0_stepMutant_12 : decode cX0_stepMutant 12 = .ok (.getfield 100, 3) := by decide +kernel
theorem dX0_stepMutant_15 : decode cX0_stepMutant 15 = .ok (.aload_n 0, 1) := by decide +kernel
theorem dX0_stepMutant_16 : decode cX0_stepMutant 16 = .ok (.getfield 103, 3) := by decide +kernel
theorem dX0_stepMutant_19 : decode cX0_stepMutant 19 = .ok (.invokevirtual 86, 3) := by decide +kernel
theorem dX0_stepMutant_22 : decode cX0_stepMutant 22 = .ok (.ireturn, 1) := by decide +kernel
theorem dX0_stepMutant_23 : decode cX0_stepMutant 23 = .ok (.aload_n 0, 1) := by decide +kernel
theorem dX0_stepMutant_24 : decode cX0_stepMutant 24 = .ok (.iconst 4, 1) := by decide +kernel
theorem dX0_stepMutant_25 : decode cX0_stepMutant 25 = .ok (.iload_n 1, 1) := by decide +kernel
theorem dX0_stepMutant_26 : decode cX0_stepMutant 26 = .ok (.aload_n 0, 1) := by decide +kernel
theorem dX0_stepMutant_27 : decode cX0_stepMutant 27 = .ok (.getfield 7, 3) := by decide +kernel
theorem dX0_stepMutant_30 : decode cX0_stepMutant 30 = .ok (.iload_n 1, 1) := by decide +kernel
theorem dX0_stepMutant_31 : decode cX0_stepMutant 31 = .ok (.iaload, 1) := by decide +kernel
theorem dX0_stepMutant_32 : decode cX0_stepMutant 32 = .ok (.aload_n 0, 1) := by decide +kernel
theorem dX0_stepMutant_33 : decode cX0_stepMutant 33 = .ok (.getfield 16, 3) := by decide +kernel
theorem dX0_stepMutant_36 : decode cX0_stepMutant 36 = .ok (.iload_n 1, 1) := by decide +kernel
theorem dX0_stepMutant_37 : decode cX0_stepMutant 37 = .ok (.iaload, 1) := by decide +kernel
theorem dX0_stepMutant_38 : decode cX0_stepMutant 38 = .ok (.invokevirtual 86, 3) := by decide +kernel
theorem dX0_stepMutant_41 : decode cX0_stepMutant 41 = .ok (.ireturn, 1) := by decide +kernel
theorem dX0_share_0 : decode cX0_share 0 = .ok (.iload_n 1, 1) := by decide +kernel
theorem dX0_share_1 : decode cX0_share 1 = .ok (.bipush 24, 2) := by decide +kernel
theorem dX0_share_3 : decode cX0_share 3 = .ok (.imul, 1) := by decide +kernel
theorem dX0_share_4 : decode cX0_share 4 = .ok (.iload_n 2, 1) := by decide +kernel
theorem dX0_share_5 : decode cX0_share 5 = .ok (.iadd, 1) := by decide +kernel
theorem dX0_share_6 : decode cX0_share 6 = .ok (.istore_n 3, 1) := by decide +kernel
theorem dX0_share_7 : decode cX0_share 7 = .ok (.aload_n 0, 1) := by decide +kernel
theorem dX0_share_8 : decode cX0_share 8 = .ok (.getfield 50, 3) := by decide +kernel
theorem dX0_share_11 : decode cX0_share 11 = .ok (.iload_n 3, 1) := by decide +kernel
theorem dX0_share_12 : decode cX0_share 12 = .ok (.aload_n 0, 1) := by decide +kernel
theorem dX0_share_13 : decode cX0_share 13 = .ok (.getfield 41, 3) := by decide +kernel
theorem dX0_share_16 : decode cX0_share 16 = .ok (.iload_n 1, 1) := by decide +kernel
theorem dX0_share_17 : decode cX0_share 17 = .ok (.baload, 1) := by decide +kernel
theorem dX0_share_18 : decode cX0_share 18 = .ok (.bastore, 1) := by decide +kernel
theorem dX0_share_19 : decode cX0_share 19 = .ok (.aload_n 0, 1) := by decide +kernel
theorem dX0_share_20 : decode cX0_share 20 = .ok (.getfield 53, 3) := by decide +kernel
theorem dX0_share_23 : decode cX0_share 23 = .ok (.iload_n 3, 1) := by decide +kernel
theorem dX0_share_24 : decode cX0_share 24 = .ok (.aload_n 0, 1) := by decide +kernel
theorem dX0_share_25 : decode cX0_share 25 = .ok (.getfield 44, 3) := by decide +kernel
theorem dX0_share_28 : decode cX0_share 28 = .ok (.iload_n 1, 1) := by decide +kernel
theorem dX0_share_29 : decode cX0_share 29 = .ok (.iaload, 1) := by decide +kernel
theorem dX0_share_30 : decode cX0_share 30 = .ok (.iastore, 1) := by decide +kernel
theorem dX0_share_31 : decode cX0_share 31 = .ok (.aload_n 0, 1) := by decide +kernel
theorem dX0_share_32 : decode cX0_share 32 = .ok (.getfield 56, 3) := by decide +kernel
theorem dX0_share_35 : decode cX0_share 35 = .ok (.iload_n 3, 1) := by decide +kernel
theorem dX0_share_36 : decode cX0_share 36 = .ok (.aload_n 0, 1) := by decide +kernel
theorem dX0_share_37 : decode cX0_share 37 = .ok (.getfield 47, 3) := by decide +kernel
theorem dX0_share_40 : decode cX0_share 40 = .ok (.iload_n 1, 1) := by decide +kernel
theorem dX0_share_41 : decode cX0_share 41 = .ok (.iaload, 1) := by decide +kernel
theorem dX0_share_42 : decode cX0_share 42 = .ok (.iastore, 1) := by decide +kernel
theorem dX0_share_43 : decode cX0_share 43 = .ok (.return_, 1) := by decide +kernel
theorem dX0_killers_0 : decode cX0_killers 0 = .ok (.aload_n 0, 1) := by decide +kernel
theorem dX0_killers_1 : decode cX0_killers 1 = .ok (.iload_n 1, 1) := by decide +kernel
theorem dX0_killers_2 : decode cX0_killers 2 = .ok (.invokevirtual 144, 3) := by decide +kernel
theorem dX0_killers_5 : decode cX0_killers 5 = .ok (.ifCond .eq 6, 3) := by decide +kernel
theorem dX0_killers_8 : decode cX0_killers 8 = .ok (.bipush (-4), 2) := by decide +kernel
theorem dX0_killers_10 : decode cX0_killers 10 = .ok (.ireturn, 1) := by decide +kernel
theorem dX0_killers_11 : decode cX0_killers 11 = .ok (.aload_n 0, 1) := by decide +kernel
theorem dX0_killers_12 : decode cX0_killers 12 = .ok (.invokevirtual 148, 3) := by decide +kernel
theorem dX0_killers_15 : decode cX0_killers 15 = .ok (.aload_n 0, 1) := by decide +kernel
theorem dX0_killers_16 : decode cX0_killers 16 = .ok (.iload_n 1, 1) := by decide +kernel
theorem dX0_killers_17 : decode cX0_killers 17 = .ok (.invokevirtual 132, 3) := by decide +kernel
theorem dX0_killers_20 : decode cX0_killers 20 = .ok (.ireturn, 1) := by decide +kernel
theorem dX0_noMutant_0 : decode cX0_noMutant 0 = .ok (.iload_n 1, 1) := by decide +kernel
theorem dX0_noMutant_1 : decode cX0_noMutant 1 = .ok (.ifCond .lt 11, 3) := by decide +kernel
theorem dX0_noMutant_4 : decode cX0_noMutant 4 = .ok (.iload_n 1, 1) := by decide +kernel
theorem dX0_noMutant_5 : decode cX0_noMutant 5 = .ok (.aload_n 0, 1) := by decide +kernel
theorem dX0_noMutant_6 : decode cX0_noMutant 6 = .ok (.getfield 90, 3) := by decide +kernel
theorem dX0_noMutant_9 : decode cX0_noMutant 9 = .ok (.if_icmp .lt 7, 3) := by decide +kernel
theorem dX0_noMutant_12 : decode cX0_noMutant 12 = .ok (.iconst 1, 1) := by decide +kernel
theorem dX0_noMutant_13 : decode cX0_noMutant 13 = .ok (.goto 4, 3) := by decide +kernel
theorem dX0_noMutant_16 : decode cX0_noMutant 16 = .ok (.iconst 0, 1) := by decide +kernel
theorem dX0_noMutant_17 : decode cX0_noMutant 17 = .ok (.ireturn, 1) := by decide +kernel
theorem dX0_gatherKills_0 : decode cX0_gatherKills 0 = .ok (.aload_n 0, 1) := by decide +kernel
theorem dX0_gatherKills_1 : decode cX0_gatherKills 1 = .ok (.invokevirtual 125, 3) := by decide +kernel
theorem dX0_gatherKills_4 : decode cX0_gatherKills 4 = .ok (.iconst 0, 1) := by decide +kernel
theorem dX0_gatherKills_5 : decode cX0_gatherKills 5 = .ok (.istore_n 1, 1) := by decide +kernel
theorem dX0_gatherKills_6 : decode cX0_gatherKills 6 = .ok (.iload_n 1, 1) := by decide +kernel
theorem dX0_gatherKills_7 : decode cX0_gatherKills 7 = .ok (.bipush 6, 2) := by decide +kernel
theorem dX0_gatherKills_9 : decode cX0_gatherKills 9 = .ok (.if_icmp .ge 63, 3) := by decide +kernel
theorem dX0_gatherKills_12 : decode cX0_gatherKills 12 = .ok (.aload_n 0, 1) := by decide +kernel
theorem dX0_gatherKills_13 : decode cX0_gatherKills 13 = .ok (.getfield 62, 3) := by decide +kernel
theorem dX0_gatherKills_16 : decode cX0_gatherKills 16 = .ok (.iload_n 1, 1) := by decide +kernel
theorem dX0_gatherKills_17 : decode cX0_gatherKills 17 = .ok (.iconst 0, 1) := by decide +kernel
theorem dX0_gatherKills_18 : decode cX0_gatherKills 18 = .ok (.iastore, 1) := by decide +kernel
theorem dX0_gatherKills_19 : decode cX0_gatherKills 19 = .ok (.iconst 0, 1) := by decide +kernel
theorem dX0_gatherKills_20 : decode cX0_gatherKills 20 = .ok (.istore_n 2, 1) := by decide +kernel
theorem dX0_gatherKills_21 : decode cX0_gatherKills 21 = .ok (.iload_n 2, 1) := by decide +kernel
theorem dX0_gatherKills_22 : decode cX0_gatherKills 22 = .ok (.aload_n 0, 1) := by decide +kernel
theorem dX0_gatherKills_23 : decode cX0_gatherKills 23 = .ok (.getfield 90, 3) := by decide +kernel
theorem dX0_gatherKills_26 : decode cX0_gatherKills 26 = .ok (.if_icmp .ge 40, 3) := by decide +kernel
theorem dX0_gatherKills_29 : decode cX0_gatherKills 29 = .ok (.iload_n 1, 1) := by decide +kernel
theorem dX0_gatherKills_30 : decode cX0_gatherKills 30 = .ok (.aload_n 0, 1) := by decide +kernel
theorem dX0_gatherKills_31 : decode cX0_gatherKills 31 = .ok (.getfield 79, 3) := by decide +kernel
theorem dX0_gatherKills_34 : decode cX0_gatherKills 34 = .ok (.if_icmp .ge 32, 3) := by decide +kernel
theorem dX0_gatherKills_37 : decode cX0_gatherKills 37 = .ok (.aload_n 0, 1) := by decide +kernel
theorem dX0_gatherKills_38 : decode cX0_gatherKills 38 = .ok (.iload_n 1, 1) := by decide +kernel
theorem dX0_gatherKills_39 : decode cX0_gatherKills 39 = .ok (.iload_n 2, 1) := by decide +kernel
theorem dX0_gatherKills_40 : decode cX0_gatherKills 40 = .ok (.invokevirtual 128, 3) := by decide +kernel
theorem dX0_gatherKills_43 : decode cX0_gatherKills 43 = .ok (.istore_n 3, 1) := by decide +kernel
theorem dX0_gatherKills_44 : decode cX0_gatherKills 44 = .ok (.iload_n 3, 1) := by decide +kernel
theorem dX0_gatherKills_45 : decode cX0_gatherKills 45 = .ok (.ifCond .eq 15, 3) := by decide +kernel
theorem dX0_gatherKills_48 : decode cX0_gatherKills 48 = .ok (.aload_n 0, 1) := by decide +kernel
theorem dX0_gatherKills_49 : decode cX0_gatherKills 49 = .ok (.getfield 62, 3) := by decide +kernel
theorem dX0_gatherKills_52 : decode cX0_gatherKills 52 = .ok (.iload_n 1, 1) := by decide +kernel
theorem dX0_gatherKills_53 : decode cX0_gatherKills 53 = .ok (.dup2, 1) := by decide +kernel
theorem dX0_gatherKills_54 : decode cX0_gatherKills 54 = .ok (.iaload, 1) := by decide +kernel
theorem dX0_gatherKills_55 : decode cX0_gatherKills 55 = .ok (.iconst 1, 1) := by decide +kernel
theorem dX0_gatherKills_56 : decode cX0_gatherKills 56 = .ok (.iload_n 2, 1) := by decide +kernel
theorem dX0_gatherKills_57 : decode cX0_gatherKills 57 = .ok (.ishl, 1) := by decide +kernel
theorem dX0_gatherKills_58 : decode cX0_gatherKills 58 = .ok (.ior, 1) := by decide +kernel
theorem dX0_gatherKills_59 : decode cX0_gatherKills 59 = .ok (.iastore, 1) := by decide +kernel
theorem dX0_gatherKills_60 : decode cX0_gatherKills 60 = .ok (.iinc 2 1, 3) := by decide +kernel
theorem dX0_gatherKills_63 : decode cX0_gatherKills 63 = .ok (.goto (-42), 3) := by decide +kernel
theorem dX0_gatherKills_66 : decode cX0_gatherKills 66 = .ok (.iinc 1 1, 3) := by decide +kernel
theorem dX0_gatherKills_69 : decode cX0_gatherKills 69 = .ok (.goto (-63), 3) := by decide +kernel
theorem dX0_gatherKills_72 : decode cX0_gatherKills 72 = .ok (.return_, 1) := by decide +kernel
theorem dX0_killsIt_0 : decode cX0_killsIt 0 = .ok (.iload_n 1, 1) := by decide +kernel
theorem dX0_killsIt_1 : decode cX0_killsIt 1 = .ok (.bipush 24, 2) := by decide +kernel
theorem dX0_killsIt_3 : decode cX0_killsIt 3 = .ok (.imul, 1) := by decide +kernel
theorem dX0_killsIt_4 : decode cX0_killsIt 4 = .ok (.iload_n 2, 1) := by decide +kernel
theorem dX0_killsIt_5 : decode cX0_killsIt 5 = .ok (.iadd, 1) := by decide +kernel
theorem dX0_killsIt_6 : decode cX0_killsIt 6 = .ok (.istore_n 3, 1) := by decide +kernel
theorem dX0_killsIt_7 : decode cX0_killsIt 7 = .ok (.aload_n 0, 1) := by decide +kernel
theorem dX0_killsIt_8 : decode cX0_killsIt 8 = .ok (.getfield 50, 3) := by decide +kernel
theorem dX0_killsIt_11 : decode cX0_killsIt 11 = .ok (.iload_n 3, 1) := by decide +kernel
theorem dX0_killsIt_12 : decode cX0_killsIt 12 = .ok (.baload, 1) := by decide +kernel
theorem dX0_killsIt_13 : decode cX0_killsIt 13 = .ok (.aload_n 0, 1) := by decide +kernel
theorem dX0_killsIt_14 : decode cX0_killsIt 14 = .ok (.getfield 25, 3) := by decide +kernel
theorem dX0_killsIt_17 : decode cX0_killsIt 17 = .ok (.iload_n 1, 1) := by decide +kernel
theorem dX0_killsIt_18 : decode cX0_killsIt 18 = .ok (.baload, 1) := by decide +kernel
theorem dX0_killsIt_19 : decode cX0_killsIt 19 = .ok (.if_icmp .eq 5, 3) := by decide +kernel
theorem dX0_killsIt_22 : decode cX0_killsIt 22 = .ok (.iconst 1, 1) := by decide +kernel
theorem dX0_killsIt_23 : decode cX0_killsIt 23 = .ok (.ireturn, 1) := by decide +kernel
theorem dX0_killsIt_24 : decode cX0_killsIt 24 = .ok (.aload_n 0, 1) := by decide +kernel
theorem dX0_killsIt_25 : decode cX0_killsIt 25 = .ok (.getfield 50, 3) := by decide +kernel
theorem dX0_killsIt_28 : decode cX0_killsIt 28 = .ok (.iload_n 3, 1) := by decide +kernel
theorem dX0_killsIt_29 : decode cX0_killsIt 29 = .ok (.baload, 1) := by decide +kernel
theorem dX0_killsIt_30 : decode cX0_killsIt 30 = .ok (.ifCond .eq 22, 3) := by decide +kernel
theorem dX0_killsIt_33 : decode cX0_killsIt 33 = .ok (.aload_n 0, 1) := by decide +kernel
theorem dX0_killsIt_34 : decode cX0_killsIt 34 = .ok (.getfield 53, 3) := by decide +kernel
theorem dX0_killsIt_37 : decode cX0_killsIt 37 = .ok (.iload_n 3, 1) := by decide +kernel
theorem dX0_killsIt_38 : decode cX0_killsIt 38 = .ok (.iaload, 1) := by decide +kernel
theorem dX0_killsIt_39 : decode cX0_killsIt 39 = .ok (.aload_n 0, 1) := by decide +kernel
theorem dX0_killsIt_40 : decode cX0_killsIt 40 = .ok (.getfield 29, 3) := by decide +kernel
theorem dX0_killsIt_43 : decode cX0_killsIt 43 = .ok (.iload_n 1, 1) := by decide +kernel
theorem dX0_killsIt_44 : decode cX0_killsIt 44 = .ok (.iaload, 1) := by decide +kernel
theorem dX0_killsIt_45 : decode cX0_killsIt 45 = .ok (.if_icmp .eq 7, 3) := by decide +kernel
theorem dX0_killsIt_48 : decode cX0_killsIt 48 = .ok (.iconst 1, 1) := by decide +kernel
theorem dX0_killsIt_49 : decode cX0_killsIt 49 = .ok (.goto 4, 3) := by decide +kernel
theorem dX0_killsIt_52 : decode cX0_killsIt 52 = .ok (.iconst 0, 1) := by decide +kernel
theorem dX0_killsIt_53 : decode cX0_killsIt 53 = .ok (.ireturn, 1) := by decide +kernel
theorem dX0_killersOf_0 : decode cX0_killersOf 0 = .ok (.iconst 0, 1) := by decide +kernel
theorem dX0_killersOf_1 : decode cX0_killersOf 1 = .ok (.istore_n 2, 1) := by decide +kernel
theorem dX0_killersOf_2 : decode cX0_killersOf 2 = .ok (.iconst 0, 1) := by decide +kernel
theorem dX0_killersOf_3 : decode cX0_killersOf 3 = .ok (.istore_n 3, 1) := by decide +kernel
theorem dX0_killersOf_4 : decode cX0_killersOf 4 = .ok (.iload_n 3, 1) := by decide +kernel
theorem dX0_killersOf_5 : decode cX0_killersOf 5 = .ok (.aload_n 0, 1) := by decide +kernel
theorem dX0_killersOf_6 : decode cX0_killersOf 6 = .ok (.getfield 79, 3) := by decide +kernel
theorem dX0_killersOf_9 : decode cX0_killersOf 9 = .ok (.if_icmp .ge 24, 3) := by decide +kernel
theorem dX0_killersOf_12 : decode cX0_killersOf 12 = .ok (.iload_n 2, 1) := by decide +kernel
theorem dX0_killersOf_13 : decode cX0_killersOf 13 = .ok (.aload_n 0, 1) := by decide +kernel
theorem dX0_killersOf_14 : decode cX0_killersOf 14 = .ok (.getfield 62, 3) := by decide +kernel
theorem dX0_killersOf_17 : decode cX0_killersOf 17 = .ok (.iload_n 3, 1) := by decide +kernel
theorem dX0_killersOf_18 : decode cX0_killersOf 18 = .ok (.iaload, 1) := by decide +kernel
theorem dX0_killersOf_19 : decode cX0_killersOf 19 = .ok (.iload_n 1, 1) := by decide +kernel
theorem dX0_killersOf_20 : decode cX0_killersOf 20 = .ok (.ishr, 1) := by decide +kernel
theorem dX0_killersOf_21 : decode cX0_killersOf 21 = .ok (.iconst 1, 1) := by decide +kernel
theorem dX0_killersOf_22 : decode cX0_killersOf 22 = .ok (.iand, 1) := by decide +kernel
theorem dX0_killersOf_23 : decode cX0_killersOf 23 = .ok (.iload_n 3, 1) := by decide +kernel
theorem dX0_killersOf_24 : decode cX0_killersOf 24 = .ok (.ishl, 1) := by decide +kernel
theorem dX0_killersOf_25 : decode cX0_killersOf 25 = .ok (.ior, 1) := by decide +kernel
theorem dX0_killersOf_26 : decode cX0_killersOf 26 = .ok (.istore_n 2, 1) := by decide +kernel
theorem dX0_killersOf_27 : decode cX0_killersOf 27 = .ok (.iinc 3 1, 3) := by decide +kernel
theorem dX0_killersOf_30 : decode cX0_killersOf 30 = .ok (.goto (-26), 3) := by decide +kernel
theorem dX0_killersOf_33 : decode cX0_killersOf 33 = .ok (.iload_n 2, 1) := by decide +kernel
theorem dX0_killersOf_34 : decode cX0_killersOf 34 = .ok (.ireturn, 1) := by decide +kernel
theorem dX0_killed_0 : decode cX0_killed 0 = .ok (.aload_n 0, 1) := by decide +kernel
theorem dX0_killed_1 : decode cX0_killed 1 = .ok (.invokevirtual 148, 3) := by decide +kernel
theorem dX0_killed_4 : decode cX0_killed 4 = .ok (.iconst 0, 1) := by decide +kernel
theorem dX0_killed_5 : decode cX0_killed 5 = .ok (.istore_n 2, 1) := by decide +kernel
theorem dX0_killed_6 : decode cX0_killed 6 = .ok (.iconst 0, 1) := by decide +kernel
theorem dX0_killed_7 : decode cX0_killed 7 = .ok (.istore_n 3, 1) := by decide +kernel
theorem dX0_killed_8 : decode cX0_killed 8 = .ok (.iload_n 3, 1) := by decide +kernel
theorem dX0_killed_9 : decode cX0_killed 9 = .ok (.bipush 6, 2) := by decide +kernel
theorem dX0_killed_11 : decode cX0_killed 11 = .ok (.if_icmp .ge 27, 3) := by decide +kernel
theorem dX0_killed_14 : decode cX0_killed 14 = .ok (.iload_n 1, 1) := by decide +kernel
theorem dX0_killed_15 : decode cX0_killed 15 = .ok (.iload_n 3, 1) := by decide +kernel
theorem dX0_killed_16 : decode cX0_killed 16 = .ok (.ishr, 1) := by decide +kernel
theorem dX0_killed_17 : decode cX0_killed 17 = .ok (.iconst 1, 1) := by decide +kernel
theorem dX0_killed_18 : decode cX0_killed 18 = .ok (.iand, 1) := by decide +kernel
theorem dX0_killed_19 : decode cX0_killed 19 = .ok (.iconst 1, 1) := by decide +kernel
theorem dX0_killed_20 : decode cX0_killed 20 = .ok (.if_icmp .ne 12, 3) := by decide +kernel
theorem dX0_killed_23 : decode cX0_killed 23 = .ok (.iload_n 2, 1) := by decide +kernel
theorem dX0_killed_24 : decode cX0_killed 24 = .ok (.aload_n 0, 1) := by decide +kernel
theorem dX0_killed_25 : decode cX0_killed 25 = .ok (.getfield 62, 3) := by decide +kernel
theorem dX0_killed_28 : decode cX0_killed 28 = .ok (.iload_n 3, 1) := by decide +kernel
theorem dX0_killed_29 : decode cX0_killed 29 = .ok (.iaload, 1) := by decide +kernel
theorem dX0_killed_30 : decode cX0_killed 30 = .ok (.ior, 1) := by decide +kernel
theorem dX0_killed_31 : decode cX0_killed 31 = .ok (.istore_n 2, 1) := by decide +kernel
theorem dX0_killed_32 : decode cX0_killed 32 = .ok (.iinc 3 1, 3) := by decide +kernel
theorem dX0_killed_35 : decode cX0_killed 35 = .ok (.goto (-27), 3) := by decide +kernel
theorem dX0_killed_38 : decode cX0_killed 38 = .ok (.iload_n 2, 1) := by decide +kernel
theorem dX0_killed_39 : decode cX0_killed 39 = .ok (.invokestatic 135, 3) := by decide +kernel
theorem dX0_killed_42 : decode cX0_killed 42 = .ok (.ireturn, 1) := by decide +kernel
theorem dX0_ones_0 : decode cX0_ones 0 = .ok (.iconst 0, 1) := by decide +kernel
theorem dX0_ones_1 : decode cX0_ones 1 = .ok (.istore_n 1, 1) := by decide +kernel
theorem dX0_ones_2 : decode cX0_ones 2 = .ok (.iconst 0, 1) := by decide +kernel
theorem dX0_ones_3 : decode cX0_ones 3 = .ok (.istore_n 2, 1) := by decide +kernel
theorem dX0_ones_4 : decode cX0_ones 4 = .ok (.iload_n 2, 1) := by decide +kernel
theorem dX0_ones_5 : decode cX0_ones 5 = .ok (.bipush 24, 2) := by decide +kernel
theorem dX0_ones_7 : decode cX0_ones 7 = .ok (.if_icmp .ge 17, 3) := by decide +kernel
theorem dX0_ones_10 : decode cX0_ones 10 = .ok (.iload_n 1, 1) := by decide +kernel
theorem dX0_ones_11 : decode cX0_ones 11 = .ok (.iload_n 0, 1) := by decide +kernel
theorem dX0_ones_12 : decode cX0_ones 12 = .ok (.iload_n 2, 1) := by decide +kernel
theorem dX0_ones_13 : decode cX0_ones 13 = .ok (.ishr, 1) := by decide +kernel
theorem dX0_ones_14 : decode cX0_ones 14 = .ok (.iconst 1, 1) := by decide +kernel
theorem dX0_ones_15 : decode cX0_ones 15 = .ok (.iand, 1) := by decide +kernel
theorem dX0_ones_16 : decode cX0_ones 16 = .ok (.iadd, 1) := by decide +kernel
theorem dX0_ones_17 : decode cX0_ones 17 = .ok (.istore_n 1, 1) := by decide +kernel
theorem dX0_ones_18 : decode cX0_ones 18 = .ok (.iinc 2 1, 3) := by decide +kernel
theorem dX0_ones_21 : decode cX0_ones 21 = .ok (.goto (-17), 3) := by decide +kernel
theorem dX0_ones_24 : decode cX0_ones 24 = .ok (.iload_n 1, 1) := by decide +kernel
theorem dX0_ones_25 : decode cX0_ones 25 = .ok (.ireturn, 1) := by decide +kernel
theorem dX0_output_0 : decode cX0_output 0 = .ok (.aload_n 0, 1) := by decide +kernel
theorem dX0_output_1 : decode cX0_output 1 = .ok (.iload_n 1, 1) := by decide +kernel
theorem dX0_output_2 : decode cX0_output 2 = .ok (.invokevirtual 144, 3) := by decide +kernel
theorem dX0_output_5 : decode cX0_output 5 = .ok (.ifCond .ne 15, 3) := by decide +kernel
theorem dX0_output_8 : decode cX0_output 8 = .ok (.iload_n 2, 1) := by decide +kernel
theorem dX0_output_9 : decode cX0_output 9 = .ok (.ifCond .lt 11, 3) := by decide +kernel
theorem dX0_output_12 : decode cX0_output 12 = .ok (.iload_n 2, 1) := by decide +kernel
theorem dX0_output_13 : decode cX0_output 13 = .ok (.aload_n 0, 1) := by decide +kernel
theorem dX0_output_14 : decode cX0_output 14 = .ok (.getfield 79, 3) := by decide +kernel
theorem dX0_output_17 : decode cX0_output 17 = .ok (.if_icmp .lt 5, 3) := by decide +kernel
theorem dX0_output_20 : decode cX0_output 20 = .ok (.iconst 0, 1) := by decide +kernel
theorem dX0_output_21 : decode cX0_output 21 = .ok (.ireturn, 1) := by decide +kernel
theorem dX0_output_22 : decode cX0_output 22 = .ok (.aload_n 0, 1) := by decide +kernel
theorem dX0_output_23 : decode cX0_output 23 = .ok (.invokevirtual 125, 3) := by decide +kernel
theorem dX0_output_26 : decode cX0_output 26 = .ok (.aload_n 0, 1) := by decide +kernel
theorem dX0_output_27 : decode cX0_output 27 = .ok (.getfield 53, 3) := by decide +kernel
theorem dX0_output_30 : decode cX0_output 30 = .ok (.iload_n 2, 1) := by decide +kernel
theorem dX0_output_31 : decode cX0_output 31 = .ok (.bipush 24, 2) := by decide +kernel
theorem dX0_output_33 : decode cX0_output 33 = .ok (.imul, 1) := by decide +kernel
theorem dX0_output_34 : decode cX0_output 34 = .ok (.iload_n 1, 1) := by decide +kernel
theorem dX0_output_35 : decode cX0_output 35 = .ok (.iadd, 1) := by decide +kernel
theorem dX0_output_36 : decode cX0_output 36 = .ok (.iaload, 1) := by decide +kernel
theorem dX0_output_37 : decode cX0_output 37 = .ok (.ireturn, 1) := by decide +kernel
theorem dX0_length_0 : decode cX0_length 0 = .ok (.aload_n 0, 1) := by decide +kernel
theorem dX0_length_1 : decode cX0_length 1 = .ok (.iload_n 1, 1) := by decide +kernel
theorem dX0_length_2 : decode cX0_length 2 = .ok (.invokevirtual 144, 3) := by decide +kernel
theorem dX0_length_5 : decode cX0_length 5 = .ok (.ifCond .eq 6, 3) := by decide +kernel
theorem dX0_length_8 : decode cX0_length 8 = .ok (.bipush (-4), 2) := by decide +kernel
theorem dX0_length_10 : decode cX0_length 10 = .ok (.ireturn, 1) := by decide +kernel
theorem dX0_length_11 : decode cX0_length 11 = .ok (.iload_n 2, 1) := by decide +kernel
theorem dX0_length_12 : decode cX0_length 12 = .ok (.ifCond .lt 11, 3) := by decide +kernel
theorem dX0_length_15 : decode cX0_length 15 = .ok (.iload_n 2, 1) := by decide +kernel
theorem dX0_length_16 : decode cX0_length 16 = .ok (.aload_n 0, 1) := by decide +kernel
theorem dX0_length_17 : decode cX0_length 17 = .ok (.getfield 79, 3) := by decide +kernel
theorem dX0_length_20 : decode cX0_length 20 = .ok (.if_icmp .lt 6, 3) := by decide +kernel
theorem dX0_length_23 : decode cX0_length 23 = .ok (.bipush (-5), 2) := by decide +kernel
theorem dX0_length_25 : decode cX0_length 25 = .ok (.ireturn, 1) := by decide +kernel
theorem dX0_length_26 : decode cX0_length 26 = .ok (.aload_n 0, 1) := by decide +kernel
theorem dX0_length_27 : decode cX0_length 27 = .ok (.invokevirtual 125, 3) := by decide +kernel
theorem dX0_length_30 : decode cX0_length 30 = .ok (.aload_n 0, 1) := by decide +kernel
theorem dX0_length_31 : decode cX0_length 31 = .ok (.getfield 56, 3) := by decide +kernel
theorem dX0_length_34 : decode cX0_length 34 = .ok (.iload_n 2, 1) := by decide +kernel
theorem dX0_length_35 : decode cX0_length 35 = .ok (.bipush 24, 2) := by decide +kernel
theorem dX0_length_37 : decode cX0_length 37 = .ok (.imul, 1) := by decide +kernel
theorem dX0_length_38 : decode cX0_length 38 = .ok (.iload_n 1, 1) := by decide +kernel
theorem dX0_length_39 : decode cX0_length 39 = .ok (.iadd, 1) := by decide +kernel
theorem dX0_length_40 : decode cX0_length 40 = .ok (.iaload, 1) := by decide +kernel
theorem dX0_length_41 : decode cX0_length 41 = .ok (.ireturn, 1) := by decide +kernel
theorem dX0_enough_0 : decode cX0_enough 0 = .ok (.aload_n 0, 1) := by decide +kernel
theorem dX0_enough_1 : decode cX0_enough 1 = .ok (.invokevirtual 148, 3) := by decide +kernel
theorem dX0_enough_4 : decode cX0_enough 4 = .ok (.iconst 0, 1) := by decide +kernel
theorem dX0_enough_5 : decode cX0_enough 5 = .ok (.istore_n 1, 1) := by decide +kernel
theorem dX0_enough_6 : decode cX0_enough 6 = .ok (.iconst 0, 1) := by decide +kernel
theorem dX0_enough_7 : decode cX0_enough 7 = .ok (.istore_n 2, 1) := by decide +kernel
theorem dX0_enough_8 : decode cX0_enough 8 = .ok (.iload_n 2, 1) := by decide +kernel
theorem dX0_enough_9 : decode cX0_enough 9 = .ok (.aload_n 0, 1) := by decide +kernel
theorem dX0_enough_10 : decode cX0_enough 10 = .ok (.getfield 79, 3) := by decide +kernel
theorem dX0_enough_13 : decode cX0_enough 13 = .ok (.if_icmp .ge 18, 3) := by decide +kernel
theorem dX0_enough_16 : decode cX0_enough 16 = .ok (.iload_n 1, 1) := by decide +kernel
theorem dX0_enough_17 : decode cX0_enough 17 = .ok (.aload_n 0, 1) := by decide +kernel
theorem dX0_enough_18 : decode cX0_enough 18 = .ok (.getfield 62, 3) := by decide +kernel
theorem dX0_enough_21 : decode cX0_enough 21 = .ok (.iload_n 2, 1) := by decide +kernel
theorem dX0_enough_22 : decode cX0_enough 22 = .ok (.iaload, 1) := by decide +kernel
theorem dX0_enough_23 : decode cX0_enough 23 = .ok (.ior, 1) := by decide +kernel
theorem dX0_enough_24 : decode cX0_enough 24 = .ok (.istore_n 1, 1) := by decide +kernel
theorem dX0_enough_25 : decode cX0_enough 25 = .ok (.iinc 2 1, 3) := by decide +kernel
theorem dX0_enough_28 : decode cX0_enough 28 = .ok (.goto (-20), 3) := by decide +kernel
theorem dX0_enough_31 : decode cX0_enough 31 = .ok (.aload_n 0, 1) := by decide +kernel
theorem dX0_enough_32 : decode cX0_enough 32 = .ok (.iload_n 1, 1) := by decide +kernel
theorem dX0_enough_33 : decode cX0_enough 33 = .ok (.invokevirtual 151, 3) := by decide +kernel
theorem dX0_enough_36 : decode cX0_enough 36 = .ok (.ireturn, 1) := by decide +kernel
theorem dX0_smallest_0 : decode cX0_smallest 0 = .ok (.bipush 7, 2) := by decide +kernel
theorem dX0_smallest_2 : decode cX0_smallest 2 = .ok (.istore_n 2, 1) := by decide +kernel
theorem dX0_smallest_3 : decode cX0_smallest 3 = .ok (.iconst 0, 1) := by decide +kernel
theorem dX0_smallest_4 : decode cX0_smallest 4 = .ok (.istore_n 3, 1) := by decide +kernel
theorem dX0_smallest_5 : decode cX0_smallest 5 = .ok (.aload_n 0, 1) := by decide +kernel
theorem dX0_smallest_6 : decode cX0_smallest 6 = .ok (.getfield 65, 3) := by decide +kernel
theorem dX0_smallest_9 : decode cX0_smallest 9 = .ok (.iconst 0, 1) := by decide +kernel
theorem dX0_smallest_10 : decode cX0_smallest 10 = .ok (.iload_n 1, 1) := by decide +kernel
theorem dX0_smallest_11 : decode cX0_smallest 11 = .ok (.iastore, 1) := by decide +kernel
theorem dX0_smallest_12 : decode cX0_smallest 12 = .ok (.aload_n 0, 1) := by decide +kernel
theorem dX0_smallest_13 : decode cX0_smallest 13 = .ok (.getfield 68, 3) := by decide +kernel
theorem dX0_smallest_16 : decode cX0_smallest 16 = .ok (.iconst 0, 1) := by decide +kernel
theorem dX0_smallest_17 : decode cX0_smallest 17 = .ok (.aload_n 0, 1) := by decide +kernel
theorem dX0_smallest_18 : decode cX0_smallest 18 = .ok (.iload_n 1, 1) := by decide +kernel
theorem dX0_smallest_19 : decode cX0_smallest 19 = .ok (.invokevirtual 138, 3) := by decide +kernel
theorem dX0_smallest_22 : decode cX0_smallest 22 = .ok (.iastore, 1) := by decide +kernel
theorem dX0_smallest_23 : decode cX0_smallest 23 = .ok (.iconst 0, 1) := by decide +kernel
theorem dX0_smallest_24 : decode cX0_smallest 24 = .ok (.istore 4, 2) := by decide +kernel
theorem dX0_smallest_26 : decode cX0_smallest 26 = .ok (.iload 4, 2) := by decide +kernel
theorem dX0_smallest_28 : decode cX0_smallest 28 = .ok (.sipush 16000, 3) := by decide +kernel
theorem dX0_smallest_31 : decode cX0_smallest 31 = .ok (.if_icmp .ge 127, 3) := by decide +kernel
theorem dX0_smallest_34 : decode cX0_smallest 34 = .ok (.iload_n 3, 1) := by decide +kernel
theorem dX0_smallest_35 : decode cX0_smallest 35 = .ok (.ifCond .lt 123, 3) := by decide +kernel
theorem dX0_smallest_38 : decode cX0_smallest 38 = .ok (.aload_n 0, 1) := by decide +kernel
theorem dX0_smallest_39 : decode cX0_smallest 39 = .ok (.getfield 65, 3) := by decide +kernel
theorem dX0_smallest_42 : decode cX0_smallest 42 = .ok (.iload_n 3, 1) := by decide +kernel
theorem dX0_smallest_43 : decode cX0_smallest 43 = .ok (.iaload, 1) := by decide +kernel
theorem dX0_smallest_44 : decode cX0_smallest 44 = .ok (.ifCond .ne 10, 3) := by decide +kernel
theorem dX0_smallest_47 : decode cX0_smallest 47 = .ok (.iload_n 3, 1) := by decide +kernel
theorem dX0_smallest_48 : decode cX0_smallest 48 = .ok (.iload_n 2, 1) := by decide +kernel
theorem dX0_smallest_49 : decode cX0_smallest 49 = .ok (.if_icmp .ge 5, 3) := by decide +kernel
theorem dX0_smallest_52 : decode cX0_smallest 52 = .ok (.iload_n 3, 1) := by decide +kernel
theorem dX0_smallest_53 : decode cX0_smallest 53 = .ok (.istore_n 2, 1) := by decide +kernel
theorem dX0_smallest_54 : decode cX0_smallest 54 = .ok (.aload_n 0, 1) := by decide +kernel
theorem dX0_smallest_55 : decode cX0_smallest 55 = .ok (.getfield 65, 3) := by decide +kernel
theorem dX0_smallest_58 : decode cX0_smallest 58 = .ok (.iload_n 3, 1) := by decide +kernel
theorem dX0_smallest_59 : decode cX0_smallest 59 = .ok (.iaload, 1) := by decide +kernel
theorem dX0_smallest_60 : decode cX0_smallest 60 = .ok (.ifCond .eq 19, 3) := by decide +kernel
theorem dX0_smallest_63 : decode cX0_smallest 63 = .ok (.iload_n 3, 1) := by decide +kernel
theorem dX0_smallest_64 : decode cX0_smallest 64 = .ok (.iconst 1, 1) := by decide +kernel
theorem dX0_smallest_65 : decode cX0_smallest 65 = .ok (.iadd, 1) := by decide +kernel
theorem dX0_smallest_66 : decode cX0_smallest 66 = .ok (.iload_n 2, 1) := by decide +kernel
theorem dX0_smallest_67 : decode cX0_smallest 67 = .ok (.if_icmp .ge 12, 3) := by decide +kernel
theorem dX0_smallest_70 : decode cX0_smallest 70 = .ok (.aload_n 0, 1) := by decide +kernel
theorem dX0_smallest_71 : decode cX0_smallest 71 = .ok (.getfield 68, 3) := by decide +kernel
theorem dX0_smallest_74 : decode cX0_smallest 74 = .ok (.iload_n 3, 1) := by decide +kernel
theorem dX0_smallest_75 : decode cX0_smallest 75 = .ok (.iaload, 1) := by decide +kernel
theorem dX0_smallest_76 : decode cX0_smallest 76 = .ok (.ifCond .ne 9, 3) := by decide +kernel
theorem dX0_smallest_79 : decode cX0_smallest 79 = .ok (.iinc 3 (-1), 3) := by decide +kernel
theorem dX0_smallest_82 : decode cX0_smallest 82 = .ok (.goto 70, 3) := by decide +kernel
theorem dX0_smallest_85 : decode cX0_smallest 85 = .ok (.aload_n 0, 1) := by decide +kernel
theorem dX0_smallest_86 : decode cX0_smallest 86 = .ok (.getfield 68, 3) := by decide +kernel
theorem dX0_smallest_89 : decode cX0_smallest 89 = .ok (.iload_n 3, 1) := by decide +kernel
theorem dX0_smallest_90 : decode cX0_smallest 90 = .ok (.iaload, 1) := by decide +kernel
theorem dX0_smallest_91 : decode cX0_smallest 91 = .ok (.aload_n 0, 1) := by decide +kernel
theorem dX0_smallest_92 : decode cX0_smallest 92 = .ok (.getfield 68, 3) := by decide +kernel
theorem dX0_smallest_95 : decode cX0_smallest 95 = .ok (.iload_n 3, 1) := by decide +kernel
theorem dX0_smallest_96 : decode cX0_smallest 96 = .ok (.iaload, 1) := by decide +kernel
theorem dX0_smallest_97 : decode cX0_smallest 97 = .ok (.ineg, 1) := by decide +kernel
theorem dX0_smallest_98 : decode cX0_smallest 98 = .ok (.iand, 1) := by decide +kernel
theorem dX0_smallest_99 : decode cX0_smallest 99 = .ok (.istore 5, 2) := by decide +kernel
theorem dX0_smallest_101 : decode cX0_smallest 101 = .ok (.aload_n 0, 1) := by decide +kernel
theorem dX0_smallest_102 : decode cX0_smallest 102 = .ok (.getfield 68, 3) := by decide +kernel
theorem dX0_smallest_105 : decode cX0_smallest 105 = .ok (.iload_n 3, 1) := by decide +kernel
theorem dX0_smallest_106 : decode cX0_smallest 106 = .ok (.dup2, 1) := by decide +kernel
theorem dX0_smallest_107 : decode cX0_smallest 107 = .ok (.iaload, 1) := by decide +kernel
theorem dX0_smallest_108 : decode cX0_smallest 108 = .ok (.iload 5, 2) := by decide +kernel
theorem dX0_smallest_110 : decode cX0_smallest 110 = .ok (.isub, 1) := by decide +kernel
theorem dX0_smallest_111 : decode cX0_smallest 111 = .ok (.iastore, 1) := by decide +kernel
theorem dX0_smallest_112 : decode cX0_smallest 112 = .ok (.aload_n 0, 1) := by decide +kernel
theorem dX0_smallest_113 : decode cX0_smallest 113 = .ok (.getfield 65, 3) := by decide +kernel
theorem dX0_smallest_116 : decode cX0_smallest 116 = .ok (.iload_n 3, 1) := by decide +kernel
theorem dX0_smallest_117 : decode cX0_smallest 117 = .ok (.iaload, 1) := by decide +kernel
theorem dX0_smallest_118 : decode cX0_smallest 118 = .ok (.aload_n 0, 1) := by decide +kernel
theorem dX0_smallest_119 : decode cX0_smallest 119 = .ok (.iload 5, 2) := by decide +kernel
theorem dX0_smallest_121 : decode cX0_smallest 121 = .ok (.invokevirtual 141, 3) := by decide +kernel
theorem dX0_smallest_124 : decode cX0_smallest 124 = .ok (.iconst (-1), 1) := by decide +kernel
theorem dX0_smallest_125 : decode cX0_smallest 125 = .ok (.ixor, 1) := by decide +kernel
theorem dX0_smallest_126 : decode cX0_smallest 126 = .ok (.iand, 1) := by decide +kernel
theorem dX0_smallest_127 : decode cX0_smallest 127 = .ok (.istore 6, 2) := by decide +kernel
theorem dX0_smallest_129 : decode cX0_smallest 129 = .ok (.iinc 3 1, 3) := by decide +kernel
theorem dX0_smallest_132 : decode cX0_smallest 132 = .ok (.aload_n 0, 1) := by decide +kernel
theorem dX0_smallest_133 : decode cX0_smallest 133 = .ok (.getfield 65, 3) := by decide +kernel
theorem dX0_smallest_136 : decode cX0_smallest 136 = .ok (.iload_n 3, 1) := by decide +kernel
theorem dX0_smallest_137 : decode cX0_smallest 137 = .ok (.iload 6, 2) := by decide +kernel
theorem dX0_smallest_139 : decode cX0_smallest 139 = .ok (.iastore, 1) := by decide +kernel
theorem dX0_smallest_140 : decode cX0_smallest 140 = .ok (.aload_n 0, 1) := by decide +kernel
theorem dX0_smallest_141 : decode cX0_smallest 141 = .ok (.getfield 68, 3) := by decide +kernel
theorem dX0_smallest_144 : decode cX0_smallest 144 = .ok (.iload_n 3, 1) := by decide +kernel
theorem dX0_smallest_145 : decode cX0_smallest 145 = .ok (.aload_n 0, 1) := by decide +kernel
theorem dX0_smallest_146 : decode cX0_smallest 146 = .ok (.iload 6, 2) := by decide +kernel
theorem dX0_smallest_148 : decode cX0_smallest 148 = .ok (.invokevirtual 138, 3) := by decide +kernel
theorem dX0_smallest_151 : decode cX0_smallest 151 = .ok (.iastore, 1) := by decide +kernel
theorem dX0_smallest_152 : decode cX0_smallest 152 = .ok (.iinc 4 1, 3) := by decide +kernel
theorem dX0_smallest_155 : decode cX0_smallest 155 = .ok (.goto (-129), 3) := by decide +kernel
theorem dX0_smallest_158 : decode cX0_smallest 158 = .ok (.iload_n 2, 1) := by decide +kernel
theorem dX0_smallest_159 : decode cX0_smallest 159 = .ok (.ireturn, 1) := by decide +kernel
theorem dX0_choices_0 : decode cX0_choices 0 = .ok (.iconst 0, 1) := by decide +kernel
theorem dX0_choices_1 : decode cX0_choices 1 = .ok (.istore_n 2, 1) := by decide +kernel
theorem dX0_choices_2 : decode cX0_choices 2 = .ok (.bipush 7, 2) := by decide +kernel
theorem dX0_choices_4 : decode cX0_choices 4 = .ok (.istore_n 3, 1) := by decide +kernel
theorem dX0_choices_5 : decode cX0_choices 5 = .ok (.iconst 0, 1) := by decide +kernel
theorem dX0_choices_6 : decode cX0_choices 6 = .ok (.istore 4, 2) := by decide +kernel
theorem dX0_choices_8 : decode cX0_choices 8 = .ok (.iload 4, 2) := by decide +kernel
theorem dX0_choices_10 : decode cX0_choices 10 = .ok (.aload_n 0, 1) := by decide +kernel
theorem dX0_choices_11 : decode cX0_choices 11 = .ok (.getfield 90, 3) := by decide +kernel
theorem dX0_choices_14 : decode cX0_choices 14 = .ok (.if_icmp .ge 46, 3) := by decide +kernel
theorem dX0_choices_17 : decode cX0_choices 17 = .ok (.iload_n 1, 1) := by decide +kernel
theorem dX0_choices_18 : decode cX0_choices 18 = .ok (.iload 4, 2) := by decide +kernel
theorem dX0_choices_20 : decode cX0_choices 20 = .ok (.ishr, 1) := by decide +kernel
theorem dX0_choices_21 : decode cX0_choices 21 = .ok (.iconst 1, 1) := by decide +kernel
theorem dX0_choices_22 : decode cX0_choices 22 = .ok (.iand, 1) := by decide +kernel
theorem dX0_choices_23 : decode cX0_choices 23 = .ok (.iconst 1, 1) := by decide +kernel
theorem dX0_choices_24 : decode cX0_choices 24 = .ok (.if_icmp .ne 30, 3) := by decide +kernel
theorem dX0_choices_27 : decode cX0_choices 27 = .ok (.aload_n 0, 1) := by decide +kernel
theorem dX0_choices_28 : decode cX0_choices 28 = .ok (.iload 4, 2) := by decide +kernel
theorem dX0_choices_30 : decode cX0_choices 30 = .ok (.invokevirtual 132, 3) := by decide +kernel
theorem dX0_choices_33 : decode cX0_choices 33 = .ok (.istore 5, 2) := by decide +kernel
theorem dX0_choices_35 : decode cX0_choices 35 = .ok (.iload 5, 2) := by decide +kernel
theorem dX0_choices_37 : decode cX0_choices 37 = .ok (.invokestatic 135, 3) := by decide +kernel
theorem dX0_choices_40 : decode cX0_choices 40 = .ok (.istore 6, 2) := by decide +kernel
theorem dX0_choices_42 : decode cX0_choices 42 = .ok (.iload 6, 2) := by decide +kernel
theorem dX0_choices_44 : decode cX0_choices 44 = .ok (.iload_n 3, 1) := by decide +kernel
theorem dX0_choices_45 : decode cX0_choices 45 = .ok (.if_icmp .ge 9, 3) := by decide +kernel
theorem dX0_choices_48 : decode cX0_choices 48 = .ok (.iload 6, 2) := by decide +kernel
theorem dX0_choices_50 : decode cX0_choices 50 = .ok (.istore_n 3, 1) := by decide +kernel
theorem dX0_choices_51 : decode cX0_choices 51 = .ok (.iload 5, 2) := by decide +kernel
theorem dX0_choices_53 : decode cX0_choices 53 = .ok (.istore_n 2, 1) := by decide +kernel
theorem dX0_choices_54 : decode cX0_choices 54 = .ok (.iinc 4 1, 3) := by decide +kernel
theorem dX0_choices_57 : decode cX0_choices 57 = .ok (.goto (-49), 3) := by decide +kernel
theorem dX0_choices_60 : decode cX0_choices 60 = .ok (.iload_n 2, 1) := by decide +kernel
theorem dX0_choices_61 : decode cX0_choices 61 = .ok (.ireturn, 1) := by decide +kernel
theorem dX0_killsOf_0 : decode cX0_killsOf 0 = .ok (.iconst 0, 1) := by decide +kernel
theorem dX0_killsOf_1 : decode cX0_killsOf 1 = .ok (.istore_n 2, 1) := by decide +kernel
theorem dX0_killsOf_2 : decode cX0_killsOf 2 = .ok (.iload_n 2, 1) := by decide +kernel
theorem dX0_killsOf_3 : decode cX0_killsOf 3 = .ok (.bipush 6, 2) := by decide +kernel
theorem dX0_killsOf_5 : decode cX0_killsOf 5 = .ok (.if_icmp .ge 23, 3) := by decide +kernel
theorem dX0_killsOf_8 : decode cX0_killsOf 8 = .ok (.iload_n 1, 1) := by decide +kernel
theorem dX0_killsOf_9 : decode cX0_killsOf 9 = .ok (.iconst 1, 1) := by decide +kernel
theorem dX0_killsOf_10 : decode cX0_killsOf 10 = .ok (.iload_n 2, 1) := by decide +kernel
theorem dX0_killsOf_11 : decode cX0_killsOf 11 = .ok (.ishl, 1) := by decide +kernel
theorem dX0_killsOf_12 : decode cX0_killsOf 12 = .ok (.if_icmp .ne 10, 3) := by decide +kernel
theorem dX0_killsOf_15 : decode cX0_killsOf 15 = .ok (.aload_n 0, 1) := by decide +kernel
theorem dX0_killsOf_16 : decode cX0_killsOf 16 = .ok (.getfield 62, 3) := by decide +kernel
theorem dX0_killsOf_19 : decode cX0_killsOf 19 = .ok (.iload_n 2, 1) := by decide +kernel
theorem dX0_killsOf_20 : decode cX0_killsOf 20 = .ok (.iaload, 1) := by decide +kernel
theorem dX0_killsOf_21 : decode cX0_killsOf 21 = .ok (.ireturn, 1) := by decide +kernel
theorem dX0_killsOf_22 : decode cX0_killsOf 22 = .ok (.iinc 2 1, 3) := by decide +kernel
theorem dX0_killsOf_25 : decode cX0_killsOf 25 = .ok (.goto (-23), 3) := by decide +kernel
theorem dX0_killsOf_28 : decode cX0_killsOf 28 = .ok (.iconst 0, 1) := by decide +kernel
theorem dX0_killsOf_29 : decode cX0_killsOf 29 = .ok (.ireturn, 1) := by decide +kernel
theorem dX0_same_0 : decode cX0_same 0 = .ok (.aload_n 0, 1) := by decide +kernel
theorem dX0_same_1 : decode cX0_same 1 = .ok (.invokevirtual 125, 3) := by decide +kernel
theorem dX0_same_4 : decode cX0_same 4 = .ok (.iconst 0, 1) := by decide +kernel
theorem dX0_same_5 : decode cX0_same 5 = .ok (.istore_n 1, 1) := by decide +kernel
theorem dX0_same_6 : decode cX0_same 6 = .ok (.iconst 0, 1) := by decide +kernel
theorem dX0_same_7 : decode cX0_same 7 = .ok (.istore_n 2, 1) := by decide +kernel
theorem dX0_same_8 : decode cX0_same 8 = .ok (.iload_n 2, 1) := by decide +kernel
theorem dX0_same_9 : decode cX0_same 9 = .ok (.aload_n 0, 1) := by decide +kernel
theorem dX0_same_10 : decode cX0_same 10 = .ok (.getfield 90, 3) := by decide +kernel
theorem dX0_same_13 : decode cX0_same 13 = .ok (.if_icmp .ge 22, 3) := by decide +kernel
theorem dX0_same_16 : decode cX0_same 16 = .ok (.aload_n 0, 1) := by decide +kernel
theorem dX0_same_17 : decode cX0_same 17 = .ok (.iload_n 2, 1) := by decide +kernel
theorem dX0_same_18 : decode cX0_same 18 = .ok (.invokevirtual 154, 3) := by decide +kernel
theorem dX0_same_21 : decode cX0_same 21 = .ok (.istore_n 3, 1) := by decide +kernel
theorem dX0_same_22 : decode cX0_same 22 = .ok (.iload_n 3, 1) := by decide +kernel
theorem dX0_same_23 : decode cX0_same 23 = .ok (.ifCond .eq 6, 3) := by decide +kernel
theorem dX0_same_26 : decode cX0_same 26 = .ok (.iinc 1 1, 3) := by decide +kernel
theorem dX0_same_29 : decode cX0_same 29 = .ok (.iinc 2 1, 3) := by decide +kernel
theorem dX0_same_32 : decode cX0_same 32 = .ok (.goto (-24), 3) := by decide +kernel
theorem dX0_same_35 : decode cX0_same 35 = .ok (.iload_n 1, 1) := by decide +kernel
theorem dX0_same_36 : decode cX0_same 36 = .ok (.ireturn, 1) := by decide +kernel
theorem dX0_alike_0 : decode cX0_alike 0 = .ok (.iconst 0, 1) := by decide +kernel
theorem dX0_alike_1 : decode cX0_alike 1 = .ok (.istore_n 2, 1) := by decide +kernel
theorem dX0_alike_2 : decode cX0_alike 2 = .ok (.iload_n 2, 1) := by decide +kernel
theorem dX0_alike_3 : decode cX0_alike 3 = .ok (.aload_n 0, 1) := by decide +kernel
theorem dX0_alike_4 : decode cX0_alike 4 = .ok (.getfield 79, 3) := by decide +kernel
theorem dX0_alike_7 : decode cX0_alike 7 = .ok (.if_icmp .ge 48, 3) := by decide +kernel
theorem dX0_alike_10 : decode cX0_alike 10 = .ok (.iload_n 2, 1) := by decide +kernel
theorem dX0_alike_11 : decode cX0_alike 11 = .ok (.bipush 24, 2) := by decide +kernel
theorem dX0_alike_13 : decode cX0_alike 13 = .ok (.imul, 1) := by decide +kernel
theorem dX0_alike_14 : decode cX0_alike 14 = .ok (.iload_n 1, 1) := by decide +kernel
theorem dX0_alike_15 : decode cX0_alike 15 = .ok (.iadd, 1) := by decide +kernel
theorem dX0_alike_16 : decode cX0_alike 16 = .ok (.istore_n 3, 1) := by decide +kernel
theorem dX0_alike_17 : decode cX0_alike 17 = .ok (.aload_n 0, 1) := by decide +kernel
theorem dX0_alike_18 : decode cX0_alike 18 = .ok (.getfield 50, 3) := by decide +kernel
theorem dX0_alike_21 : decode cX0_alike 21 = .ok (.iload_n 3, 1) := by decide +kernel
theorem dX0_alike_22 : decode cX0_alike 22 = .ok (.baload, 1) := by decide +kernel
theorem dX0_alike_23 : decode cX0_alike 23 = .ok (.aload_n 0, 1) := by decide +kernel
theorem dX0_alike_24 : decode cX0_alike 24 = .ok (.getfield 41, 3) := by decide +kernel
theorem dX0_alike_27 : decode cX0_alike 27 = .ok (.iload_n 2, 1) := by decide +kernel
theorem dX0_alike_28 : decode cX0_alike 28 = .ok (.baload, 1) := by decide +kernel
theorem dX0_alike_29 : decode cX0_alike 29 = .ok (.if_icmp .ne 18, 3) := by decide +kernel
theorem dX0_alike_32 : decode cX0_alike 32 = .ok (.aload_n 0, 1) := by decide +kernel
theorem dX0_alike_33 : decode cX0_alike 33 = .ok (.getfield 53, 3) := by decide +kernel
theorem dX0_alike_36 : decode cX0_alike 36 = .ok (.iload_n 3, 1) := by decide +kernel
theorem dX0_alike_37 : decode cX0_alike 37 = .ok (.iaload, 1) := by decide +kernel
theorem dX0_alike_38 : decode cX0_alike 38 = .ok (.aload_n 0, 1) := by decide +kernel
theorem dX0_alike_39 : decode cX0_alike 39 = .ok (.getfield 44, 3) := by decide +kernel
theorem dX0_alike_42 : decode cX0_alike 42 = .ok (.iload_n 2, 1) := by decide +kernel
theorem dX0_alike_43 : decode cX0_alike 43 = .ok (.iaload, 1) := by decide +kernel
theorem dX0_alike_44 : decode cX0_alike 44 = .ok (.if_icmp .eq 5, 3) := by decide +kernel
theorem dX0_alike_47 : decode cX0_alike 47 = .ok (.iconst 0, 1) := by decide +kernel
theorem dX0_alike_48 : decode cX0_alike 48 = .ok (.ireturn, 1) := by decide +kernel
theorem dX0_alike_49 : decode cX0_alike 49 = .ok (.iinc 2 1, 3) := by decide +kernel
theorem dX0_alike_52 : decode cX0_alike 52 = .ok (.goto (-50), 3) := by decide +kernel
theorem dX0_alike_55 : decode cX0_alike 55 = .ok (.iconst 1, 1) := by decide +kernel
theorem dX0_alike_56 : decode cX0_alike 56 = .ok (.ireturn, 1) := by decide +kernel
end
section
set_option maxRecDepth 100000
theorem dX1_init_0 : decode cX1_init 0 = .ok (.aload_n 0, 1) := by decide +kernel
theorem dX1_init_1 : decode cX1_init 1 = .ok (.invokespecial 1, 3) := by decide +kernel
theorem dX1_init_4 : decode cX1_init 4 = .ok (.aload_n 0, 1) := by decide +kernel
theorem dX1_init_5 : decode cX1_init 5 = .ok (.bipush 12, 2) := by decide +kernel
theorem dX1_init_7 : decode cX1_init 7 = .ok (.newarray .int, 2) := by decide +kernel
theorem dX1_init_9 : decode cX1_init 9 = .ok (.putfield 7, 3) := by decide +kernel
theorem dX1_init_12 : decode cX1_init 12 = .ok (.aload_n 0, 1) := by decide +kernel
theorem dX1_init_13 : decode cX1_init 13 = .ok (.bipush 12, 2) := by decide +kernel
theorem dX1_init_15 : decode cX1_init 15 = .ok (.newarray .int, 2) := by decide +kernel
theorem dX1_init_17 : decode cX1_init 17 = .ok (.putfield 13, 3) := by decide +kernel
theorem dX1_init_20 : decode cX1_init 20 = .ok (.aload_n 0, 1) := by decide +kernel
theorem dX1_init_21 : decode cX1_init 21 = .ok (.bipush 12, 2) := by decide +kernel
theorem dX1_init_23 : decode cX1_init 23 = .ok (.newarray .int, 2) := by decide +kernel
theorem dX1_init_25 : decode cX1_init 25 = .ok (.putfield 16, 3) := by decide +kernel
theorem dX1_init_28 : decode cX1_init 28 = .ok (.aload_n 0, 1) := by decide +kernel
theorem dX1_init_29 : decode cX1_init 29 = .ok (.bipush 12, 2) := by decide +kernel
theorem dX1_init_31 : decode cX1_init 31 = .ok (.newarray .int, 2) := by decide +kernel
theorem dX1_init_33 : decode cX1_init 33 = .ok (.putfield 19, 3) := by decide +kernel
theorem dX1_init_36 : decode cX1_init 36 = .ok (.aload_n 0, 1) := by decide +kernel
theorem dX1_init_37 : decode cX1_init 37 = .ok (.bipush 6, 2) := by decide +kernel
theorem dX1_init_39 : decode cX1_init 39 = .ok (.newarray .int, 2) := by decide +kernel
theorem dX1_init_41 : decode cX1_init 41 = .ok (.putfield 22, 3) := by decide +kernel
theorem dX1_init_44 : decode cX1_init 44 = .ok (.aload_n 0, 1) := by decide +kernel
theorem dX1_init_45 : decode cX1_init 45 = .ok (.bipush 6, 2) := by decide +kernel
theorem dX1_init_47 : decode cX1_init 47 = .ok (.newarray .int, 2) := by decide +kernel
theorem dX1_init_49 : decode cX1_init 49 = .ok (.putfield 25, 3) := by decide +kernel
theorem dX1_init_52 : decode cX1_init 52 = .ok (.aload_n 0, 1) := by decide +kernel
theorem dX1_init_53 : decode cX1_init 53 = .ok (.bipush 6, 2) := by decide +kernel
theorem dX1_init_55 : decode cX1_init 55 = .ok (.newarray .boolean, 2) := by decide +kernel
theorem dX1_init_57 : decode cX1_init 57 = .ok (.putfield 28, 3) := by decide +kernel
theorem dX1_init_60 : decode cX1_init 60 = .ok (.aload_n 0, 1) := by decide +kernel
theorem dX1_init_61 : decode cX1_init 61 = .ok (.bipush 6, 2) := by decide +kernel
theorem dX1_init_63 : decode cX1_init 63 = .ok (.newarray .int, 2) := by decide +kernel
theorem dX1_init_65 : decode cX1_init 65 = .ok (.putfield 32, 3) := by decide +kernel
theorem dX1_init_68 : decode cX1_init 68 = .ok (.aload_n 0, 1) := by decide +kernel
theorem dX1_init_69 : decode cX1_init 69 = .ok (.bipush 24, 2) := by decide +kernel
theorem dX1_init_71 : decode cX1_init 71 = .ok (.newarray .int, 2) := by decide +kernel
theorem dX1_init_73 : decode cX1_init 73 = .ok (.putfield 35, 3) := by decide +kernel
theorem dX1_init_76 : decode cX1_init 76 = .ok (.aload_n 0, 1) := by decide +kernel
theorem dX1_init_77 : decode cX1_init 77 = .ok (.bipush 24, 2) := by decide +kernel
theorem dX1_init_79 : decode cX1_init 79 = .ok (.newarray .boolean, 2) := by decide +kernel
theorem dX1_init_81 : decode cX1_init 81 = .ok (.putfield 38, 3) := by decide +kernel
theorem dX1_init_84 : decode cX1_init 84 = .ok (.aload_n 0, 1) := by decide +kernel
theorem dX1_init_85 : decode cX1_init 85 = .ok (.bipush 24, 2) := by decide +kernel
theorem dX1_init_87 : decode cX1_init 87 = .ok (.newarray .int, 2) := by decide +kernel
theorem dX1_init_89 : decode cX1_init 89 = .ok (.putfield 41, 3) := by decide +kernel
theorem dX1_init_92 : decode cX1_init 92 = .ok (.aload_n 0, 1) := by decide +kernel
theorem dX1_init_93 : decode cX1_init 93 = .ok (.iconst 4, 1) := by decide +kernel
theorem dX1_init_94 : decode cX1_init 94 = .ok (.newarray .int, 2) := by decide +kernel
theorem dX1_init_96 : decode cX1_init 96 = .ok (.putfield 44, 3) := by decide +kernel
theorem dX1_init_99 : decode cX1_init 99 = .ok (.return_, 1) := by decide +kernel
theorem dX1_emit_0 : decode cX1_emit 0 = .ok (.iload_n 1, 1) := by decide +kernel
theorem dX1_emit_1 : decode cX1_emit 1 = .ok (.ifCond .lt 9, 3) := by decide +kernel
theorem dX1_emit_4 : decode cX1_emit 4 = .ok (.iload_n 1, 1) := by decide +kernel
theorem dX1_emit_5 : decode cX1_emit 5 = .ok (.bipush 7, 2) := by decide +kernel
theorem dX1_emit_7 : decode cX1_emit 7 = .ok (.if_icmp .le 5, 3) := by decide +kernel
theorem dX1_emit_10 : decode cX1_emit 10 = .ok (.iconst (-1), 1) := by decide +kernel
theorem dX1_emit_11 : decode cX1_emit 11 = .ok (.ireturn, 1) := by decide +kernel
theorem dX1_emit_12 : decode cX1_emit 12 = .ok (.aload_n 0, 1) := by decide +kernel
theorem dX1_emit_13 : decode cX1_emit 13 = .ok (.getfield 47, 3) := by decide +kernel
theorem dX1_emit_16 : decode cX1_emit 16 = .ok (.bipush 12, 2) := by decide +kernel
theorem dX1_emit_18 : decode cX1_emit 18 = .ok (.if_icmp .ne 6, 3) := by decide +kernel
theorem dX1_emit_21 : decode cX1_emit 21 = .ok (.bipush (-2), 2) := by decide +kernel
theorem dX1_emit_23 : decode cX1_emit 23 = .ok (.ireturn, 1) := by decide +kernel
theorem dX1_emit_24 : decode cX1_emit 24 = .ok (.aload_n 0, 1) := by decide +kernel
theorem dX1_emit_25 : decode cX1_emit 25 = .ok (.getfield 7, 3) := by decide +kernel
theorem dX1_emit_28 : decode cX1_emit 28 = .ok (.aload_n 0, 1) := by decide +kernel
theorem dX1_emit_29 : decode cX1_emit 29 = .ok (.getfield 47, 3) := by decide +kernel
theorem dX1_emit_32 : decode cX1_emit 32 = .ok (.iload_n 1, 1) := by decide +kernel
theorem dX1_emit_33 : decode cX1_emit 33 = .ok (.iastore, 1) := by decide +kernel
theorem dX1_emit_34 : decode cX1_emit 34 = .ok (.aload_n 0, 1) := by decide +kernel
theorem dX1_emit_35 : decode cX1_emit 35 = .ok (.getfield 13, 3) := by decide +kernel
theorem dX1_emit_38 : decode cX1_emit 38 = .ok (.aload_n 0, 1) := by decide +kernel
theorem dX1_emit_39 : decode cX1_emit 39 = .ok (.getfield 47, 3) := by decide +kernel
theorem dX1_emit_42 : decode cX1_emit 42 = .ok (.iload_n 2, 1) := by decide +kernel
theorem dX1_emit_43 : decode cX1_emit 43 = .ok (.iconst 3, 1) := by decide +kernel
theorem dX1_emit_44 : decode cX1_emit 44 = .ok (.iand, 1) := by decide +kernel
theorem dX1_emit_45 : decode cX1_emit 45 = .ok (.iastore, 1) := by decide +kernel
theorem dX1_emit_46 : decode cX1_emit 46 = .ok (.aload_n 0, 1) := by decide +kernel
theorem dX1_emit_47 : decode cX1_emit 47 = .ok (.getfield 16, 3) := by decide +kernel
theorem dX1_emit_50 : decode cX1_emit 50 = .ok (.aload_n 0, 1) := by decide +kernel
theorem dX1_emit_51 : decode cX1_emit 51 = .ok (.getfield 47, 3) := by decide +kernel
theorem dX1_emit_54 : decode cX1_emit 54 = .ok (.iload_n 2, 1) := by decide +kernel
theorem dX1_emit_55 : decode cX1_emit 55 = .ok (.iconst 2, 1) := by decide +kernel
theorem dX1_emit_56 : decode cX1_emit 56 = .ok (.ishr, 1) := by decide +kernel
theorem dX1_emit_57 : decode cX1_emit 57 = .ok (.iconst 3, 1) := by decide +kernel
theorem dX1_emit_58 : decode cX1_emit 58 = .ok (.iand, 1) := by decide +kernel
theorem dX1_emit_59 : decode cX1_emit 59 = .ok (.iastore, 1) := by decide +kernel
theorem dX1_emit_60 : decode cX1_emit 60 = .ok (.aload_n 0, 1) := by decide +kernel
theorem dX1_emit_61 : decode cX1_emit 61 = .ok (.getfield 19, 3) := by decide +kernel
theorem dX1_emit_64 : decode cX1_emit 64 = .ok (.aload_n 0, 1) := by decide +kernel
theorem dX1_emit_65 : decode cX1_emit 65 = .ok (.getfield 47, 3) := by decide +kernel
theorem dX1_emit_68 : decode cX1_emit 68 = .ok (.iload_n 3, 1) := by decide +kernel
theorem dX1_emit_69 : decode cX1_emit 69 = .ok (.iastore, 1) := by decide +kernel
theorem dX1_emit_70 : decode cX1_emit 70 = .ok (.aload_n 0, 1) := by decide +kernel
theorem dX1_emit_71 : decode cX1_emit 71 = .ok (.aload_n 0, 1) := by decide +kernel
theorem dX1_emit_72 : decode cX1_emit 72 = .ok (.getfield 47, 3) := by decide +kernel
theorem dX1_emit_75 : decode cX1_emit 75 = .ok (.iconst 1, 1) := by decide +kernel
theorem dX1_emit_76 : decode cX1_emit 76 = .ok (.iadd, 1) := by decide +kernel
theorem dX1_emit_77 : decode cX1_emit 77 = .ok (.putfield 47, 3) := by decide +kernel
theorem dX1_emit_80 : decode cX1_emit 80 = .ok (.aload_n 0, 1) := by decide +kernel
theorem dX1_emit_81 : decode cX1_emit 81 = .ok (.getfield 47, 3) := by decide +kernel
theorem dX1_emit_84 : decode cX1_emit 84 = .ok (.iconst 1, 1) := by decide +kernel
theorem dX1_emit_85 : decode cX1_emit 85 = .ok (.isub, 1) := by decide +kernel
theorem dX1_emit_86 : decode cX1_emit 86 = .ok (.ireturn, 1) := by decide +kernel
theorem dX1_test_0 : decode cX1_test 0 = .ok (.aload_n 0, 1) := by decide +kernel
theorem dX1_test_1 : decode cX1_test 1 = .ok (.getfield 51, 3) := by decide +kernel
theorem dX1_test_4 : decode cX1_test 4 = .ok (.bipush 6, 2) := by decide +kernel
theorem dX1_test_6 : decode cX1_test 6 = .ok (.if_icmp .ne 6, 3) := by decide +kernel
theorem dX1_test_9 : decode cX1_test 9 = .ok (.bipush (-2), 2) := by decide +kernel
theorem dX1_test_11 : decode cX1_test 11 = .ok (.ireturn, 1) := by decide +kernel
theorem dX1_test_12 : decode cX1_test 12 = .ok (.aload_n 0, 1) := by decide +kernel
theorem dX1_test_13 : decode cX1_test 13 = .ok (.iload_n 1, 1) := by decide +kernel
theorem dX1_test_14 : decode cX1_test 14 = .ok (.iload_n 2, 1) := by decide +kernel
theorem dX1_test_15 : decode cX1_test 15 = .ok (.iconst 1, 1) := by decide +kernel
theorem dX1_test_16 : decode cX1_test 16 = .ok (.iload_n 3, 1) := by decide +kernel
theorem dX1_test_17 : decode cX1_test 17 = .ok (.invokevirtual 54, 3) := by decide +kernel
theorem dX1_test_20 : decode cX1_test 20 = .ok (.ireturn, 1) := by decide +kernel
theorem dX1_add_0 : decode cX1_add 0 = .ok (.aload_n 0, 1) := by decide +kernel
theorem dX1_add_1 : decode cX1_add 1 = .ok (.getfield 22, 3) := by decide +kernel
theorem dX1_add_4 : decode cX1_add 4 = .ok (.aload_n 0, 1) := by decide +kernel
theorem dX1_add_5 : decode cX1_add 5 = .ok (.getfield 51, 3) := by decide +kernel
theorem dX1_add_8 : decode cX1_add 8 = .ok (.iload_n 1, 1) := by decide +kernel
theorem dX1_add_9 : decode cX1_add 9 = .ok (.iastore, 1) := by decide +kernel
theorem dX1_add_10 : decode cX1_add 10 = .ok (.aload_n 0, 1) := by decide +kernel
theorem dX1_add_11 : decode cX1_add 11 = .ok (.getfield 25, 3) := by decide +kernel
theorem dX1_add_14 : decode cX1_add 14 = .ok (.aload_n 0, 1) := by decide +kernel
theorem dX1_add_15 : decode cX1_add 15 = .ok (.getfield 51, 3) := by decide +kernel
theorem dX1_add_18 : decode cX1_add 18 = .ok (.iload_n 2, 1) := by decide +kernel
theorem dX1_add_19 : decode cX1_add 19 = .ok (.iastore, 1) := by decide +kernel
theorem dX1_add_20 : decode cX1_add 20 = .ok (.aload_n 0, 1) := by decide +kernel
theorem dX1_add_21 : decode cX1_add 21 = .ok (.getfield 28, 3) := by decide +kernel
theorem dX1_add_24 : decode cX1_add 24 = .ok (.aload_n 0, 1) := by decide +kernel
theorem dX1_add_25 : decode cX1_add 25 = .ok (.getfield 51, 3) := by decide +kernel
theorem dX1_add_28 : decode cX1_add 28 = .ok (.iload_n 3, 1) := by decide +kernel
theorem dX1_add_29 : decode cX1_add 29 = .ok (.bastore, 1) := by decide +kernel
theorem dX1_add_30 : decode cX1_add 30 = .ok (.aload_n 0, 1) := by decide +kernel
theorem dX1_add_31 : decode cX1_add 31 = .ok (.getfield 32, 3) := by decide +kernel
theorem dX1_add_34 : decode cX1_add 34 = .ok (.aload_n 0, 1) := by decide +kernel
theorem dX1_add_35 : decode cX1_add 35 = .ok (.getfield 51, 3) := by decide +kernel
theorem dX1_add_38 : decode cX1_add 38 = .ok (.iload 4, 2) := by decide +kernel
theorem dX1_add_40 : decode cX1_add 40 = .ok (.iastore, 1) := by decide +kernel
theorem dX1_add_41 : decode cX1_add 41 = .ok (.aload_n 0, 1) := by decide +kernel
theorem dX1_add_42 : decode cX1_add 42 = .ok (.aload_n 0, 1) := by decide +kernel
theorem dX1_add_43 : decode cX1_add 43 = .ok (.getfield 51, 3) := by decide +kernel
theorem dX1_add_46 : decode cX1_add 46 = .ok (.iconst 1, 1) := by decide +kernel
theorem dX1_add_47 : decode cX1_add 47 = .ok (.iadd, 1) := by decide +kernel
theorem dX1_add_48 : decode cX1_add 48 = .ok (.putfield 51, 3) := by decide +kernel
theorem dX1_add_51 : decode cX1_add 51 = .ok (.aload_n 0, 1) := by decide +kernel
theorem dX1_add_52 : decode cX1_add 52 = .ok (.getfield 51, 3) := by decide +kernel
theorem dX1_add_55 : decode cX1_add 55 = .ok (.iconst 1, 1) := by decide +kernel
theorem dX1_add_56 : decode cX1_add 56 = .ok (.isub, 1) := by decide +kernel
theorem dX1_add_57 : decode cX1_add 57 = .ok (.ireturn, 1) := by decide +kernel
theorem dX1_snapshotTest_0 : decode cX1_snapshotTest 0 = .ok (.aload_n 0, 1) := by decide +kernel
theorem dX1_snapshotTest_1 : decode cX1_snapshotTest 1 = .ok (.getfield 51, 3) := by decide +kernel
theorem dX1_snapshotTest_4 : decode cX1_snapshotTest 4 = .ok (.bipush 6, 2) := by decide +kernel
theorem dX1_snapshotTest_6 : decode cX1_snapshotTest 6 = .ok (.if_icmp .ne 6, 3) := by decide +kernel
theorem dX1_snapshotTest_9 : decode cX1_snapshotTest 9 = .ok (.bipush (-2), 2) := by decide +kernel
theorem dX1_snapshotTest_11 : decode cX1_snapshotTest 11 = .ok (.ireturn, 1) := by decide +kernel
theorem dX1_snapshotTest_12 : decode cX1_snapshotTest 12 = .ok (.aload_n 0, 1) := by decide +kernel
theorem dX1_snapshotTest_13 : decode cX1_snapshotTest 13 = .ok (.iconst (-1), 1) := by decide +kernel
theorem dX1_snapshotTest_14 : decode cX1_snapshotTest 14 = .ok (.iload_n 1, 1) := by decide +kernel
theorem dX1_snapshotTest_15 : decode cX1_snapshotTest 15 = .ok (.iload_n 2, 1) := by decide +kernel
theorem dX1_snapshotTest_16 : decode cX1_snapshotTest 16 = .ok (.invokevirtual 58, 3) := by decide +kernel
theorem dX1_snapshotTest_19 : decode cX1_snapshotTest 19 = .ok (.aload_n 0, 1) := by decide +kernel
theorem dX1_snapshotTest_20 : decode cX1_snapshotTest 20 = .ok (.iload_n 1, 1) := by decide +kernel
theorem dX1_snapshotTest_21 : decode cX1_snapshotTest 21 = .ok (.iload_n 2, 1) := by decide +kernel
theorem dX1_snapshotTest_22 : decode cX1_snapshotTest 22 = .ok (.aload_n 0, 1) := by decide +kernel
theorem dX1_snapshotTest_23 : decode cX1_snapshotTest 23 = .ok (.getfield 62, 3) := by decide +kernel
theorem dX1_snapshotTest_26 : decode cX1_snapshotTest 26 = .ok (.aload_n 0, 1) := by decide +kernel
theorem dX1_snapshotTest_27 : decode cX1_snapshotTest 27 = .ok (.getfield 44, 3) := by decide +kernel
theorem dX1_snapshotTest_30 : decode cX1_snapshotTest 30 = .ok (.iconst 0, 1) := by decide +kernel
theorem dX1_snapshotTest_31 : decode cX1_snapshotTest 31 = .ok (.iaload, 1) := by decide +kernel
theorem dX1_snapshotTest_32 : decode cX1_snapshotTest 32 = .ok (.invokevirtual 54, 3) := by decide +kernel
theorem dX1_snapshotTest_35 : decode cX1_snapshotTest 35 = .ok (.ireturn, 1) := by decide +kernel
theorem dX1_run_0 : decode cX1_run 0 = .ok (.aload_n 0, 1) := by decide +kernel
theorem dX1_run_1 : decode cX1_run 1 = .ok (.getfield 44, 3) := by decide +kernel
theorem dX1_run_4 : decode cX1_run 4 = .ok (.iconst 0, 1) := by decide +kernel
theorem dX1_run_5 : decode cX1_run 5 = .ok (.iload_n 2, 1) := by decide +kernel
theorem dX1_run_6 : decode cX1_run 6 = .ok (.iastore, 1) := by decide +kernel
theorem dX1_run_7 : decode cX1_run 7 = .ok (.aload_n 0, 1) := by decide +kernel
theorem dX1_run_8 : decode cX1_run 8 = .ok (.getfield 44, 3) := by decide +kernel
theorem dX1_run_11 : decode cX1_run 11 = .ok (.iconst 1, 1) := by decide +kernel
theorem dX1_run_12 : decode cX1_run 12 = .ok (.iload_n 3, 1) := by decide +kernel
theorem dX1_run_13 : decode cX1_run 13 = .ok (.iastore, 1) := by decide +kernel
theorem dX1_run_14 : decode cX1_run 14 = .ok (.aload_n 0, 1) := by decide +kernel
theorem dX1_run_15 : decode cX1_run 15 = .ok (.getfield 44, 3) := by decide +kernel
theorem dX1_run_18 : decode cX1_run 18 = .ok (.iconst 2, 1) := by decide +kernel
theorem dX1_run_19 : decode cX1_run 19 = .ok (.iconst 0, 1) := by decide +kernel
theorem dX1_run_20 : decode cX1_run 20 = .ok (.iastore, 1) := by decide +kernel
theorem dX1_run_21 : decode cX1_run 21 = .ok (.aload_n 0, 1) := by decide +kernel
theorem dX1_run_22 : decode cX1_run 22 = .ok (.getfield 44, 3) := by decide +kernel
theorem dX1_run_25 : decode cX1_run 25 = .ok (.iconst 3, 1) := by decide +kernel
theorem dX1_run_26 : decode cX1_run 26 = .ok (.iconst 0, 1) := by decide +kernel
theorem dX1_run_27 : decode cX1_run 27 = .ok (.iastore, 1) := by decide +kernel
theorem dX1_run_28 : decode cX1_run 28 = .ok (.aload_n 0, 1) := by decide +kernel
theorem dX1_run_29 : decode cX1_run 29 = .ok (.iconst 0, 1) := by decide +kernel
theorem dX1_run_30 : decode cX1_run 30 = .ok (.putfield 73, 3) := by decide +kernel
theorem dX1_run_33 : decode cX1_run 33 = .ok (.iconst 0, 1) := by decide +kernel
theorem dX1_run_34 : decode cX1_run 34 = .ok (.istore 4, 2) := by decide +kernel
theorem dX1_run_36 : decode cX1_run 36 = .ok (.iconst 0, 1) := by decide +kernel
theorem dX1_run_37 : decode cX1_run 37 = .ok (.istore 5, 2) := by decide +kernel
theorem dX1_run_39 : decode cX1_run 39 = .ok (.iload 5, 2) := by decide +kernel
theorem dX1_run_41 : decode cX1_run 41 = .ok (.bipush 100, 2) := by decide +kernel
theorem dX1_run_43 : decode cX1_run 43 = .ok (.if_icmp .ge 120, 3) := by decide +kernel
theorem dX1_run_46 : decode cX1_run 46 = .ok (.iload 4, 2) := by decide +kernel
theorem dX1_run_48 : decode cX1_run 48 = .ok (.ifCond .lt 109, 3) := by decide +kernel
theorem dX1_run_51 : decode cX1_run 51 = .ok (.iload 4, 2) := by decide +kernel
theorem dX1_run_53 : decode cX1_run 53 = .ok (.aload_n 0, 1) := by decide +kernel
theorem dX1_run_54 : decode cX1_run 54 = .ok (.getfield 47, 3) := by decide +kernel
theorem dX1_run_57 : decode cX1_run 57 = .ok (.if_icmp .ge 100, 3) := by decide +kernel
theorem dX1_run_60 : decode cX1_run 60 = .ok (.aload_n 0, 1) := by decide +kernel
theorem dX1_run_61 : decode cX1_run 61 = .ok (.getfield 7, 3) := by decide +kernel
theorem dX1_run_64 : decode cX1_run 64 = .ok (.iload 4, 2) := by decide +kernel
theorem dX1_run_66 : decode cX1_run 66 = .ok (.iaload, 1) := by decide +kernel
theorem dX1_run_67 : decode cX1_run 67 = .ok (.istore 6, 2) := by decide +kernel
theorem dX1_run_69 : decode cX1_run 69 = .ok (.aload_n 0, 1) := by decide +kernel
theorem dX1_run_70 : decode cX1_run 70 = .ok (.getfield 19, 3) := by decide +kernel
theorem dX1_run_73 : decode cX1_run 73 = .ok (.iload 4, 2) := by decide +kernel
theorem dX1_run_75 : decode cX1_run 75 = .ok (.iaload, 1) := by decide +kernel
theorem dX1_run_76 : decode cX1_run 76 = .ok (.istore 7, 2) := by decide +kernel
theorem dX1_run_78 : decode cX1_run 78 = .ok (.iload_n 1, 1) := by decide +kernel
theorem dX1_run_79 : decode cX1_run 79 = .ok (.ifCond .lt 42, 3) := by decide +kernel
theorem dX1_run_82 : decode cX1_run 82 = .ok (.aload_n 0, 1) := by decide +kernel
theorem dX1_run_83 : decode cX1_run 83 = .ok (.getfield 35, 3) := by decide +kernel
theorem dX1_run_86 : decode cX1_run 86 = .ok (.iload_n 1, 1) := by decide +kernel
theorem dX1_run_87 : decode cX1_run 87 = .ok (.iaload, 1) := by decide +kernel
theorem dX1_run_88 : decode cX1_run 88 = .ok (.iload 4, 2) := by decide +kernel
theorem dX1_run_90 : decode cX1_run 90 = .ok (.if_icmp .ne 31, 3) := by decide +kernel
theorem dX1_run_93 : decode cX1_run 93 = .ok (.aload_n 0, 1) := by decide +kernel
theorem dX1_run_94 : decode cX1_run 94 = .ok (.getfield 38, 3) := by decide +kernel
theorem dX1_run_97 : decode cX1_run 97 = .ok (.iload_n 1, 1) := by decide +kernel
theorem dX1_run_98 : decode cX1_run 98 = .ok (.baload, 1) := by decide +kernel
theorem dX1_run_99 : decode cX1_run 99 = .ok (.ifCond .eq 14, 3) := by decide +kernel
theorem dX1_run_102 : decode cX1_run 102 = .ok (.aload_n 0, 1) := by decide +kernel
theorem dX1_run_103 : decode cX1_run 103 = .ok (.getfield 41, 3) := by decide +kernel
theorem dX1_run_106 : decode cX1_run 106 = .ok (.iload_n 1, 1) := by decide +kernel
theorem dX1_run_107 : decode cX1_run 107 = .ok (.iaload, 1) := by decide +kernel
theorem dX1_run_108 : decode cX1_run 108 = .ok (.istore 6, 2) := by decide +kernel
theorem dX1_run_110 : decode cX1_run 110 = .ok (.goto 11, 3) := by decide +kernel
theorem dX1_run_113 : decode cX1_run 113 = .ok (.aload_n 0, 1) := by decide +kernel
theorem dX1_run_114 : decode cX1_run 114 = .ok (.getfield 41, 3) := by decide +kernel
theorem dX1_run_117 : decode cX1_run 117 = .ok (.iload_n 1, 1) := by decide +kernel
theorem dX1_run_118 : decode cX1_run 118 = .ok (.iaload, 1) := by decide +kernel
theorem dX1_run_119 : decode cX1_run 119 = .ok (.istore 7, 2) := by decide +kernel
theorem dX1_run_121 : decode cX1_run 121 = .ok (.aload_n 0, 1) := by decide +kernel
theorem dX1_run_122 : decode cX1_run 122 = .ok (.iload 6, 2) := by decide +kernel
theorem dX1_run_124 : decode cX1_run 124 = .ok (.aload_n 0, 1) := by decide +kernel
theorem dX1_run_125 : decode cX1_run 125 = .ok (.getfield 13, 3) := by decide +kernel
theorem dX1_run_128 : decode cX1_run 128 = .ok (.iload 4, 2) := by decide +kernel
theorem dX1_run_130 : decode cX1_run 130 = .ok (.iaload, 1) := by decide +kernel
theorem dX1_run_131 : decode cX1_run 131 = .ok (.aload_n 0, 1) := by decide +kernel
theorem dX1_run_132 : decode cX1_run 132 = .ok (.getfield 16, 3) := by decide +kernel
theorem dX1_run_135 : decode cX1_run 135 = .ok (.iload 4, 2) := by decide +kernel
theorem dX1_run_137 : decode cX1_run 137 = .ok (.iaload, 1) := by decide +kernel
theorem dX1_run_138 : decode cX1_run 138 = .ok (.iload 7, 2) := by decide +kernel
theorem dX1_run_140 : decode cX1_run 140 = .ok (.iload 4, 2) := by decide +kernel
theorem dX1_run_142 : decode cX1_run 142 = .ok (.invokevirtual 76, 3) := by decide +kernel
theorem dX1_run_145 : decode cX1_run 145 = .ok (.istore 4, 2) := by decide +kernel
theorem dX1_run_147 : decode cX1_run 147 = .ok (.aload_n 0, 1) := by decide +kernel
theorem dX1_run_148 : decode cX1_run 148 = .ok (.aload_n 0, 1) := by decide +kernel
theorem dX1_run_149 : decode cX1_run 149 = .ok (.getfield 73, 3) := by decide +kernel
theorem dX1_run_152 : decode cX1_run 152 = .ok (.iconst 1, 1) := by decide +kernel
theorem dX1_run_153 : decode cX1_run 153 = .ok (.iadd, 1) := by decide +kernel
theorem dX1_run_154 : decode cX1_run 154 = .ok (.putfield 73, 3) := by decide +kernel
theorem dX1_run_157 : decode cX1_run 157 = .ok (.iinc 5 1, 3) := by decide +kernel
theorem dX1_run_160 : decode cX1_run 160 = .ok (.goto (-121), 3) := by decide +kernel
theorem dX1_run_163 : decode cX1_run 163 = .ok (.aload_n 0, 1) := by decide +kernel
theorem dX1_run_164 : decode cX1_run 164 = .ok (.iload 4, 2) := by decide +kernel
theorem dX1_run_166 : decode cX1_run 166 = .ok (.ifCond .lt 12, 3) := by decide +kernel
theorem dX1_run_169 : decode cX1_run 169 = .ok (.iload 4, 2) := by decide +kernel
theorem dX1_run_171 : decode cX1_run 171 = .ok (.aload_n 0, 1) := by decide +kernel
theorem dX1_run_172 : decode cX1_run 172 = .ok (.getfield 47, 3) := by decide +kernel
theorem dX1_run_175 : decode cX1_run 175 = .ok (.if_icmp .lt 7, 3) := by decide +kernel
theorem dX1_run_178 : decode cX1_run 178 = .ok (.iconst 1, 1) := by decide +kernel
theorem dX1_run_179 : decode cX1_run 179 = .ok (.goto 4, 3) := by decide +kernel
theorem dX1_run_182 : decode cX1_run 182 = .ok (.iconst 0, 1) := by decide +kernel
theorem dX1_run_183 : decode cX1_run 183 = .ok (.putfield 62, 3) := by decide +kernel
theorem dX1_run_186 : decode cX1_run 186 = .ok (.return_, 1) := by decide +kernel
theorem dX1_carryOut_0 : decode cX1_carryOut 0 = .ok (.iload_n 1, 1) := by decide +kernel
theorem dX1_carryOut_1 : decode cX1_carryOut 1 = .ok (.ifCond .ne 14, 3) := by decide +kernel
theorem dX1_carryOut_4 : decode cX1_carryOut 4 = .ok (.aload_n 0, 1) := by decide +kernel
theorem dX1_carryOut_5 : decode cX1_carryOut 5 = .ok (.getfield 44, 3) := by decide +kernel
theorem dX1_carryOut_8 : decode cX1_carryOut 8 = .ok (.iload_n 2, 1) := by decide +kernel
theorem dX1_carryOut_9 : decode cX1_carryOut 9 = .ok (.iload 4, 2) := by decide +kernel
theorem dX1_carryOut_11 : decode cX1_carryOut 11 = .ok (.iastore, 1) := by decide +kernel
theorem dX1_carryOut_12 : decode cX1_carryOut 12 = .ok (.goto 198, 3) := by decide +kernel
theorem dX1_carryOut_15 : decode cX1_carryOut 15 = .ok (.iload_n 1, 1) := by decide +kernel
theorem dX1_carryOut_16 : decode cX1_carryOut 16 = .ok (.iconst 1, 1) := by decide +kernel
theorem dX1_carryOut_17 : decode cX1_carryOut 17 = .ok (.if_icmp .ne 25, 3) := by decide +kernel
theorem dX1_carryOut_20 : decode cX1_carryOut 20 = .ok (.aload_n 0, 1) := by decide +kernel
theorem dX1_carryOut_21 : decode cX1_carryOut 21 = .ok (.getfield 44, 3) := by decide +kernel
theorem dX1_carryOut_24 : decode cX1_carryOut 24 = .ok (.iload_n 2, 1) := by decide +kernel
theorem dX1_carryOut_25 : decode cX1_carryOut 25 = .ok (.aload_n 0, 1) := by decide +kernel
theorem dX1_carryOut_26 : decode cX1_carryOut 26 = .ok (.getfield 44, 3) := by decide +kernel
theorem dX1_carryOut_29 : decode cX1_carryOut 29 = .ok (.iload_n 2, 1) := by decide +kernel
theorem dX1_carryOut_30 : decode cX1_carryOut 30 = .ok (.iaload, 1) := by decide +kernel
theorem dX1_carryOut_31 : decode cX1_carryOut 31 = .ok (.aload_n 0, 1) := by decide +kernel
theorem dX1_carryOut_32 : decode cX1_carryOut 32 = .ok (.getfield 44, 3) := by decide +kernel
theorem dX1_carryOut_35 : decode cX1_carryOut 35 = .ok (.iload_n 3, 1) := by decide +kernel
theorem dX1_carryOut_36 : decode cX1_carryOut 36 = .ok (.iaload, 1) := by decide +kernel
theorem dX1_carryOut_37 : decode cX1_carryOut 37 = .ok (.iadd, 1) := by decide +kernel
theorem dX1_carryOut_38 : decode cX1_carryOut 38 = .ok (.iastore, 1) := by decide +kernel
theorem dX1_carryOut_39 : decode cX1_carryOut 39 = .ok (.goto 171, 3) := by decide +kernel
theorem dX1_carryOut_42 : decode cX1_carryOut 42 = .ok (.iload_n 1, 1) := by decide +kernel
theorem dX1_carryOut_43 : decode cX1_carryOut 43 = .ok (.iconst 2, 1) := by decide +kernel
theorem dX1_carryOut_44 : decode cX1_carryOut 44 = .ok (.if_icmp .ne 25, 3) := by decide +kernel
theorem dX1_carryOut_47 : decode cX1_carryOut 47 = .ok (.aload_n 0, 1) := by decide +kernel
theorem dX1_carryOut_48 : decode cX1_carryOut 48 = .ok (.getfield 44, 3) := by decide +kernel
theorem dX1_carryOut_51 : decode cX1_carryOut 51 = .ok (.iload_n 2, 1) := by decide +kernel
theorem dX1_carryOut_52 : decode cX1_carryOut 52 = .ok (.aload_n 0, 1) := by decide +kernel
theorem dX1_carryOut_53 : decode cX1_carryOut 53 = .ok (.getfield 44, 3) := by decide +kernel
theorem dX1_carryOut_56 : decode cX1_carryOut 56 = .ok (.iload_n 2, 1) := by decide +kernel
theorem dX1_carryOut_57 : decode cX1_carryOut 57 = .ok (.iaload, 1) := by decide +kernel
theorem dX1_carryOut_58 : decode cX1_carryOut 58 = .ok (.aload_n 0, 1) := by decide +kernel
theorem dX1_carryOut_59 : decode cX1_carryOut 59 = .ok (.getfield 44, 3) := by decide +kernel
theorem dX1_carryOut_62 : decode cX1_carryOut 62 = .ok (.iload_n 3, 1) := by decide +kernel
theorem dX1_carryOut_63 : decode cX1_carryOut 63 = .ok (.iaload, 1) := by decide +kernel
theorem dX1_carryOut_64 : decode cX1_carryOut 64 = .ok (.isub, 1) := by decide +kernel
theorem dX1_carryOut_65 : decode cX1_carryOut 65 = .ok (.iastore, 1) := by decide +kernel
theorem dX1_carryOut_66 : decode cX1_carryOut 66 = .ok (.goto 144, 3) := by decide +kernel
theorem dX1_carryOut_69 : decode cX1_carryOut 69 = .ok (.iload_n 1, 1) := by decide +kernel
theorem dX1_carryOut_70 : decode cX1_carryOut 70 = .ok (.iconst 3, 1) := by decide +kernel
theorem dX1_carryOut_71 : decode cX1_carryOut 71 = .ok (.if_icmp .ne 25, 3) := by decide +kernel
theorem dX1_carryOut_74 : decode cX1_carryOut 74 = .ok (.aload_n 0, 1) := by decide +kernel
theorem dX1_carryOut_75 : decode cX1_carryOut 75 = .ok (.getfield 44, 3) := by decide +kernel
theorem dX1_carryOut_78 : decode cX1_carryOut 78 = .ok (.iload_n 2, 1) := by decide +kernel
theorem dX1_carryOut_79 : decode cX1_carryOut 79 = .ok (.aload_n 0, 1) := by decide +kernel
theorem dX1_carryOut_80 : decode cX1_carryOut 80 = .ok (.getfield 44, 3) := by decide +kernel
theorem dX1_carryOut_83 : decode cX1_carryOut 83 = .ok (.iload_n 2, 1) := by decide +kernel
theorem dX1_carryOut_84 : decode cX1_carryOut 84 = .ok (.iaload, 1) := by decide +kernel
theorem dX1_carryOut_85 : decode cX1_carryOut 85 = .ok (.aload_n 0, 1) := by decide +kernel
theorem dX1_carryOut_86 : decode cX1_carryOut 86 = .ok (.getfield 44, 3) := by decide +kernel
theorem dX1_carryOut_89 : decode cX1_carryOut 89 = .ok (.iload_n 3, 1) := by decide +kernel
theorem dX1_carryOut_90 : decode cX1_carryOut 90 = .ok (.iaload, 1) := by decide +kernel
theorem dX1_carryOut_91 : decode cX1_carryOut 91 = .ok (.imul, 1) := by decide +kernel
theorem dX1_carryOut_92 : decode cX1_carryOut 92 = .ok (.iastore, 1) := by decide +kernel
theorem dX1_carryOut_93 : decode cX1_carryOut 93 = .ok (.goto 117, 3) := by decide +kernel
theorem dX1_carryOut_96 : decode cX1_carryOut 96 = .ok (.iload_n 1, 1) := by decide +kernel
theorem dX1_carryOut_97 : decode cX1_carryOut 97 = .ok (.iconst 4, 1) := by decide +kernel
theorem dX1_carryOut_98 : decode cX1_carryOut 98 = .ok (.if_icmp .ne 42, 3) := by decide +kernel
theorem dX1_carryOut_101 : decode cX1_carryOut 101 = .ok (.aload_n 0, 1) := by decide +kernel
theorem dX1_carryOut_102 : decode cX1_carryOut 102 = .ok (.getfield 44, 3) := by decide +kernel
theorem dX1_carryOut_105 : decode cX1_carryOut 105 = .ok (.iload_n 2, 1) := by decide +kernel
theorem dX1_carryOut_106 : decode cX1_carryOut 106 = .ok (.aload_n 0, 1) := by decide +kernel
theorem dX1_carryOut_107 : decode cX1_carryOut 107 = .ok (.getfield 44, 3) := by decide +kernel
theorem dX1_carryOut_110 : decode cX1_carryOut 110 = .ok (.iload_n 3, 1) := by decide +kernel
theorem dX1_carryOut_111 : decode cX1_carryOut 111 = .ok (.iaload, 1) := by decide +kernel
theorem dX1_carryOut_112 : decode cX1_carryOut 112 = .ok (.aload_n 0, 1) := by decide +kernel
theorem dX1_carryOut_113 : decode cX1_carryOut 113 = .ok (.getfield 44, 3) := by decide +kernel
theorem dX1_carryOut_116 : decode cX1_carryOut 116 = .ok (.iload_n 2, 1) := by decide +kernel
theorem dX1_carryOut_117 : decode cX1_carryOut 117 = .ok (.iaload, 1) := by decide +kernel
theorem dX1_carryOut_118 : decode cX1_carryOut 118 = .ok (.if_icmp .ge 12, 3) := by decide +kernel
theorem dX1_carryOut_121 : decode cX1_carryOut 121 = .ok (.aload_n 0, 1) := by decide +kernel
theorem dX1_carryOut_122 : decode cX1_carryOut 122 = .ok (.getfield 44, 3) := by decide +kernel
theorem dX1_carryOut_125 : decode cX1_carryOut 125 = .ok (.iload_n 3, 1) := by decide +kernel
theorem dX1_carryOut_126 : decode cX1_carryOut 126 = .ok (.iaload, 1) := by decide +kernel
theorem dX1_carryOut_127 : decode cX1_carryOut 127 = .ok (.goto 9, 3) := by decide +kernel
theorem dX1_carryOut_130 : decode cX1_carryOut 130 = .ok (.aload_n 0, 1) := by decide +kernel
theorem dX1_carryOut_131 : decode cX1_carryOut 131 = .ok (.getfield 44, 3) := by decide +kernel
theorem dX1_carryOut_134 : decode cX1_carryOut 134 = .ok (.iload_n 2, 1) := by decide +kernel
theorem dX1_carryOut_135 : decode cX1_carryOut 135 = .ok (.iaload, 1) := by decide +kernel
theorem dX1_carryOut_136 : decode cX1_carryOut 136 = .ok (.iastore, 1) := by decide +kernel
theorem dX1_carryOut_137 : decode cX1_carryOut 137 = .ok (.goto 73, 3) := by decide +kernel
theorem dX1_carryOut_140 : decode cX1_carryOut 140 = .ok (.iload_n 1, 1) := by decide +kernel
theorem dX1_carryOut_141 : decode cX1_carryOut 141 = .ok (.iconst 5, 1) := by decide +kernel
theorem dX1_carryOut_142 : decode cX1_carryOut 142 = .ok (.if_icmp .ne 28, 3) := by decide +kernel
theorem dX1_carryOut_145 : decode cX1_carryOut 145 = .ok (.aload_n 0, 1) := by decide +kernel
theorem dX1_carryOut_146 : decode cX1_carryOut 146 = .ok (.getfield 44, 3) := by decide +kernel
theorem dX1_carryOut_149 : decode cX1_carryOut 149 = .ok (.iload_n 2, 1) := by decide +kernel
theorem dX1_carryOut_150 : decode cX1_carryOut 150 = .ok (.iaload, 1) := by decide +kernel
theorem dX1_carryOut_151 : decode cX1_carryOut 151 = .ok (.aload_n 0, 1) := by decide +kernel
theorem dX1_carryOut_152 : decode cX1_carryOut 152 = .ok (.getfield 44, 3) := by decide +kernel
theorem dX1_carryOut_155 : decode cX1_carryOut 155 = .ok (.iload_n 3, 1) := by decide +kernel
theorem dX1_carryOut_156 : decode cX1_carryOut 156 = .ok (.iaload, 1) := by decide +kernel
theorem dX1_carryOut_157 : decode cX1_carryOut 157 = .ok (.if_icmp .ge 8, 3) := by decide +kernel
theorem dX1_carryOut_160 : decode cX1_carryOut 160 = .ok (.iload 4, 2) := by decide +kernel
theorem dX1_carryOut_162 : decode cX1_carryOut 162 = .ok (.goto 7, 3) := by decide +kernel
theorem dX1_carryOut_165 : decode cX1_carryOut 165 = .ok (.iload 5, 2) := by decide +kernel
theorem dX1_carryOut_167 : decode cX1_carryOut 167 = .ok (.iconst 1, 1) := by decide +kernel
theorem dX1_carryOut_168 : decode cX1_carryOut 168 = .ok (.iadd, 1) := by decide +kernel
theorem dX1_carryOut_169 : decode cX1_carryOut 169 = .ok (.ireturn, 1) := by decide +kernel
theorem dX1_carryOut_170 : decode cX1_carryOut 170 = .ok (.iload_n 1, 1) := by decide +kernel
theorem dX1_carryOut_171 : decode cX1_carryOut 171 = .ok (.bipush 6, 2) := by decide +kernel
theorem dX1_carryOut_173 : decode cX1_carryOut 173 = .ok (.if_icmp .ne 22, 3) := by decide +kernel
theorem dX1_carryOut_176 : decode cX1_carryOut 176 = .ok (.aload_n 0, 1) := by decide +kernel
theorem dX1_carryOut_177 : decode cX1_carryOut 177 = .ok (.getfield 44, 3) := by decide +kernel
theorem dX1_carryOut_180 : decode cX1_carryOut 180 = .ok (.iload_n 2, 1) := by decide +kernel
theorem dX1_carryOut_181 : decode cX1_carryOut 181 = .ok (.iaload, 1) := by decide +kernel
theorem dX1_carryOut_182 : decode cX1_carryOut 182 = .ok (.ifCond .ne 8, 3) := by decide +kernel
theorem dX1_carryOut_185 : decode cX1_carryOut 185 = .ok (.iload 4, 2) := by decide +kernel
theorem dX1_carryOut_187 : decode cX1_carryOut 187 = .ok (.goto 7, 3) := by decide +kernel
theorem dX1_carryOut_190 : decode cX1_carryOut 190 = .ok (.iload 5, 2) := by decide +kernel
theorem dX1_carryOut_192 : decode cX1_carryOut 192 = .ok (.iconst 1, 1) := by decide +kernel
theorem dX1_carryOut_193 : decode cX1_carryOut 193 = .ok (.iadd, 1) := by decide +kernel
theorem dX1_carryOut_194 : decode cX1_carryOut 194 = .ok (.ireturn, 1) := by decide +kernel
theorem dX1_carryOut_195 : decode cX1_carryOut 195 = .ok (.aload_n 0, 1) := by decide +kernel
theorem dX1_carryOut_196 : decode cX1_carryOut 196 = .ok (.getfield 44, 3) := by decide +kernel
theorem dX1_carryOut_199 : decode cX1_carryOut 199 = .ok (.iload_n 2, 1) := by decide +kernel
theorem dX1_carryOut_200 : decode cX1_carryOut 200 = .ok (.aload_n 0, 1) := by decide +kernel
theorem dX1_carryOut_201 : decode cX1_carryOut 201 = .ok (.getfield 44, 3) := by decide +kernel
theorem dX1_carryOut_204 : decode cX1_carryOut 204 = .ok (.iload_n 2, 1) := by decide +kernel
theorem dX1_carryOut_205 : decode cX1_carryOut 205 = .ok (.iaload, 1) := by decide +kernel
theorem dX1_carryOut_206 : decode cX1_carryOut 206 = .ok (.iload 4, 2) := by decide +kernel
theorem dX1_carryOut_208 : decode cX1_carryOut 208 = .ok (.iadd, 1) := by decide +kernel
theorem dX1_carryOut_209 : decode cX1_carryOut 209 = .ok (.iastore, 1) := by decide +kernel
theorem dX1_carryOut_210 : decode cX1_carryOut 210 = .ok (.iload 5, 2) := by decide +kernel
theorem dX1_carryOut_212 : decode cX1_carryOut 212 = .ok (.iconst 1, 1) := by decide +kernel
theorem dX1_carryOut_213 : decode cX1_carryOut 213 = .ok (.iadd, 1) := by decide +kernel
theorem dX1_carryOut_214 : decode cX1_carryOut 214 = .ok (.ireturn, 1) := by decide +kernel
theorem dX1_mutateOp_0 : decode cX1_mutateOp 0 = .ok (.iload_n 1, 1) := by decide +kernel
theorem dX1_mutateOp_1 : decode cX1_mutateOp 1 = .ok (.ifCond .lt 11, 3) := by decide +kernel
theorem dX1_mutateOp_4 : decode cX1_mutateOp 4 = .ok (.iload_n 1, 1) := by decide +kernel
theorem dX1_mutateOp_5 : decode cX1_mutateOp 5 = .ok (.aload_n 0, 1) := by decide +kernel
theorem dX1_mutateOp_6 : decode cX1_mutateOp 6 = .ok (.getfield 47, 3) := by decide +kernel
theorem dX1_mutateOp_9 : decode cX1_mutateOp 9 = .ok (.if_icmp .lt 6, 3) := by decide +kernel
theorem dX1_mutateOp_12 : decode cX1_mutateOp 12 = .ok (.bipush (-3), 2) := by decide +kernel
theorem dX1_mutateOp_14 : decode cX1_mutateOp 14 = .ok (.ireturn, 1) := by decide +kernel
theorem dX1_mutateOp_15 : decode cX1_mutateOp 15 = .ok (.iload_n 2, 1) := by decide +kernel
theorem dX1_mutateOp_16 : decode cX1_mutateOp 16 = .ok (.ifCond .lt 9, 3) := by decide +kernel
theorem dX1_mutateOp_19 : decode cX1_mutateOp 19 = .ok (.iload_n 2, 1) := by decide +kernel
theorem dX1_mutateOp_20 : decode cX1_mutateOp 20 = .ok (.bipush 7, 2) := by decide +kernel
theorem dX1_mutateOp_22 : decode cX1_mutateOp 22 = .ok (.if_icmp .le 5, 3) := by decide +kernel
theorem dX1_mutateOp_25 : decode cX1_mutateOp 25 = .ok (.iconst (-1), 1) := by decide +kernel
theorem dX1_mutateOp_26 : decode cX1_mutateOp 26 = .ok (.ireturn, 1) := by decide +kernel
theorem dX1_mutateOp_27 : decode cX1_mutateOp 27 = .ok (.aload_n 0, 1) := by decide +kernel
theorem dX1_mutateOp_28 : decode cX1_mutateOp 28 = .ok (.iload_n 1, 1) := by decide +kernel
theorem dX1_mutateOp_29 : decode cX1_mutateOp 29 = .ok (.iconst 1, 1) := by decide +kernel
theorem dX1_mutateOp_30 : decode cX1_mutateOp 30 = .ok (.iload_n 2, 1) := by decide +kernel
theorem dX1_mutateOp_31 : decode cX1_mutateOp 31 = .ok (.invokevirtual 69, 3) := by decide +kernel
theorem dX1_mutateOp_34 : decode cX1_mutateOp 34 = .ok (.ireturn, 1) := by decide +kernel
theorem dX1_mutate_0 : decode cX1_mutate 0 = .ok (.aload_n 0, 1) := by decide +kernel
theorem dX1_mutate_1 : decode cX1_mutate 1 = .ok (.getfield 66, 3) := by decide +kernel
theorem dX1_mutate_4 : decode cX1_mutate 4 = .ok (.bipush 24, 2) := by decide +kernel
theorem dX1_mutate_6 : decode cX1_mutate 6 = .ok (.if_icmp .ne 6, 3) := by decide +kernel
theorem dX1_mutate_9 : decode cX1_mutate 9 = .ok (.bipush (-2), 2) := by decide +kernel
theorem dX1_mutate_11 : decode cX1_mutate 11 = .ok (.ireturn, 1) := by decide +kernel
theorem dX1_mutate_12 : decode cX1_mutate 12 = .ok (.aload_n 0, 1) := by decide +kernel
theorem dX1_mutate_13 : decode cX1_mutate 13 = .ok (.getfield 35, 3) := by decide +kernel
theorem dX1_mutate_16 : decode cX1_mutate 16 = .ok (.aload_n 0, 1) := by decide +kernel
theorem dX1_mutate_17 : decode cX1_mutate 17 = .ok (.getfield 66, 3) := by decide +kernel
theorem dX1_mutate_20 : decode cX1_mutate 20 = .ok (.iload_n 1, 1) := by decide +kernel
theorem dX1_mutate_21 : decode cX1_mutate 21 = .ok (.iastore, 1) := by decide +kernel
theorem dX1_mutate_22 : decode cX1_mutate 22 = .ok (.aload_n 0, 1) := by decide +kernel
theorem dX1_mutate_23 : decode cX1_mutate 23 = .ok (.getfield 38, 3) := by decide +kernel
theorem dX1_mutate_26 : decode cX1_mutate 26 = .ok (.aload_n 0, 1) := by decide +kernel
theorem dX1_mutate_27 : decode cX1_mutate 27 = .ok (.getfield 66, 3) := by decide +kernel
theorem dX1_mutate_30 : decode cX1_mutate 30 = .ok (.iload_n 2, 1) := by decide +kernel
theorem dX1_mutate_31 : decode cX1_mutate 31 = .ok (.bastore, 1) := by decide +kernel
theorem dX1_mutate_32 : decode cX1_mutate 32 = .ok (.aload_n 0, 1) := by decide +kernel
theorem dX1_mutate_33 : decode cX1_mutate 33 = .ok (.getfield 41, 3) := by decide +kernel
theorem dX1_mutate_36 : decode cX1_mutate 36 = .ok (.aload_n 0, 1) := by decide +kernel
theorem dX1_mutate_37 : decode cX1_mutate 37 = .ok (.getfield 66, 3) := by decide +kernel
theorem dX1_mutate_40 : decode cX1_mutate 40 = .ok (.iload_n 3, 1) := by decide +kernel
theorem dX1_mutate_41 : decode cX1_mutate 41 = .ok (.iastore, 1) := by decide +kernel
theorem dX1_mutate_42 : decode cX1_mutate 42 = .ok (.aload_n 0, 1) := by decide +kernel
theorem dX1_mutate_43 : decode cX1_mutate 43 = .ok (.aload_n 0, 1) := by decide +kernel
theorem dX1_mutate_44 : decode cX1_mutate 44 = .ok (.getfield 66, 3) := by decide +kernel
theorem dX1_mutate_47 : decode cX1_mutate 47 = .ok (.iconst 1, 1) := by decide +kernel
theorem dX1_mutate_48 : decode cX1_mutate 48 = .ok (.iadd, 1) := by decide +kernel
theorem dX1_mutate_49 : decode cX1_mutate 49 = .ok (.putfield 66, 3) := by decide +kernel
theorem dX1_mutate_52 : decode cX1_mutate 52 = .ok (.aload_n 0, 1) := by decide +kernel
theorem dX1_mutate_53 : decode cX1_mutate 53 = .ok (.getfield 66, 3) := by decide +kernel
theorem dX1_mutate_56 : decode cX1_mutate 56 = .ok (.iconst 1, 1) := by decide +kernel
theorem dX1_mutate_57 : decode cX1_mutate 57 = .ok (.isub, 1) := by decide +kernel
theorem dX1_mutate_58 : decode cX1_mutate 58 = .ok (.ireturn, 1) := by decide +kernel
theorem dX1_mutateC_0 : decode cX1_mutateC 0 = .ok (.iload_n 1, 1) := by decide +kernel
theorem dX1_mutateC_1 : decode cX1_mutateC 1 = .ok (.ifCond .lt 11, 3) := by decide +kernel
theorem dX1_mutateC_4 : decode cX1_mutateC 4 = .ok (.iload_n 1, 1) := by decide +kernel
theorem dX1_mutateC_5 : decode cX1_mutateC 5 = .ok (.aload_n 0, 1) := by decide +kernel
theorem dX1_mutateC_6 : decode cX1_mutateC 6 = .ok (.getfield 47, 3) := by decide +kernel
theorem dX1_mutateC_9 : decode cX1_mutateC 9 = .ok (.if_icmp .lt 6, 3) := by decide +kernel
theorem dX1_mutateC_12 : decode cX1_mutateC 12 = .ok (.bipush (-3), 2) := by decide +kernel
theorem dX1_mutateC_14 : decode cX1_mutateC 14 = .ok (.ireturn, 1) := by decide +kernel
theorem dX1_mutateC_15 : decode cX1_mutateC 15 = .ok (.aload_n 0, 1) := by decide +kernel
theorem dX1_mutateC_16 : decode cX1_mutateC 16 = .ok (.iload_n 1, 1) := by decide +kernel
theorem dX1_mutateC_17 : decode cX1_mutateC 17 = .ok (.iconst 0, 1) := by decide +kernel
theorem dX1_mutateC_18 : decode cX1_mutateC 18 = .ok (.iload_n 2, 1) := by decide +kernel
theorem dX1_mutateC_19 : decode cX1_mutateC 19 = .ok (.invokevirtual 69, 3) := by decide +kernel
theorem dX1_mutateC_22 : decode cX1_mutateC 22 = .ok (.ireturn, 1) := by decide +kernel
theorem dX1_clear_0 : decode cX1_clear 0 = .ok (.aload_n 0, 1) := by decide +kernel
theorem dX1_clear_1 : decode cX1_clear 1 = .ok (.iconst 0, 1) := by decide +kernel
theorem dX1_clear_2 : decode cX1_clear 2 = .ok (.putfield 51, 3) := by decide +kernel
theorem dX1_clear_5 : decode cX1_clear 5 = .ok (.aload_n 0, 1) := by decide +kernel
theorem dX1_clear_6 : decode cX1_clear 6 = .ok (.iconst 0, 1) := by decide +kernel
theorem dX1_clear_7 : decode cX1_clear 7 = .ok (.putfield 66, 3) := by decide +kernel
theorem dX1_clear_10 : decode cX1_clear 10 = .ok (.return_, 1) := by decide +kernel
theorem dX1_passes_0 : decode cX1_passes 0 = .ok (.aload_n 0, 1) := by decide +kernel
theorem dX1_passes_1 : decode cX1_passes 1 = .ok (.iload_n 1, 1) := by decide +kernel
theorem dX1_passes_2 : decode cX1_passes 2 = .ok (.invokevirtual 80, 3) := by decide +kernel
theorem dX1_passes_5 : decode cX1_passes 5 = .ok (.ifCond .ne 16, 3) := by decide +kernel
theorem dX1_passes_8 : decode cX1_passes 8 = .ok (.aload_n 0, 1) := by decide +kernel
theorem dX1_passes_9 : decode cX1_passes 9 = .ok (.iconst (-1), 1) := by decide +kernel
theorem dX1_passes_10 : decode cX1_passes 10 = .ok (.iload_n 1, 1) := by decide +kernel
theorem dX1_passes_11 : decode cX1_passes 11 = .ok (.invokevirtual 84, 3) := by decide +kernel
theorem dX1_passes_14 : decode cX1_passes 14 = .ok (.ifCond .eq 7, 3) := by decide +kernel
theorem dX1_passes_17 : decode cX1_passes 17 = .ok (.iconst 1, 1) := by decide +kernel
theorem dX1_passes_18 : decode cX1_passes 18 = .ok (.goto 4, 3) := by decide +kernel
theorem dX1_passes_21 : decode cX1_passes 21 = .ok (.iconst 0, 1) := by decide +kernel
theorem dX1_passes_22 : decode cX1_passes 22 = .ok (.ireturn, 1) := by decide +kernel
theorem dX1_noTest_0 : decode cX1_noTest 0 = .ok (.iload_n 1, 1) := by decide +kernel
theorem dX1_noTest_1 : decode cX1_noTest 1 = .ok (.ifCond .lt 11, 3) := by decide +kernel
theorem dX1_noTest_4 : decode cX1_noTest 4 = .ok (.iload_n 1, 1) := by decide +kernel
theorem dX1_noTest_5 : decode cX1_noTest 5 = .ok (.aload_n 0, 1) := by decide +kernel
theorem dX1_noTest_6 : decode cX1_noTest 6 = .ok (.getfield 51, 3) := by decide +kernel
theorem dX1_noTest_9 : decode cX1_noTest 9 = .ok (.if_icmp .lt 7, 3) := by decide +kernel
theorem dX1_noTest_12 : decode cX1_noTest 12 = .ok (.iconst 1, 1) := by decide +kernel
theorem dX1_noTest_13 : decode cX1_noTest 13 = .ok (.goto 4, 3) := by decide +kernel
theorem dX1_noTest_16 : decode cX1_noTest 16 = .ok (.iconst 0, 1) := by decide +kernel
theorem dX1_noTest_17 : decode cX1_noTest 17 = .ok (.ireturn, 1) := by decide +kernel
theorem dX1_ok_0 : decode cX1_ok 0 = .ok (.aload_n 0, 1) := by decide +kernel
theorem dX1_ok_1 : decode cX1_ok 1 = .ok (.iload_n 1, 1) := by decide +kernel
theorem dX1_ok_2 : decode cX1_ok 2 = .ok (.aload_n 0, 1) := by decide +kernel
theorem dX1_ok_3 : decode cX1_ok 3 = .ok (.getfield 22, 3) := by decide +kernel
theorem dX1_ok_6 : decode cX1_ok 6 = .ok (.iload_n 2, 1) := by decide +kernel
theorem dX1_ok_7 : decode cX1_ok 7 = .ok (.iaload, 1) := by decide +kernel
theorem dX1_ok_8 : decode cX1_ok 8 = .ok (.aload_n 0, 1) := by decide +kernel
theorem dX1_ok_9 : decode cX1_ok 9 = .ok (.getfield 25, 3) := by decide +kernel
theorem dX1_ok_12 : decode cX1_ok 12 = .ok (.iload_n 2, 1) := by decide +kernel
theorem dX1_ok_13 : decode cX1_ok 13 = .ok (.iaload, 1) := by decide +kernel
theorem dX1_ok_14 : decode cX1_ok 14 = .ok (.invokevirtual 58, 3) := by decide +kernel
theorem dX1_ok_17 : decode cX1_ok 17 = .ok (.aload_n 0, 1) := by decide +kernel
theorem dX1_ok_18 : decode cX1_ok 18 = .ok (.getfield 62, 3) := by decide +kernel
theorem dX1_ok_21 : decode cX1_ok 21 = .ok (.aload_n 0, 1) := by decide +kernel
theorem dX1_ok_22 : decode cX1_ok 22 = .ok (.getfield 28, 3) := by decide +kernel
theorem dX1_ok_25 : decode cX1_ok 25 = .ok (.iload_n 2, 1) := by decide +kernel
theorem dX1_ok_26 : decode cX1_ok 26 = .ok (.baload, 1) := by decide +kernel
theorem dX1_ok_27 : decode cX1_ok 27 = .ok (.if_icmp .ne 29, 3) := by decide +kernel
theorem dX1_ok_30 : decode cX1_ok 30 = .ok (.aload_n 0, 1) := by decide +kernel
theorem dX1_ok_31 : decode cX1_ok 31 = .ok (.getfield 62, 3) := by decide +kernel
theorem dX1_ok_34 : decode cX1_ok 34 = .ok (.ifCond .eq 18, 3) := by decide +kernel
theorem dX1_ok_37 : decode cX1_ok 37 = .ok (.aload_n 0, 1) := by decide +kernel
theorem dX1_ok_38 : decode cX1_ok 38 = .ok (.getfield 44, 3) := by decide +kernel
theorem dX1_ok_41 : decode cX1_ok 41 = .ok (.iconst 0, 1) := by decide +kernel
theorem dX1_ok_42 : decode cX1_ok 42 = .ok (.iaload, 1) := by decide +kernel
theorem dX1_ok_43 : decode cX1_ok 43 = .ok (.aload_n 0, 1) := by decide +kernel
theorem dX1_ok_44 : decode cX1_ok 44 = .ok (.getfield 32, 3) := by decide +kernel
theorem dX1_ok_47 : decode cX1_ok 47 = .ok (.iload_n 2, 1) := by decide +kernel
theorem dX1_ok_48 : decode cX1_ok 48 = .ok (.iaload, 1) := by decide +kernel
theorem dX1_ok_49 : decode cX1_ok 49 = .ok (.if_icmp .ne 7, 3) := by decide +kernel
theorem dX1_ok_52 : decode cX1_ok 52 = .ok (.iconst 1, 1) := by decide +kernel
theorem dX1_ok_53 : decode cX1_ok 53 = .ok (.goto 4, 3) := by decide +kernel
theorem dX1_ok_56 : decode cX1_ok 56 = .ok (.iconst 0, 1) := by decide +kernel
theorem dX1_ok_57 : decode cX1_ok 57 = .ok (.ireturn, 1) := by decide +kernel
theorem dX1_killers_0 : decode cX1_killers 0 = .ok (.aload_n 0, 1) := by decide +kernel
theorem dX1_killers_1 : decode cX1_killers 1 = .ok (.iload_n 1, 1) := by decide +kernel
theorem dX1_killers_2 : decode cX1_killers 2 = .ok (.invokevirtual 88, 3) := by decide +kernel
theorem dX1_killers_5 : decode cX1_killers 5 = .ok (.ifCond .eq 6, 3) := by decide +kernel
theorem dX1_killers_8 : decode cX1_killers 8 = .ok (.bipush (-4), 2) := by decide +kernel
theorem dX1_killers_10 : decode cX1_killers 10 = .ok (.ireturn, 1) := by decide +kernel
theorem dX1_killers_11 : decode cX1_killers 11 = .ok (.iconst 0, 1) := by decide +kernel
theorem dX1_killers_12 : decode cX1_killers 12 = .ok (.istore_n 2, 1) := by decide +kernel
theorem dX1_killers_13 : decode cX1_killers 13 = .ok (.iconst 0, 1) := by decide +kernel
theorem dX1_killers_14 : decode cX1_killers 14 = .ok (.istore_n 3, 1) := by decide +kernel
theorem dX1_killers_15 : decode cX1_killers 15 = .ok (.iload_n 3, 1) := by decide +kernel
theorem dX1_killers_16 : decode cX1_killers 16 = .ok (.aload_n 0, 1) := by decide +kernel
theorem dX1_killers_17 : decode cX1_killers 17 = .ok (.getfield 51, 3) := by decide +kernel
theorem dX1_killers_20 : decode cX1_killers 20 = .ok (.if_icmp .ge 24, 3) := by decide +kernel
theorem dX1_killers_23 : decode cX1_killers 23 = .ok (.aload_n 0, 1) := by decide +kernel
theorem dX1_killers_24 : decode cX1_killers 24 = .ok (.iload_n 1, 1) := by decide +kernel
theorem dX1_killers_25 : decode cX1_killers 25 = .ok (.iload_n 3, 1) := by decide +kernel
theorem dX1_killers_26 : decode cX1_killers 26 = .ok (.invokevirtual 84, 3) := by decide +kernel
theorem dX1_killers_29 : decode cX1_killers 29 = .ok (.ifCond .ne 9, 3) := by decide +kernel
theorem dX1_killers_32 : decode cX1_killers 32 = .ok (.iload_n 2, 1) := by decide +kernel
theorem dX1_killers_33 : decode cX1_killers 33 = .ok (.iconst 1, 1) := by decide +kernel
theorem dX1_killers_34 : decode cX1_killers 34 = .ok (.iload_n 3, 1) := by decide +kernel
theorem dX1_killers_35 : decode cX1_killers 35 = .ok (.ishl, 1) := by decide +kernel
theorem dX1_killers_36 : decode cX1_killers 36 = .ok (.ior, 1) := by decide +kernel
theorem dX1_killers_37 : decode cX1_killers 37 = .ok (.istore_n 2, 1) := by decide +kernel
theorem dX1_killers_38 : decode cX1_killers 38 = .ok (.iinc 3 1, 3) := by decide +kernel
theorem dX1_killers_41 : decode cX1_killers 41 = .ok (.goto (-26), 3) := by decide +kernel
theorem dX1_killers_44 : decode cX1_killers 44 = .ok (.iload_n 2, 1) := by decide +kernel
theorem dX1_killers_45 : decode cX1_killers 45 = .ok (.ireturn, 1) := by decide +kernel
theorem dX1_noMutant_0 : decode cX1_noMutant 0 = .ok (.iload_n 1, 1) := by decide +kernel
theorem dX1_noMutant_1 : decode cX1_noMutant 1 = .ok (.ifCond .lt 11, 3) := by decide +kernel
theorem dX1_noMutant_4 : decode cX1_noMutant 4 = .ok (.iload_n 1, 1) := by decide +kernel
theorem dX1_noMutant_5 : decode cX1_noMutant 5 = .ok (.aload_n 0, 1) := by decide +kernel
theorem dX1_noMutant_6 : decode cX1_noMutant 6 = .ok (.getfield 66, 3) := by decide +kernel
theorem dX1_noMutant_9 : decode cX1_noMutant 9 = .ok (.if_icmp .lt 7, 3) := by decide +kernel
theorem dX1_noMutant_12 : decode cX1_noMutant 12 = .ok (.iconst 1, 1) := by decide +kernel
theorem dX1_noMutant_13 : decode cX1_noMutant 13 = .ok (.goto 4, 3) := by decide +kernel
theorem dX1_noMutant_16 : decode cX1_noMutant 16 = .ok (.iconst 0, 1) := by decide +kernel
theorem dX1_noMutant_17 : decode cX1_noMutant 17 = .ok (.ireturn, 1) := by decide +kernel
theorem dX1_killed_0 : decode cX1_killed 0 = .ok (.iconst 0, 1) := by decide +kernel
theorem dX1_killed_1 : decode cX1_killed 1 = .ok (.istore_n 2, 1) := by decide +kernel
theorem dX1_killed_2 : decode cX1_killed 2 = .ok (.iconst 0, 1) := by decide +kernel
theorem dX1_killed_3 : decode cX1_killed 3 = .ok (.istore_n 3, 1) := by decide +kernel
theorem dX1_killed_4 : decode cX1_killed 4 = .ok (.iload_n 3, 1) := by decide +kernel
theorem dX1_killed_5 : decode cX1_killed 5 = .ok (.aload_n 0, 1) := by decide +kernel
theorem dX1_killed_6 : decode cX1_killed 6 = .ok (.getfield 66, 3) := by decide +kernel
theorem dX1_killed_9 : decode cX1_killed 9 = .ok (.if_icmp .ge 26, 3) := by decide +kernel
theorem dX1_killed_12 : decode cX1_killed 12 = .ok (.aload_n 0, 1) := by decide +kernel
theorem dX1_killed_13 : decode cX1_killed 13 = .ok (.iload_n 3, 1) := by decide +kernel
theorem dX1_killed_14 : decode cX1_killed 14 = .ok (.invokevirtual 91, 3) := by decide +kernel
theorem dX1_killed_17 : decode cX1_killed 17 = .ok (.istore 4, 2) := by decide +kernel
theorem dX1_killed_19 : decode cX1_killed 19 = .ok (.iload 4, 2) := by decide +kernel
theorem dX1_killed_21 : decode cX1_killed 21 = .ok (.iload_n 1, 1) := by decide +kernel
theorem dX1_killed_22 : decode cX1_killed 22 = .ok (.iand, 1) := by decide +kernel
theorem dX1_killed_23 : decode cX1_killed 23 = .ok (.ifCond .eq 6, 3) := by decide +kernel
theorem dX1_killed_26 : decode cX1_killed 26 = .ok (.iinc 2 1, 3) := by decide +kernel
theorem dX1_killed_29 : decode cX1_killed 29 = .ok (.iinc 3 1, 3) := by decide +kernel
theorem dX1_killed_32 : decode cX1_killed 32 = .ok (.goto (-28), 3) := by decide +kernel
theorem dX1_killed_35 : decode cX1_killed 35 = .ok (.iload_n 2, 1) := by decide +kernel
theorem dX1_killed_36 : decode cX1_killed 36 = .ok (.ireturn, 1) := by decide +kernel
theorem dX1_output_0 : decode cX1_output 0 = .ok (.aload_n 0, 1) := by decide +kernel
theorem dX1_output_1 : decode cX1_output 1 = .ok (.iload_n 1, 1) := by decide +kernel
theorem dX1_output_2 : decode cX1_output 2 = .ok (.invokevirtual 88, 3) := by decide +kernel
theorem dX1_output_5 : decode cX1_output 5 = .ok (.ifCond .ne 11, 3) := by decide +kernel
theorem dX1_output_8 : decode cX1_output 8 = .ok (.aload_n 0, 1) := by decide +kernel
theorem dX1_output_9 : decode cX1_output 9 = .ok (.iload_n 2, 1) := by decide +kernel
theorem dX1_output_10 : decode cX1_output 10 = .ok (.invokevirtual 80, 3) := by decide +kernel
theorem dX1_output_13 : decode cX1_output 13 = .ok (.ifCond .eq 5, 3) := by decide +kernel
theorem dX1_output_16 : decode cX1_output 16 = .ok (.iconst 0, 1) := by decide +kernel
theorem dX1_output_17 : decode cX1_output 17 = .ok (.ireturn, 1) := by decide +kernel
theorem dX1_output_18 : decode cX1_output 18 = .ok (.aload_n 0, 1) := by decide +kernel
theorem dX1_output_19 : decode cX1_output 19 = .ok (.iload_n 1, 1) := by decide +kernel
theorem dX1_output_20 : decode cX1_output 20 = .ok (.aload_n 0, 1) := by decide +kernel
theorem dX1_output_21 : decode cX1_output 21 = .ok (.getfield 22, 3) := by decide +kernel
theorem dX1_output_24 : decode cX1_output 24 = .ok (.iload_n 2, 1) := by decide +kernel
theorem dX1_output_25 : decode cX1_output 25 = .ok (.iaload, 1) := by decide +kernel
theorem dX1_output_26 : decode cX1_output 26 = .ok (.aload_n 0, 1) := by decide +kernel
theorem dX1_output_27 : decode cX1_output 27 = .ok (.getfield 25, 3) := by decide +kernel
theorem dX1_output_30 : decode cX1_output 30 = .ok (.iload_n 2, 1) := by decide +kernel
theorem dX1_output_31 : decode cX1_output 31 = .ok (.iaload, 1) := by decide +kernel
theorem dX1_output_32 : decode cX1_output 32 = .ok (.invokevirtual 58, 3) := by decide +kernel
theorem dX1_output_35 : decode cX1_output 35 = .ok (.aload_n 0, 1) := by decide +kernel
theorem dX1_output_36 : decode cX1_output 36 = .ok (.getfield 62, 3) := by decide +kernel
theorem dX1_output_39 : decode cX1_output 39 = .ok (.ifCond .eq 12, 3) := by decide +kernel
theorem dX1_output_42 : decode cX1_output 42 = .ok (.aload_n 0, 1) := by decide +kernel
theorem dX1_output_43 : decode cX1_output 43 = .ok (.getfield 44, 3) := by decide +kernel
theorem dX1_output_46 : decode cX1_output 46 = .ok (.iconst 0, 1) := by decide +kernel
theorem dX1_output_47 : decode cX1_output 47 = .ok (.iaload, 1) := by decide +kernel
theorem dX1_output_48 : decode cX1_output 48 = .ok (.goto 4, 3) := by decide +kernel
theorem dX1_output_51 : decode cX1_output 51 = .ok (.iconst 0, 1) := by decide +kernel
theorem dX1_output_52 : decode cX1_output 52 = .ok (.ireturn, 1) := by decide +kernel
theorem dX1_length_0 : decode cX1_length 0 = .ok (.aload_n 0, 1) := by decide +kernel
theorem dX1_length_1 : decode cX1_length 1 = .ok (.iload_n 1, 1) := by decide +kernel
theorem dX1_length_2 : decode cX1_length 2 = .ok (.invokevirtual 88, 3) := by decide +kernel
theorem dX1_length_5 : decode cX1_length 5 = .ok (.ifCond .eq 6, 3) := by decide +kernel
theorem dX1_length_8 : decode cX1_length 8 = .ok (.bipush (-4), 2) := by decide +kernel
theorem dX1_length_10 : decode cX1_length 10 = .ok (.ireturn, 1) := by decide +kernel
theorem dX1_length_11 : decode cX1_length 11 = .ok (.aload_n 0, 1) := by decide +kernel
theorem dX1_length_12 : decode cX1_length 12 = .ok (.iload_n 2, 1) := by decide +kernel
theorem dX1_length_13 : decode cX1_length 13 = .ok (.invokevirtual 80, 3) := by decide +kernel
theorem dX1_length_16 : decode cX1_length 16 = .ok (.ifCond .eq 6, 3) := by decide +kernel
theorem dX1_length_19 : decode cX1_length 19 = .ok (.bipush (-5), 2) := by decide +kernel
theorem dX1_length_21 : decode cX1_length 21 = .ok (.ireturn, 1) := by decide +kernel
theorem dX1_length_22 : decode cX1_length 22 = .ok (.aload_n 0, 1) := by decide +kernel
theorem dX1_length_23 : decode cX1_length 23 = .ok (.iload_n 1, 1) := by decide +kernel
theorem dX1_length_24 : decode cX1_length 24 = .ok (.aload_n 0, 1) := by decide +kernel
theorem dX1_length_25 : decode cX1_length 25 = .ok (.getfield 22, 3) := by decide +kernel
theorem dX1_length_28 : decode cX1_length 28 = .ok (.iload_n 2, 1) := by decide +kernel
theorem dX1_length_29 : decode cX1_length 29 = .ok (.iaload, 1) := by decide +kernel
theorem dX1_length_30 : decode cX1_length 30 = .ok (.aload_n 0, 1) := by decide +kernel
theorem dX1_length_31 : decode cX1_length 31 = .ok (.getfield 25, 3) := by decide +kernel
theorem dX1_length_34 : decode cX1_length 34 = .ok (.iload_n 2, 1) := by decide +kernel
theorem dX1_length_35 : decode cX1_length 35 = .ok (.iaload, 1) := by decide +kernel
theorem dX1_length_36 : decode cX1_length 36 = .ok (.invokevirtual 58, 3) := by decide +kernel
theorem dX1_length_39 : decode cX1_length 39 = .ok (.aload_n 0, 1) := by decide +kernel
theorem dX1_length_40 : decode cX1_length 40 = .ok (.getfield 73, 3) := by decide +kernel
theorem dX1_length_43 : decode cX1_length 43 = .ok (.ireturn, 1) := by decide +kernel
theorem dX1_enough_0 : decode cX1_enough 0 = .ok (.bipush 6, 2) := by decide +kernel
theorem dX1_enough_2 : decode cX1_enough 2 = .ok (.istore_n 1, 1) := by decide +kernel
theorem dX1_enough_3 : decode cX1_enough 3 = .ok (.iconst 0, 1) := by decide +kernel
theorem dX1_enough_4 : decode cX1_enough 4 = .ok (.istore_n 2, 1) := by decide +kernel
theorem dX1_enough_5 : decode cX1_enough 5 = .ok (.iload_n 2, 1) := by decide +kernel
theorem dX1_enough_6 : decode cX1_enough 6 = .ok (.bipush 64, 2) := by decide +kernel
theorem dX1_enough_8 : decode cX1_enough 8 = .ok (.if_icmp .ge 51, 3) := by decide +kernel
theorem dX1_enough_11 : decode cX1_enough 11 = .ok (.iconst 0, 1) := by decide +kernel
theorem dX1_enough_12 : decode cX1_enough 12 = .ok (.istore_n 3, 1) := by decide +kernel
theorem dX1_enough_13 : decode cX1_enough 13 = .ok (.iconst 0, 1) := by decide +kernel
theorem dX1_enough_14 : decode cX1_enough 14 = .ok (.istore 4, 2) := by decide +kernel
theorem dX1_enough_16 : decode cX1_enough 16 = .ok (.iload 4, 2) := by decide +kernel
theorem dX1_enough_18 : decode cX1_enough 18 = .ok (.bipush 6, 2) := by decide +kernel
theorem dX1_enough_20 : decode cX1_enough 20 = .ok (.if_icmp .ge 18, 3) := by decide +kernel
theorem dX1_enough_23 : decode cX1_enough 23 = .ok (.iload_n 3, 1) := by decide +kernel
theorem dX1_enough_24 : decode cX1_enough 24 = .ok (.iload_n 2, 1) := by decide +kernel
theorem dX1_enough_25 : decode cX1_enough 25 = .ok (.iload 4, 2) := by decide +kernel
theorem dX1_enough_27 : decode cX1_enough 27 = .ok (.ishr, 1) := by decide +kernel
theorem dX1_enough_28 : decode cX1_enough 28 = .ok (.iconst 1, 1) := by decide +kernel
theorem dX1_enough_29 : decode cX1_enough 29 = .ok (.iand, 1) := by decide +kernel
theorem dX1_enough_30 : decode cX1_enough 30 = .ok (.iadd, 1) := by decide +kernel
theorem dX1_enough_31 : decode cX1_enough 31 = .ok (.istore_n 3, 1) := by decide +kernel
theorem dX1_enough_32 : decode cX1_enough 32 = .ok (.iinc 4 1, 3) := by decide +kernel
theorem dX1_enough_35 : decode cX1_enough 35 = .ok (.goto (-19), 3) := by decide +kernel
theorem dX1_enough_38 : decode cX1_enough 38 = .ok (.iload_n 3, 1) := by decide +kernel
theorem dX1_enough_39 : decode cX1_enough 39 = .ok (.iload_n 1, 1) := by decide +kernel
theorem dX1_enough_40 : decode cX1_enough 40 = .ok (.if_icmp .ge 13, 3) := by decide +kernel
theorem dX1_enough_43 : decode cX1_enough 43 = .ok (.aload_n 0, 1) := by decide +kernel
theorem dX1_enough_44 : decode cX1_enough 44 = .ok (.iload_n 2, 1) := by decide +kernel
theorem dX1_enough_45 : decode cX1_enough 45 = .ok (.invokevirtual 95, 3) := by decide +kernel
theorem dX1_enough_48 : decode cX1_enough 48 = .ok (.ifCond .eq 5, 3) := by decide +kernel
theorem dX1_enough_51 : decode cX1_enough 51 = .ok (.iload_n 3, 1) := by decide +kernel
theorem dX1_enough_52 : decode cX1_enough 52 = .ok (.istore_n 1, 1) := by decide +kernel
theorem dX1_enough_53 : decode cX1_enough 53 = .ok (.iinc 2 1, 3) := by decide +kernel
theorem dX1_enough_56 : decode cX1_enough 56 = .ok (.goto (-51), 3) := by decide +kernel
theorem dX1_enough_59 : decode cX1_enough 59 = .ok (.iload_n 1, 1) := by decide +kernel
theorem dX1_enough_60 : decode cX1_enough 60 = .ok (.ireturn, 1) := by decide +kernel
theorem dX1_killsAll_0 : decode cX1_killsAll 0 = .ok (.iconst 0, 1) := by decide +kernel
theorem dX1_killsAll_1 : decode cX1_killsAll 1 = .ok (.istore_n 2, 1) := by decide +kernel
theorem dX1_killsAll_2 : decode cX1_killsAll 2 = .ok (.iload_n 2, 1) := by decide +kernel
theorem dX1_killsAll_3 : decode cX1_killsAll 3 = .ok (.aload_n 0, 1) := by decide +kernel
theorem dX1_killsAll_4 : decode cX1_killsAll 4 = .ok (.getfield 66, 3) := by decide +kernel
theorem dX1_killsAll_7 : decode cX1_killsAll 7 = .ok (.if_icmp .ge 27, 3) := by decide +kernel
theorem dX1_killsAll_10 : decode cX1_killsAll 10 = .ok (.aload_n 0, 1) := by decide +kernel
theorem dX1_killsAll_11 : decode cX1_killsAll 11 = .ok (.iload_n 2, 1) := by decide +kernel
theorem dX1_killsAll_12 : decode cX1_killsAll 12 = .ok (.invokevirtual 91, 3) := by decide +kernel
theorem dX1_killsAll_15 : decode cX1_killsAll 15 = .ok (.istore_n 3, 1) := by decide +kernel
theorem dX1_killsAll_16 : decode cX1_killsAll 16 = .ok (.iload_n 3, 1) := by decide +kernel
theorem dX1_killsAll_17 : decode cX1_killsAll 17 = .ok (.ifCond .eq 11, 3) := by decide +kernel
theorem dX1_killsAll_20 : decode cX1_killsAll 20 = .ok (.iload_n 3, 1) := by decide +kernel
theorem dX1_killsAll_21 : decode cX1_killsAll 21 = .ok (.iload_n 1, 1) := by decide +kernel
theorem dX1_killsAll_22 : decode cX1_killsAll 22 = .ok (.iand, 1) := by decide +kernel
theorem dX1_killsAll_23 : decode cX1_killsAll 23 = .ok (.ifCond .ne 5, 3) := by decide +kernel
theorem dX1_killsAll_26 : decode cX1_killsAll 26 = .ok (.iconst 0, 1) := by decide +kernel
theorem dX1_killsAll_27 : decode cX1_killsAll 27 = .ok (.ireturn, 1) := by decide +kernel
theorem dX1_killsAll_28 : decode cX1_killsAll 28 = .ok (.iinc 2 1, 3) := by decide +kernel
theorem dX1_killsAll_31 : decode cX1_killsAll 31 = .ok (.goto (-29), 3) := by decide +kernel
theorem dX1_killsAll_34 : decode cX1_killsAll 34 = .ok (.iconst 1, 1) := by decide +kernel
theorem dX1_killsAll_35 : decode cX1_killsAll 35 = .ok (.ireturn, 1) := by decide +kernel
theorem dX1_same_0 : decode cX1_same 0 = .ok (.iconst 0, 1) := by decide +kernel
theorem dX1_same_1 : decode cX1_same 1 = .ok (.istore_n 1, 1) := by decide +kernel
theorem dX1_same_2 : decode cX1_same 2 = .ok (.iconst 0, 1) := by decide +kernel
theorem dX1_same_3 : decode cX1_same 3 = .ok (.istore_n 2, 1) := by decide +kernel
theorem dX1_same_4 : decode cX1_same 4 = .ok (.iload_n 2, 1) := by decide +kernel
theorem dX1_same_5 : decode cX1_same 5 = .ok (.aload_n 0, 1) := by decide +kernel
theorem dX1_same_6 : decode cX1_same 6 = .ok (.getfield 66, 3) := by decide +kernel
theorem dX1_same_9 : decode cX1_same 9 = .ok (.if_icmp .ge 20, 3) := by decide +kernel
theorem dX1_same_12 : decode cX1_same 12 = .ok (.aload_n 0, 1) := by decide +kernel
theorem dX1_same_13 : decode cX1_same 13 = .ok (.iload_n 2, 1) := by decide +kernel
theorem dX1_same_14 : decode cX1_same 14 = .ok (.invokevirtual 98, 3) := by decide +kernel
theorem dX1_same_17 : decode cX1_same 17 = .ok (.ifCond .eq 6, 3) := by decide +kernel
theorem dX1_same_20 : decode cX1_same 20 = .ok (.iinc 1 1, 3) := by decide +kernel
theorem dX1_same_23 : decode cX1_same 23 = .ok (.iinc 2 1, 3) := by decide +kernel
theorem dX1_same_26 : decode cX1_same 26 = .ok (.goto (-22), 3) := by decide +kernel
theorem dX1_same_29 : decode cX1_same 29 = .ok (.iload_n 1, 1) := by decide +kernel
theorem dX1_same_30 : decode cX1_same 30 = .ok (.ireturn, 1) := by decide +kernel
theorem dX1_alike_0 : decode cX1_alike 0 = .ok (.iconst 0, 1) := by decide +kernel
theorem dX1_alike_1 : decode cX1_alike 1 = .ok (.istore_n 2, 1) := by decide +kernel
theorem dX1_alike_2 : decode cX1_alike 2 = .ok (.iload_n 2, 1) := by decide +kernel
theorem dX1_alike_3 : decode cX1_alike 3 = .ok (.aload_n 0, 1) := by decide +kernel
theorem dX1_alike_4 : decode cX1_alike 4 = .ok (.getfield 51, 3) := by decide +kernel
theorem dX1_alike_7 : decode cX1_alike 7 = .ok (.if_icmp .ge 81, 3) := by decide +kernel
theorem dX1_alike_10 : decode cX1_alike 10 = .ok (.aload_n 0, 1) := by decide +kernel
theorem dX1_alike_11 : decode cX1_alike 11 = .ok (.iconst (-1), 1) := by decide +kernel
theorem dX1_alike_12 : decode cX1_alike 12 = .ok (.aload_n 0, 1) := by decide +kernel
theorem dX1_alike_13 : decode cX1_alike 13 = .ok (.getfield 22, 3) := by decide +kernel
theorem dX1_alike_16 : decode cX1_alike 16 = .ok (.iload_n 2, 1) := by decide +kernel
theorem dX1_alike_17 : decode cX1_alike 17 = .ok (.iaload, 1) := by decide +kernel
theorem dX1_alike_18 : decode cX1_alike 18 = .ok (.aload_n 0, 1) := by decide +kernel
theorem dX1_alike_19 : decode cX1_alike 19 = .ok (.getfield 25, 3) := by decide +kernel
theorem dX1_alike_22 : decode cX1_alike 22 = .ok (.iload_n 2, 1) := by decide +kernel
theorem dX1_alike_23 : decode cX1_alike 23 = .ok (.iaload, 1) := by decide +kernel
theorem dX1_alike_24 : decode cX1_alike 24 = .ok (.invokevirtual 58, 3) := by decide +kernel
theorem dX1_alike_27 : decode cX1_alike 27 = .ok (.aload_n 0, 1) := by decide +kernel
theorem dX1_alike_28 : decode cX1_alike 28 = .ok (.getfield 62, 3) := by decide +kernel
theorem dX1_alike_31 : decode cX1_alike 31 = .ok (.istore_n 3, 1) := by decide +kernel
theorem dX1_alike_32 : decode cX1_alike 32 = .ok (.aload_n 0, 1) := by decide +kernel
theorem dX1_alike_33 : decode cX1_alike 33 = .ok (.getfield 44, 3) := by decide +kernel
theorem dX1_alike_36 : decode cX1_alike 36 = .ok (.iconst 0, 1) := by decide +kernel
theorem dX1_alike_37 : decode cX1_alike 37 = .ok (.iaload, 1) := by decide +kernel
theorem dX1_alike_38 : decode cX1_alike 38 = .ok (.istore 4, 2) := by decide +kernel
theorem dX1_alike_40 : decode cX1_alike 40 = .ok (.aload_n 0, 1) := by decide +kernel
theorem dX1_alike_41 : decode cX1_alike 41 = .ok (.iload_n 1, 1) := by decide +kernel
theorem dX1_alike_42 : decode cX1_alike 42 = .ok (.aload_n 0, 1) := by decide +kernel
theorem dX1_alike_43 : decode cX1_alike 43 = .ok (.getfield 22, 3) := by decide +kernel
theorem dX1_alike_46 : decode cX1_alike 46 = .ok (.iload_n 2, 1) := by decide +kernel
theorem dX1_alike_47 : decode cX1_alike 47 = .ok (.iaload, 1) := by decide +kernel
theorem dX1_alike_48 : decode cX1_alike 48 = .ok (.aload_n 0, 1) := by decide +kernel
theorem dX1_alike_49 : decode cX1_alike 49 = .ok (.getfield 25, 3) := by decide +kernel
theorem dX1_alike_52 : decode cX1_alike 52 = .ok (.iload_n 2, 1) := by decide +kernel
theorem dX1_alike_53 : decode cX1_alike 53 = .ok (.iaload, 1) := by decide +kernel
theorem dX1_alike_54 : decode cX1_alike 54 = .ok (.invokevirtual 58, 3) := by decide +kernel
theorem dX1_alike_57 : decode cX1_alike 57 = .ok (.aload_n 0, 1) := by decide +kernel
theorem dX1_alike_58 : decode cX1_alike 58 = .ok (.getfield 62, 3) := by decide +kernel
theorem dX1_alike_61 : decode cX1_alike 61 = .ok (.iload_n 3, 1) := by decide +kernel
theorem dX1_alike_62 : decode cX1_alike 62 = .ok (.if_icmp .ne 18, 3) := by decide +kernel
theorem dX1_alike_65 : decode cX1_alike 65 = .ok (.iload_n 3, 1) := by decide +kernel
theorem dX1_alike_66 : decode cX1_alike 66 = .ok (.ifCond .eq 16, 3) := by decide +kernel
theorem dX1_alike_69 : decode cX1_alike 69 = .ok (.aload_n 0, 1) := by decide +kernel
theorem dX1_alike_70 : decode cX1_alike 70 = .ok (.getfield 44, 3) := by decide +kernel
theorem dX1_alike_73 : decode cX1_alike 73 = .ok (.iconst 0, 1) := by decide +kernel
theorem dX1_alike_74 : decode cX1_alike 74 = .ok (.iaload, 1) := by decide +kernel
theorem dX1_alike_75 : decode cX1_alike 75 = .ok (.iload 4, 2) := by decide +kernel
theorem dX1_alike_77 : decode cX1_alike 77 = .ok (.if_icmp .eq 5, 3) := by decide +kernel
theorem dX1_alike_80 : decode cX1_alike 80 = .ok (.iconst 0, 1) := by decide +kernel
theorem dX1_alike_81 : decode cX1_alike 81 = .ok (.ireturn, 1) := by decide +kernel
theorem dX1_alike_82 : decode cX1_alike 82 = .ok (.iinc 2 1, 3) := by decide +kernel
theorem dX1_alike_85 : decode cX1_alike 85 = .ok (.goto (-83), 3) := by decide +kernel
theorem dX1_alike_88 : decode cX1_alike 88 = .ok (.iconst 1, 1) := by decide +kernel
theorem dX1_alike_89 : decode cX1_alike 89 = .ok (.ireturn, 1) := by decide +kernel
end
section
/-! THE LAYER. One activation as a tuple; 'G': the walk's goal at a pc, with locals L, stack st, over the cells ws. A state of an object: u k j (field k; a scalar's value is u k 0, an array's contents are u k). -/
abbrev GU : Type := Nat → Nat → Int32
def gE : Type := Launch × va_G × ClassId × ClassId
def gE.l (E : gE) : Launch := E.1
def gE.D (E : gE) : va_G := E.2.1
def gE.dI (E : gE) : ClassId := E.2.2.1
def gE.dZ (E : gE) : ClassId := E.2.2.2
def gC : Type := Program × Env × Room × State × MethodId × Array Value × List Frame × Method × Code × (Nat → Prop) × (State → Prop)
def gC.p (X : gC) : Program := X.1
def gC.e (X : gC) : Env := X.2.1
def gC.R (X : gC) : Room := X.2.2.1
def gC.s (X : gC) : State := X.2.2.2.1
def gC.m (X : gC) : MethodId := X.2.2.2.2.1
def gC.args (X : gC) : Array Value := X.2.2.2.2.2.1
def gC.below (X : gC) : List Frame := X.2.2.2.2.2.2.1
def gC.meth (X : gC) : Method := X.2.2.2.2.2.2.2.1
def gC.c (X : gC) : Code := X.2.2.2.2.2.2.2.2.1
def gC.A (X : gC) : Nat → Prop := X.2.2.2.2.2.2.2.2.2.1
def gC.Q (X : gC) : State → Prop := X.2.2.2.2.2.2.2.2.2.2
abbrev vwCl : List vw_C := [(RX0, TX0, 27), (RX1, TX1, 17)]
abbrev gTy (E : gE) : List (ClassId × FieldType) := [(E.dI, .int), (E.dZ, .boolean)]
/-- what is fixed in an activation -/
def gK (E : gE) (X : gC) (cc : ByteArray) (nL : Nat) (own : String) (rm : Room) : Prop :=
  X.R = rm ∧ X.p.tables.exec = Jvm.exec ∧ X.c.code = cc ∧ X.c.maxLocals = nL ∧ X.meth.locks = false ∧ X.s.vm.findClass own = some X.m.cls ∧ (∀ w ∈ lw_all, w.before X.args X.s = true) ∧ (∀ q, X.s.heap.size ≤ q → X.A q) ∧ va_K E.D vwCl (gTy E) X.s
/-- the locals, from the first on -/
def gL (ls : Array Slot) (nL : Nat) (L : List Value) : Prop := ls.size = nL ∧ lv_wf ls ∧ ∀ (i : Nat) (v : Value), L[i]? = some v → ls[i]? = some (.val v) ∧ v.category = 1
def gW (E : gE) (X : gC) (ce sl : Nat) (H : Heap) (locs : List Loc) (pc : Nat) (ls : Array Slot) (st : List Value) : Prop := W X.p E.l X.e X.R X.s X.m X.args X.below X.meth X.c H locs ce sl X.Q (F0 X.m pc ls st)
def G (E : gE) (X : gC) (nL ce sl : Nat) (ws : va_W) (pc : Nat) (L st : List Value) : Prop :=
  ∀ (H : Heap) (locs : List Loc) (ls : Array Slot), va_P E.D vwCl ws H → va_D X.A ws → va_S X.A X.s.heap H locs → gL ls nL L → gW E X ce sl H locs pc ls st
def gset (L : List Value) (i : Nat) (v : Value) : List Value := if i < L.length then L.set i v else L ++ [v]
def lvz : Nat → List Value → List (Nat × Value)
  | _, [] => []
  | k, v :: t => (k, v) :: lvz (k + 1) t
theorem lvz_mem : ∀ (L : List Value) (k i : Nat) (v : Value), (i, v) ∈ lvz k L → k ≤ i ∧ L[i - k]? = some v
  | [], _, _, _, h => by cases h
  | w :: t, k, i, v, h => by
    rcases List.mem_cons.mp h with h | h
    · cases h
      exact ⟨Nat.le_refl _, by rw [Nat.sub_self]; rfl⟩
    · obtain ⟨h1, h2⟩ := lvz_mem t (k + 1) i v h
      refine ⟨by omega, ?_⟩
      rw [show i - k = (i - (k + 1)) + 1 by omega, List.getElem?_cons_succ]
      exact h2
theorem lvz_of : ∀ (L : List Value) (k i : Nat) (v : Value), L[i]? = some v → (k + i, v) ∈ lvz k L
  | [], _, i, _, h => by simp at h
  | w :: t, k, 0, v, h => by
    rw [List.getElem?_cons_zero] at h
    cases h
    exact List.mem_cons_self
  | w :: t, k, i + 1, v, h => by
    rw [List.getElem?_cons_succ] at h
    have h1 := lvz_of t (k + 1) i v h
    rw [show k + 1 + i = k + (i + 1) by omega] at h1
    exact List.mem_cons_of_mem _ h1
theorem gL.has {ls : Array Slot} {nL : Nat} {L : List Value} (h : gL ls nL L) : lv_has ls nL (lvz 0 L) := by
  refine ⟨h.1, h.2.1, fun q hq => ?_⟩
  obtain ⟨i, v⟩ := q
  obtain ⟨-, h2⟩ := lvz_mem L 0 i v hq
  exact (h.2.2 i v h2).1
theorem gL.rd {ls : Array Slot} {nL : Nat} {L : List Value} (h : gL ls nL L) {i : Nat} {v : Value} (hi : L[i]? = some v) : ls[i]? = some (.val v) := (h.2.2 i v hi).1
/-- behind a store at i -/
theorem gL.put {ls ls' : Array Slot} {nL : Nat} {L : List Value} {i : Nat} {w : Value} (h : gL ls nL L) (hw : w.category = 1) (hi : i ≤ L.length)
    (h' : lv_has ls' nL ((i, w) :: (lvz 0 L).filter (fun q => !(q.1 == i) && !(q.1 + 1 == i && q.2.category == 2)))) : gL ls' nL (gset L i w) := by
  refine ⟨h'.1, h'.2.1, fun j v hj => ?_⟩
  have key : (j = i ∧ v = w) ∨ (j ≠ i ∧ L[j]? = some v) := by
    unfold gset at hj
    by_cases hl : i < L.length
    · rw [if_pos hl] at hj
      by_cases hji : j = i
      · subst hji
        rw [List.getElem?_set_self hl] at hj
        exact Or.inl ⟨rfl, (Option.some.inj hj).symm⟩
      · rw [List.getElem?_set_ne (Ne.symm hji)] at hj
        exact Or.inr ⟨hji, hj⟩
    · rw [if_neg hl] at hj
      have he : i = L.length := by omega
      by_cases hji : j < L.length
      · rw [List.getElem?_append_left hji] at hj
        exact Or.inr ⟨by omega, hj⟩
      · rw [List.getElem?_append_right (by omega)] at hj
        have hz : j - L.length < 1 := (List.getElem?_eq_some_iff.mp hj).1
        have : j = i := by omega
        subst this
        rw [show j - L.length = 0 by omega, List.getElem?_cons_zero] at hj
        exact Or.inl ⟨rfl, (Option.some.inj hj).symm⟩
  rcases key with ⟨rfl, rfl⟩ | ⟨h1, h2⟩
  · exact ⟨h'.2.2 (j, v) List.mem_cons_self, hw⟩
  · have hc := (h.2.2 j v h2).2
    refine ⟨h'.2.2 (j, v) (List.mem_cons_of_mem _ (List.mem_filter.mpr ⟨?_, ?_⟩)), hc⟩
    · have := lvz_of L 0 j v h2
      rwa [Nat.zero_add] at this
    · simp [h1, hc]
theorem gL.entry {av : List Value} {n : Nat} (hav : (lg_sl av).length ≤ n) (hc : ∀ v ∈ av, v.category = 1) : gL ((lg_sl av ++ List.replicate (n - (lg_sl av).length) Slot.unset).toArray) n av := by
  have h := lv_entry av hav
  refine ⟨h.1, h.2.1, fun i v hi => ⟨?_, hc v (List.mem_of_getElem? hi)⟩⟩
  have key : ∀ (l : List Value), (∀ v ∈ l, v.category = 1) → lg_sl l = l.map Slot.val := by
    intro l
    induction l with
    | nil => intro _; rfl
    | cons w t ih =>
      intro hl
      have h1 : w.category = 1 := hl w List.mem_cons_self
      have h2 := ih (fun v hv => hl v (List.mem_cons_of_mem _ hv))
      unfold lg_sl at h2 ⊢
      rw [List.flatMap_cons, h2, if_neg (by rw [h1]; decide)]
      rfl
  have hlt : i < av.length := (List.getElem?_eq_some_iff.mp hi).1
  rw [List.getElem?_toArray, List.getElem?_append_left (by rw [key av hc, List.length_map]; exact hlt), key av hc, List.getElem?_map, hi]
  rfl
section GRows
variable {E : gE} {X : gC} {cc : ByteArray} {nL : Nat} {own : String} {rm : Room} {ce sl : Nat} {ws : va_W} {pc : Nat} {L st : List Value}
theorem G.top {v w : Value} (h : v = w) (k : G E X nL ce sl ws pc L (w :: st)) : G E X nL ce sl ws pc L (v :: st) := h ▸ k
theorem G.topi {x y : Int32} (h : x = y) (k : G E X nL ce sl ws pc L (.int y :: st)) : G E X nL ce sl ws pc L (.int x :: st) := h ▸ k
theorem G.eqs {st' : List Value} (h : st = st') (k : G E X nL ce sl ws pc L st') : G E X nL ce sl ws pc L st := h ▸ k
theorem G.eqL {L' : List Value} (h : L = L') (k : G E X nL ce sl ws pc L' st) : G E X nL ce sl ws pc L st := h ▸ k
theorem G.eqw {ws' : va_W} (h : ws = ws') (k : G E X nL ce sl ws' pc L st) : G E X nL ce sl ws pc L st := h ▸ k
/-- fewer locals are needed further on -/
theorem G.drop {L' : List Value} (h : ∀ (i : Nat) (v : Value), L'[i]? = some v → L[i]? = some v) (k : G E X nL ce sl ws pc L' st) : G E X nL ce sl ws pc L st :=
  fun H locs ls hP hD hS hL => k H locs ls hP hD hS ⟨hL.1, hL.2.1, fun i v hi => hL.2.2 i v (h i v hi)⟩
theorem G.take {L' : List Value} (n : Nat) (h : L.take n = L') (k : G E X nL ce sl ws pc L' st) : G E X nL ce sl ws pc L st := by
  refine G.drop (fun i v hi => ?_) k
  subst h
  rw [List.getElem?_take] at hi
  split at hi
  · exact hi
  · cases hi
theorem g_iconst (hX : gK E X cc nL own rm) {n : Int} {v : Int32} (hd : decode cc pc = .ok (.iconst n, 1)) (hv : Int32.ofInt n = v) (k : G E X nL ce sl ws (pc + 1) L (.int v :: st)) : G E X nL ce sl ws pc L st :=
  fun H locs ls hP hD hS hL => lv_iconst hX.2.1 hX.2.2.1 hd hv (k H locs ls hP hD hS hL)
theorem g_bipush (hX : gK E X cc nL own rm) {n : Int} {v : Int32} (hd : decode cc pc = .ok (.bipush n, 2)) (hv : (Int8.ofInt n).toInt32 = v) (k : G E X nL ce sl ws (pc + 2) L (.int v :: st)) : G E X nL ce sl ws pc L st :=
  fun H locs ls hP hD hS hL => lv_bipush hX.2.1 hX.2.2.1 hd hv (k H locs ls hP hD hS hL)
theorem g_sipush (hX : gK E X cc nL own rm) {n : Int} {v : Int32} (hd : decode cc pc = .ok (.sipush n, 3)) (hv : (Int16.ofInt n).toInt32 = v) (k : G E X nL ce sl ws (pc + 3) L (.int v :: st)) : G E X nL ce sl ws pc L st :=
  fun H locs ls hP hD hS hL => lv_sipush hX.2.1 hX.2.2.1 hd hv (k H locs ls hP hD hS hL)
theorem g_iload_n (hX : gK E X cc nL own rm) {q : Fin 4} {i : Nat} {x : Int32} (hd : decode cc pc = .ok (.iload_n q, 1)) (hq : (q : Nat) = i) (hx : L[i]? = some (.int x)) (k : G E X nL ce sl ws (pc + 1) L (.int x :: st)) : G E X nL ce sl ws pc L st :=
  fun H locs ls hP hD hS hL => lv_iload_n hX.2.1 hX.2.2.1 hd hq (hL.rd hx) (k H locs ls hP hD hS hL)
theorem g_iload (hX : gK E X cc nL own rm) {i : Nat} {x : Int32} (hd : decode cc pc = .ok (.iload i, 2)) (hx : L[i]? = some (.int x)) (k : G E X nL ce sl ws (pc + 2) L (.int x :: st)) : G E X nL ce sl ws pc L st :=
  fun H locs ls hP hD hS hL => lv_iload hX.2.1 hX.2.2.1 hd (hL.rd hx) (k H locs ls hP hD hS hL)
theorem g_aload_n (hX : gK E X cc nL own rm) {q : Fin 4} {i : Nat} {x : Nat} (hd : decode cc pc = .ok (.aload_n q, 1)) (hq : (q : Nat) = i) (hx : L[i]? = some (.ref x)) (k : G E X nL ce sl ws (pc + 1) L (.ref x :: st)) : G E X nL ce sl ws pc L st :=
  fun H locs ls hP hD hS hL => lv_aload_n hX.2.1 hX.2.2.1 hd hq (hL.rd hx) (k H locs ls hP hD hS hL)
theorem g_istore_n (hX : gK E X cc nL own rm) {q : Fin 4} {i : Nat} {x : Int32} {L' : List Value} (hd : decode cc pc = .ok (.istore_n q, 1)) (hq : (q : Nat) = i) (hi : i ≤ L.length) (hn : i < nL) (hL' : gset L i (.int x) = L') (k : G E X nL ce sl ws (pc + 1) L' st) : G E X nL ce sl ws pc L (.int x :: st) :=
  fun H locs ls hP hD hS hL => lv_istore_n hX.2.1 hX.2.2.1 hd hq hL.has hn rfl (fun ls' h' => k H locs ls' hP hD hS (hL' ▸ hL.put rfl hi h'))
theorem g_istore (hX : gK E X cc nL own rm) {i : Nat} {x : Int32} {L' : List Value} (hd : decode cc pc = .ok (.istore i, 2)) (hi : i ≤ L.length) (hn : i < nL) (hL' : gset L i (.int x) = L') (k : G E X nL ce sl ws (pc + 2) L' st) : G E X nL ce sl ws pc L (.int x :: st) :=
  fun H locs ls hP hD hS hL => lv_istore hX.2.1 hX.2.2.1 hd hL.has hn rfl (fun ls' h' => k H locs ls' hP hD hS (hL' ▸ hL.put rfl hi h'))
theorem g_astore_n (hX : gK E X cc nL own rm) {q : Fin 4} {i : Nat} {x : Nat} {L' : List Value} (hd : decode cc pc = .ok (.astore_n q, 1)) (hq : (q : Nat) = i) (hi : i ≤ L.length) (hn : i < nL) (hL' : gset L i (.ref x) = L') (k : G E X nL ce sl ws (pc + 1) L' st) : G E X nL ce sl ws pc L (.ref x :: st) :=
  fun H locs ls hP hD hS hL => lv_astore_n hX.2.1 hX.2.2.1 hd hq hL.has hn rfl (fun ls' h' => k H locs ls' hP hD hS (hL' ▸ hL.put rfl hi h'))
theorem g_iincG (hX : gK E X cc nL own rm) {i : Nat} {n : Int} {x v : Int32} {L' : List Value} (hd : decode cc pc = .ok (.iinc i n, 3)) (hx : L[i]? = some (.int x)) (hv : x + Int32.ofInt n = v) (hn : i < nL) (hL' : gset L i (.int v) = L') (k : G E X nL ce sl ws (pc + 3) L' st) : G E X nL ce sl ws pc L st := by
  intro H locs ls hP hD hS hL
  have hm := lvz_of L 0 i _ hx
  rw [Nat.zero_add] at hm
  obtain ⟨j, hj⟩ := List.getElem?_of_mem hm
  exact lv_iinc hX.2.1 hX.2.2.1 hd hL.has hj hv hn rfl (fun ls' h' => k H locs ls' hP hD hS (hL' ▸ hL.put rfl (Nat.le_of_lt (List.getElem?_eq_some_iff.mp hx).1) h'))
theorem g_iadd (hX : gK E X cc nL own rm) {x y : Int32} (hd : decode cc pc = .ok (.iadd, 1)) (k : G E X nL ce sl ws (pc + 1) L (.int (x + y) :: st)) : G E X nL ce sl ws pc L (.int y :: .int x :: st) :=
  fun H locs ls hP hD hS hL => lv_iadd hX.2.1 hX.2.2.1 hd (k H locs ls hP hD hS hL)
theorem g_isub (hX : gK E X cc nL own rm) {x y : Int32} (hd : decode cc pc = .ok (.isub, 1)) (k : G E X nL ce sl ws (pc + 1) L (.int (x - y) :: st)) : G E X nL ce sl ws pc L (.int y :: .int x :: st) :=
  fun H locs ls hP hD hS hL => lv_isub hX.2.1 hX.2.2.1 hd (k H locs ls hP hD hS hL)
theorem g_imul (hX : gK E X cc nL own rm) {x y : Int32} (hd : decode cc pc = .ok (.imul, 1)) (k : G E X nL ce sl ws (pc + 1) L (.int (x * y) :: st)) : G E X nL ce sl ws pc L (.int y :: .int x :: st) :=
  fun H locs ls hP hD hS hL => lv_imul hX.2.1 hX.2.2.1 hd (k H locs ls hP hD hS hL)
theorem g_iand (hX : gK E X cc nL own rm) {x y : Int32} (hd : decode cc pc = .ok (.iand, 1)) (k : G E X nL ce sl ws (pc + 1) L (.int (x &&& y) :: st)) : G E X nL ce sl ws pc L (.int y :: .int x :: st) :=
  fun H locs ls hP hD hS hL => lv_iand hX.2.1 hX.2.2.1 hd (k H locs ls hP hD hS hL)
theorem g_ior (hX : gK E X cc nL own rm) {x y : Int32} (hd : decode cc pc = .ok (.ior, 1)) (k : G E X nL ce sl ws (pc + 1) L (.int (x ||| y) :: st)) : G E X nL ce sl ws pc L (.int y :: .int x :: st) :=
  fun H locs ls hP hD hS hL => lv_ior hX.2.1 hX.2.2.1 hd (k H locs ls hP hD hS hL)
theorem g_ixor (hX : gK E X cc nL own rm) {x y : Int32} (hd : decode cc pc = .ok (.ixor, 1)) (k : G E X nL ce sl ws (pc + 1) L (.int (x ^^^ y) :: st)) : G E X nL ce sl ws pc L (.int y :: .int x :: st) :=
  fun H locs ls hP hD hS hL => lv_ixor hX.2.1 hX.2.2.1 hd (k H locs ls hP hD hS hL)
theorem g_ishl (hX : gK E X cc nL own rm) {x y : Int32} (hd : decode cc pc = .ok (.ishl, 1)) (k : G E X nL ce sl ws (pc + 1) L (.int (x <<< (y &&& 31)) :: st)) : G E X nL ce sl ws pc L (.int y :: .int x :: st) :=
  fun H locs ls hP hD hS hL => lv_ishl hX.2.1 hX.2.2.1 hd (k H locs ls hP hD hS hL)
theorem g_ishr (hX : gK E X cc nL own rm) {x y : Int32} (hd : decode cc pc = .ok (.ishr, 1)) (k : G E X nL ce sl ws (pc + 1) L (.int (x >>> (y &&& 31)) :: st)) : G E X nL ce sl ws pc L (.int y :: .int x :: st) :=
  fun H locs ls hP hD hS hL => lv_ishr hX.2.1 hX.2.2.1 hd (k H locs ls hP hD hS hL)
theorem g_ineg (hX : gK E X cc nL own rm) {x : Int32} (hd : decode cc pc = .ok (.ineg, 1)) (k : G E X nL ce sl ws (pc + 1) L (.int (-x) :: st)) : G E X nL ce sl ws pc L (.int x :: st) :=
  fun H locs ls hP hD hS hL => lv_ineg hX.2.1 hX.2.2.1 hd (k H locs ls hP hD hS hL)
theorem g_dupi (hX : gK E X cc nL own rm) {x : Int32} (hd : decode cc pc = .ok (.dup, 1)) (k : G E X nL ce sl ws (pc + 1) L (.int x :: .int x :: st)) : G E X nL ce sl ws pc L (.int x :: st) :=
  fun H locs ls hP hD hS hL => lv_dup hX.2.1 hX.2.2.1 hd rfl (k H locs ls hP hD hS hL)
theorem g_dupr (hX : gK E X cc nL own rm) {x : Nat} (hd : decode cc pc = .ok (.dup, 1)) (k : G E X nL ce sl ws (pc + 1) L (.ref x :: .ref x :: st)) : G E X nL ce sl ws pc L (.ref x :: st) :=
  fun H locs ls hP hD hS hL => lv_dup hX.2.1 hX.2.2.1 hd rfl (k H locs ls hP hD hS hL)
theorem g_dup2 (hX : gK E X cc nL own rm) {x : Int32} {y : Nat} (hd : decode cc pc = .ok (.dup2, 1)) (k : G E X nL ce sl ws (pc + 1) L (.int x :: .ref y :: .int x :: .ref y :: st)) : G E X nL ce sl ws pc L (.int x :: .ref y :: st) :=
  fun H locs ls hP hD hS hL => lv_dup2_11 hX.2.1 hX.2.2.1 hd rfl rfl (k H locs ls hP hD hS hL)
theorem g_goto (hX : gK E X cc nL own rm) {off : Int} {tgt : Nat} (hd : decode cc pc = .ok (.goto off, 3)) (ht : (pc : Int) + off = (tgt : Int)) (k : G E X nL ce sl ws tgt L st) : G E X nL ce sl ws pc L st :=
  fun H locs ls hP hD hS hL => lv_goto hX.2.1 hX.2.2.1 hd ht (k H locs ls hP hD hS hL)
theorem g_if_eq (hX : gK E X cc nL own rm) {x : Int32} {off : Int} {tgt : Nat} (hd : decode cc pc = .ok (.ifCond .eq off, 3)) (ht : (pc : Int) + off = (tgt : Int)) (kt : x = 0 → G E X nL ce sl ws tgt L st) (kf : ¬ x = 0 → G E X nL ce sl ws (pc + 3) L st) : G E X nL ce sl ws pc L (.int x :: st) :=
  fun H locs ls hP hD hS hL => lv_if_eq hX.2.1 hX.2.2.1 hd ht (fun h => kt h H locs ls hP hD hS hL) (fun h => kf h H locs ls hP hD hS hL)
theorem g_icmp_eq (hX : gK E X cc nL own rm) {x y : Int32} {off : Int} {tgt : Nat} (hd : decode cc pc = .ok (.if_icmp .eq off, 3)) (ht : (pc : Int) + off = (tgt : Int)) (kt : x = y → G E X nL ce sl ws tgt L st) (kf : ¬ x = y → G E X nL ce sl ws (pc + 3) L st) : G E X nL ce sl ws pc L (.int y :: .int x :: st) :=
  fun H locs ls hP hD hS hL => lv_icmp_eq hX.2.1 hX.2.2.1 hd ht (fun h => kt h H locs ls hP hD hS hL) (fun h => kf h H locs ls hP hD hS hL)
theorem g_if_ne (hX : gK E X cc nL own rm) {x : Int32} {off : Int} {tgt : Nat} (hd : decode cc pc = .ok (.ifCond .ne off, 3)) (ht : (pc : Int) + off = (tgt : Int)) (kt : ¬ x = 0 → G E X nL ce sl ws tgt L st) (kf : x = 0 → G E X nL ce sl ws (pc + 3) L st) : G E X nL ce sl ws pc L (.int x :: st) :=
  fun H locs ls hP hD hS hL => lv_if_ne hX.2.1 hX.2.2.1 hd ht (fun h => kt h H locs ls hP hD hS hL) (fun h => kf h H locs ls hP hD hS hL)
theorem g_icmp_ne (hX : gK E X cc nL own rm) {x y : Int32} {off : Int} {tgt : Nat} (hd : decode cc pc = .ok (.if_icmp .ne off, 3)) (ht : (pc : Int) + off = (tgt : Int)) (kt : ¬ x = y → G E X nL ce sl ws tgt L st) (kf : x = y → G E X nL ce sl ws (pc + 3) L st) : G E X nL ce sl ws pc L (.int y :: .int x :: st) :=
  fun H locs ls hP hD hS hL => lv_icmp_ne hX.2.1 hX.2.2.1 hd ht (fun h => kt h H locs ls hP hD hS hL) (fun h => kf h H locs ls hP hD hS hL)
theorem g_if_lt (hX : gK E X cc nL own rm) {x : Int32} {off : Int} {tgt : Nat} (hd : decode cc pc = .ok (.ifCond .lt off, 3)) (ht : (pc : Int) + off = (tgt : Int)) (kt : x < 0 → G E X nL ce sl ws tgt L st) (kf : ¬ x < 0 → G E X nL ce sl ws (pc + 3) L st) : G E X nL ce sl ws pc L (.int x :: st) :=
  fun H locs ls hP hD hS hL => lv_if_lt hX.2.1 hX.2.2.1 hd ht (fun h => kt h H locs ls hP hD hS hL) (fun h => kf h H locs ls hP hD hS hL)
theorem g_icmp_lt (hX : gK E X cc nL own rm) {x y : Int32} {off : Int} {tgt : Nat} (hd : decode cc pc = .ok (.if_icmp .lt off, 3)) (ht : (pc : Int) + off = (tgt : Int)) (kt : x < y → G E X nL ce sl ws tgt L st) (kf : ¬ x < y → G E X nL ce sl ws (pc + 3) L st) : G E X nL ce sl ws pc L (.int y :: .int x :: st) :=
  fun H locs ls hP hD hS hL => lv_icmp_lt hX.2.1 hX.2.2.1 hd ht (fun h => kt h H locs ls hP hD hS hL) (fun h => kf h H locs ls hP hD hS hL)
theorem g_if_ge (hX : gK E X cc nL own rm) {x : Int32} {off : Int} {tgt : Nat} (hd : decode cc pc = .ok (.ifCond .ge off, 3)) (ht : (pc : Int) + off = (tgt : Int)) (kt : 0 ≤ x → G E X nL ce sl ws tgt L st) (kf : ¬ 0 ≤ x → G E X nL ce sl ws (pc + 3) L st) : G E X nL ce sl ws pc L (.int x :: st) :=
  fun H locs ls hP hD hS hL => lv_if_ge hX.2.1 hX.2.2.1 hd ht (fun h => kt h H locs ls hP hD hS hL) (fun h => kf h H locs ls hP hD hS hL)
theorem g_icmp_ge (hX : gK E X cc nL own rm) {x y : Int32} {off : Int} {tgt : Nat} (hd : decode cc pc = .ok (.if_icmp .ge off, 3)) (ht : (pc : Int) + off = (tgt : Int)) (kt : y ≤ x → G E X nL ce sl ws tgt L st) (kf : ¬ y ≤ x → G E X nL ce sl ws (pc + 3) L st) : G E X nL ce sl ws pc L (.int y :: .int x :: st) :=
  fun H locs ls hP hD hS hL => lv_icmp_ge hX.2.1 hX.2.2.1 hd ht (fun h => kt h H locs ls hP hD hS hL) (fun h => kf h H locs ls hP hD hS hL)
theorem g_if_gt (hX : gK E X cc nL own rm) {x : Int32} {off : Int} {tgt : Nat} (hd : decode cc pc = .ok (.ifCond .gt off, 3)) (ht : (pc : Int) + off = (tgt : Int)) (kt : 0 < x → G E X nL ce sl ws tgt L st) (kf : ¬ 0 < x → G E X nL ce sl ws (pc + 3) L st) : G E X nL ce sl ws pc L (.int x :: st) :=
  fun H locs ls hP hD hS hL => lv_if_gt hX.2.1 hX.2.2.1 hd ht (fun h => kt h H locs ls hP hD hS hL) (fun h => kf h H locs ls hP hD hS hL)
theorem g_icmp_gt (hX : gK E X cc nL own rm) {x y : Int32} {off : Int} {tgt : Nat} (hd : decode cc pc = .ok (.if_icmp .gt off, 3)) (ht : (pc : Int) + off = (tgt : Int)) (kt : y < x → G E X nL ce sl ws tgt L st) (kf : ¬ y < x → G E X nL ce sl ws (pc + 3) L st) : G E X nL ce sl ws pc L (.int y :: .int x :: st) :=
  fun H locs ls hP hD hS hL => lv_icmp_gt hX.2.1 hX.2.2.1 hd ht (fun h => kt h H locs ls hP hD hS hL) (fun h => kf h H locs ls hP hD hS hL)
theorem g_if_le (hX : gK E X cc nL own rm) {x : Int32} {off : Int} {tgt : Nat} (hd : decode cc pc = .ok (.ifCond .le off, 3)) (ht : (pc : Int) + off = (tgt : Int)) (kt : x ≤ 0 → G E X nL ce sl ws tgt L st) (kf : ¬ x ≤ 0 → G E X nL ce sl ws (pc + 3) L st) : G E X nL ce sl ws pc L (.int x :: st) :=
  fun H locs ls hP hD hS hL => lv_if_le hX.2.1 hX.2.2.1 hd ht (fun h => kt h H locs ls hP hD hS hL) (fun h => kf h H locs ls hP hD hS hL)
theorem g_icmp_le (hX : gK E X cc nL own rm) {x y : Int32} {off : Int} {tgt : Nat} (hd : decode cc pc = .ok (.if_icmp .le off, 3)) (ht : (pc : Int) + off = (tgt : Int)) (kt : x ≤ y → G E X nL ce sl ws tgt L st) (kf : ¬ x ≤ y → G E X nL ce sl ws (pc + 3) L st) : G E X nL ce sl ws pc L (.int y :: .int x :: st) :=
  fun H locs ls hP hD hS hL => lv_icmp_le hX.2.1 hX.2.2.1 hd ht (fun h => kt h H locs ls hP hD hS hL) (fun h => kf h H locs ls hP hD hS hL)
theorem g_ist1s (hX : gK E X cc nL own rm) {v0 w : Value} {t : List Value} {x : Int32} (hd : decode cc pc = .ok (.istore_n 1, 1)) (hn : 1 < nL) (k : G E X nL ce sl ws (pc + 1) (v0 :: .int x :: t) st) : G E X nL ce sl ws pc (v0 :: w :: t) (.int x :: st) :=
  g_istore_n (i := 1) hX hd rfl (by simp) hn (by simp [gset]) k
theorem g_ist1n (hX : gK E X cc nL own rm) {v0 : Value} {x : Int32} (hd : decode cc pc = .ok (.istore_n 1, 1)) (hn : 1 < nL) (k : G E X nL ce sl ws (pc + 1) (v0 :: .int x :: []) st) : G E X nL ce sl ws pc [v0] (.int x :: st) :=
  g_istore_n (i := 1) hX hd rfl (by simp) hn (by simp [gset]) k
theorem g_inc1 (hX : gK E X cc nL own rm) {v0 : Value} {t : List Value} {x : Int32} (hd : decode cc pc = .ok (.iinc 1 1, 3)) (hn : 1 < nL) (k : G E X nL ce sl ws (pc + 3) (v0 :: .int (x + 1) :: t) st) : G E X nL ce sl ws pc (v0 :: .int x :: t) st :=
  g_iincG hX hd rfl (v := x + 1) rfl hn (by simp [gset]) k
theorem g_inc1N (hX : gK E X cc nL own rm) {v0 : Value} {t : List Value} {j : Nat} (hd : decode cc pc = .ok (.iinc 1 1, 3)) (hn : 1 < nL) (k : G E X nL ce sl ws (pc + 3) (v0 :: .int (nI (j + 1)) :: t) st) : G E X nL ce sl ws pc (v0 :: .int (nI j) :: t) st :=
  g_iincG hX hd rfl (v := nI (j + 1)) (nI_1 j) hn (by simp [gset]) k
theorem g_ist2s (hX : gK E X cc nL own rm) {v0 v1 w : Value} {t : List Value} {x : Int32} (hd : decode cc pc = .ok (.istore_n 2, 1)) (hn : 2 < nL) (k : G E X nL ce sl ws (pc + 1) (v0 :: v1 :: .int x :: t) st) : G E X nL ce sl ws pc (v0 :: v1 :: w :: t) (.int x :: st) :=
  g_istore_n (i := 2) hX hd rfl (by simp) hn (by simp [gset]) k
theorem g_ist2n (hX : gK E X cc nL own rm) {v0 v1 : Value} {x : Int32} (hd : decode cc pc = .ok (.istore_n 2, 1)) (hn : 2 < nL) (k : G E X nL ce sl ws (pc + 1) (v0 :: v1 :: .int x :: []) st) : G E X nL ce sl ws pc [v0, v1] (.int x :: st) :=
  g_istore_n (i := 2) hX hd rfl (by simp) hn (by simp [gset]) k
theorem g_inc2 (hX : gK E X cc nL own rm) {v0 v1 : Value} {t : List Value} {x : Int32} (hd : decode cc pc = .ok (.iinc 2 1, 3)) (hn : 2 < nL) (k : G E X nL ce sl ws (pc + 3) (v0 :: v1 :: .int (x + 1) :: t) st) : G E X nL ce sl ws pc (v0 :: v1 :: .int x :: t) st :=
  g_iincG hX hd rfl (v := x + 1) rfl hn (by simp [gset]) k
theorem g_inc2N (hX : gK E X cc nL own rm) {v0 v1 : Value} {t : List Value} {j : Nat} (hd : decode cc pc = .ok (.iinc 2 1, 3)) (hn : 2 < nL) (k : G E X nL ce sl ws (pc + 3) (v0 :: v1 :: .int (nI (j + 1)) :: t) st) : G E X nL ce sl ws pc (v0 :: v1 :: .int (nI j) :: t) st :=
  g_iincG hX hd rfl (v := nI (j + 1)) (nI_1 j) hn (by simp [gset]) k
theorem g_ist3s (hX : gK E X cc nL own rm) {v0 v1 v2 w : Value} {t : List Value} {x : Int32} (hd : decode cc pc = .ok (.istore_n 3, 1)) (hn : 3 < nL) (k : G E X nL ce sl ws (pc + 1) (v0 :: v1 :: v2 :: .int x :: t) st) : G E X nL ce sl ws pc (v0 :: v1 :: v2 :: w :: t) (.int x :: st) :=
  g_istore_n (i := 3) hX hd rfl (by simp) hn (by simp [gset]) k
theorem g_ist3n (hX : gK E X cc nL own rm) {v0 v1 v2 : Value} {x : Int32} (hd : decode cc pc = .ok (.istore_n 3, 1)) (hn : 3 < nL) (k : G E X nL ce sl ws (pc + 1) (v0 :: v1 :: v2 :: .int x :: []) st) : G E X nL ce sl ws pc [v0, v1, v2] (.int x :: st) :=
  g_istore_n (i := 3) hX hd rfl (by simp) hn (by simp [gset]) k
theorem g_inc3 (hX : gK E X cc nL own rm) {v0 v1 v2 : Value} {t : List Value} {x : Int32} (hd : decode cc pc = .ok (.iinc 3 1, 3)) (hn : 3 < nL) (k : G E X nL ce sl ws (pc + 3) (v0 :: v1 :: v2 :: .int (x + 1) :: t) st) : G E X nL ce sl ws pc (v0 :: v1 :: v2 :: .int x :: t) st :=
  g_iincG hX hd rfl (v := x + 1) rfl hn (by simp [gset]) k
theorem g_inc3N (hX : gK E X cc nL own rm) {v0 v1 v2 : Value} {t : List Value} {j : Nat} (hd : decode cc pc = .ok (.iinc 3 1, 3)) (hn : 3 < nL) (k : G E X nL ce sl ws (pc + 3) (v0 :: v1 :: v2 :: .int (nI (j + 1)) :: t) st) : G E X nL ce sl ws pc (v0 :: v1 :: v2 :: .int (nI j) :: t) st :=
  g_iincG hX hd rfl (v := nI (j + 1)) (nI_1 j) hn (by simp [gset]) k
theorem g_ist4s (hX : gK E X cc nL own rm) {v0 v1 v2 v3 w : Value} {t : List Value} {x : Int32} (hd : decode cc pc = .ok (.istore 4, 2)) (hn : 4 < nL) (k : G E X nL ce sl ws (pc + 2) (v0 :: v1 :: v2 :: v3 :: .int x :: t) st) : G E X nL ce sl ws pc (v0 :: v1 :: v2 :: v3 :: w :: t) (.int x :: st) :=
  g_istore hX hd (by simp) hn (by simp [gset]) k
theorem g_ist4n (hX : gK E X cc nL own rm) {v0 v1 v2 v3 : Value} {x : Int32} (hd : decode cc pc = .ok (.istore 4, 2)) (hn : 4 < nL) (k : G E X nL ce sl ws (pc + 2) (v0 :: v1 :: v2 :: v3 :: .int x :: []) st) : G E X nL ce sl ws pc [v0, v1, v2, v3] (.int x :: st) :=
  g_istore hX hd (by simp) hn (by simp [gset]) k
theorem g_inc4 (hX : gK E X cc nL own rm) {v0 v1 v2 v3 : Value} {t : List Value} {x : Int32} (hd : decode cc pc = .ok (.iinc 4 1, 3)) (hn : 4 < nL) (k : G E X nL ce sl ws (pc + 3) (v0 :: v1 :: v2 :: v3 :: .int (x + 1) :: t) st) : G E X nL ce sl ws pc (v0 :: v1 :: v2 :: v3 :: .int x :: t) st :=
  g_iincG hX hd rfl (v := x + 1) rfl hn (by simp [gset]) k
theorem g_inc4N (hX : gK E X cc nL own rm) {v0 v1 v2 v3 : Value} {t : List Value} {j : Nat} (hd : decode cc pc = .ok (.iinc 4 1, 3)) (hn : 4 < nL) (k : G E X nL ce sl ws (pc + 3) (v0 :: v1 :: v2 :: v3 :: .int (nI (j + 1)) :: t) st) : G E X nL ce sl ws pc (v0 :: v1 :: v2 :: v3 :: .int (nI j) :: t) st :=
  g_iincG hX hd rfl (v := nI (j + 1)) (nI_1 j) hn (by simp [gset]) k
theorem g_ist5s (hX : gK E X cc nL own rm) {v0 v1 v2 v3 v4 w : Value} {t : List Value} {x : Int32} (hd : decode cc pc = .ok (.istore 5, 2)) (hn : 5 < nL) (k : G E X nL ce sl ws (pc + 2) (v0 :: v1 :: v2 :: v3 :: v4 :: .int x :: t) st) : G E X nL ce sl ws pc (v0 :: v1 :: v2 :: v3 :: v4 :: w :: t) (.int x :: st) :=
  g_istore hX hd (by simp) hn (by simp [gset]) k
theorem g_ist5n (hX : gK E X cc nL own rm) {v0 v1 v2 v3 v4 : Value} {x : Int32} (hd : decode cc pc = .ok (.istore 5, 2)) (hn : 5 < nL) (k : G E X nL ce sl ws (pc + 2) (v0 :: v1 :: v2 :: v3 :: v4 :: .int x :: []) st) : G E X nL ce sl ws pc [v0, v1, v2, v3, v4] (.int x :: st) :=
  g_istore hX hd (by simp) hn (by simp [gset]) k
theorem g_inc5 (hX : gK E X cc nL own rm) {v0 v1 v2 v3 v4 : Value} {t : List Value} {x : Int32} (hd : decode cc pc = .ok (.iinc 5 1, 3)) (hn : 5 < nL) (k : G E X nL ce sl ws (pc + 3) (v0 :: v1 :: v2 :: v3 :: v4 :: .int (x + 1) :: t) st) : G E X nL ce sl ws pc (v0 :: v1 :: v2 :: v3 :: v4 :: .int x :: t) st :=
  g_iincG hX hd rfl (v := x + 1) rfl hn (by simp [gset]) k
theorem g_inc5N (hX : gK E X cc nL own rm) {v0 v1 v2 v3 v4 : Value} {t : List Value} {j : Nat} (hd : decode cc pc = .ok (.iinc 5 1, 3)) (hn : 5 < nL) (k : G E X nL ce sl ws (pc + 3) (v0 :: v1 :: v2 :: v3 :: v4 :: .int (nI (j + 1)) :: t) st) : G E X nL ce sl ws pc (v0 :: v1 :: v2 :: v3 :: v4 :: .int (nI j) :: t) st :=
  g_iincG hX hd rfl (v := nI (j + 1)) (nI_1 j) hn (by simp [gset]) k
theorem g_ist6s (hX : gK E X cc nL own rm) {v0 v1 v2 v3 v4 v5 w : Value} {t : List Value} {x : Int32} (hd : decode cc pc = .ok (.istore 6, 2)) (hn : 6 < nL) (k : G E X nL ce sl ws (pc + 2) (v0 :: v1 :: v2 :: v3 :: v4 :: v5 :: .int x :: t) st) : G E X nL ce sl ws pc (v0 :: v1 :: v2 :: v3 :: v4 :: v5 :: w :: t) (.int x :: st) :=
  g_istore hX hd (by simp) hn (by simp [gset]) k
theorem g_ist6n (hX : gK E X cc nL own rm) {v0 v1 v2 v3 v4 v5 : Value} {x : Int32} (hd : decode cc pc = .ok (.istore 6, 2)) (hn : 6 < nL) (k : G E X nL ce sl ws (pc + 2) (v0 :: v1 :: v2 :: v3 :: v4 :: v5 :: .int x :: []) st) : G E X nL ce sl ws pc [v0, v1, v2, v3, v4, v5] (.int x :: st) :=
  g_istore hX hd (by simp) hn (by simp [gset]) k
theorem g_inc6 (hX : gK E X cc nL own rm) {v0 v1 v2 v3 v4 v5 : Value} {t : List Value} {x : Int32} (hd : decode cc pc = .ok (.iinc 6 1, 3)) (hn : 6 < nL) (k : G E X nL ce sl ws (pc + 3) (v0 :: v1 :: v2 :: v3 :: v4 :: v5 :: .int (x + 1) :: t) st) : G E X nL ce sl ws pc (v0 :: v1 :: v2 :: v3 :: v4 :: v5 :: .int x :: t) st :=
  g_iincG hX hd rfl (v := x + 1) rfl hn (by simp [gset]) k
theorem g_inc6N (hX : gK E X cc nL own rm) {v0 v1 v2 v3 v4 v5 : Value} {t : List Value} {j : Nat} (hd : decode cc pc = .ok (.iinc 6 1, 3)) (hn : 6 < nL) (k : G E X nL ce sl ws (pc + 3) (v0 :: v1 :: v2 :: v3 :: v4 :: v5 :: .int (nI (j + 1)) :: t) st) : G E X nL ce sl ws pc (v0 :: v1 :: v2 :: v3 :: v4 :: v5 :: .int (nI j) :: t) st :=
  g_iincG hX hd rfl (v := nI (j + 1)) (nI_1 j) hn (by simp [gset]) k
end GRows
end
section
/-! the two objects' cells, and a row a field -/
def gput (u : GU) (k : Nat) (x : Int32) : GU := va_up u k (fun _ => x)
/-- a family of worlds: addresses that don't change, an object of R first -/
def gWf (wf : GU → va_W) (a0 : Nat) (R : String) : Prop := (∀ u u' : GU, (wf u).map Prod.fst = (wf u').map Prod.fst) ∧ ∃ (ci : Nat) (q : vw_C), vwCl[ci]? = some q ∧ q.1 = R ∧ ∀ u : GU, ∃ fs : List Value, (wf u)[0]? = some (a0, .inr (ci, fs))
section
variable {E : gE} {X : gC} {cc : ByteArray} {nL : Nat} {own : String} {rm : Room} {ce sl : Nat} {ws : va_W} {pc : Nat} {L st : List Value}
theorem g_ald {a n j q0 : Nat} {f : Nat → Int32} {i : Int32} (hX : gK E X cc nL own rm) (hw : ws[q0]? = some (a, .inl (E.dI, n, .inl f))) (hi : i = nI j) (hj : j < n) (hn : n < 2 ^ 31) (hd : decode cc pc = .ok (.iaload, 1)) (kk : G E X nL ce sl ws (pc + 1) L (.int (f j) :: st)) : G E X nL ce sl ws pc L (.int i :: .ref a :: st) := by
  subst hi
  intro H locs ls hP hD hS hL
  refine va_iald hX.2.1 hX.2.2.1 hX.2.2.2.2.2.2.2.2 hP q0 0 hw rfl (vp_in_nI hj hn) hd ?_
  rw [nI_clamp (by omega)]
  exact kk H locs ls hP hD hS hL
theorem g_zld {a n j q0 : Nat} {f : Nat → Int32} {i : Int32} (hX : gK E X cc nL own rm) (hw : ws[q0]? = some (a, .inl (E.dZ, n, .inl f))) (hi : i = nI j) (hj : j < n) (hn : n < 2 ^ 31) (hd : decode cc pc = .ok (.baload, 1)) (kk : G E X nL ce sl ws (pc + 1) L (.int (f j) :: st)) : G E X nL ce sl ws pc L (.int i :: .ref a :: st) := by
  subst hi
  intro H locs ls hP hD hS hL
  refine va_zald hX.2.1 hX.2.2.1 hX.2.2.2.2.2.2.2.2 hP q0 1 hw rfl (vp_in_nI hj hn) hd ?_
  rw [nI_clamp (by omega)]
  exact kk H locs ls hP hD hS hL
theorem g_ast {a n j q0 : Nat} {f : Nat → Int32} {i x : Int32} {ws' : va_W} (hX : gK E X cc nL own rm) (hw : ws[q0]? = some (a, .inl (E.dI, n, .inl f))) (hi : i = nI j) (hj : j < n) (hn : n < 2 ^ 31) (hset : ws.set q0 (a, .inl (E.dI, n, .inl (upd f j x))) = ws') (hd : decode cc pc = .ok (.iastore, 1)) (kk : G E X nL ce sl ws' (pc + 1) L st) : G E X nL ce sl ws pc L (.int x :: .int i :: .ref a :: st) := by
  subst hi
  intro H locs ls hP hD hS hL
  refine va_iast hX.2.1 hX.2.2.1 hX.2.2.2.2.2.2.2.2 hP hD hS q0 0 hw rfl (vp_in_nI hj hn) hd (fun H1 locs1 hP1 hD1 hS1 => ?_)
  rw [nI_clamp (by omega)] at hP1 hD1
  exact kk H1 locs1 ls (hset ▸ hP1) (hset ▸ hD1) hS1 hL
theorem g_zst {a n j q0 : Nat} {f : Nat → Int32} {i x : Int32} {ws' : va_W} (hX : gK E X cc nL own rm) (hw : ws[q0]? = some (a, .inl (E.dZ, n, .inl f))) (hi : i = nI j) (hj : j < n) (hn : n < 2 ^ 31) (hx : vp_nar .boolean x = x) (hset : ws.set q0 (a, .inl (E.dZ, n, .inl (upd f j x))) = ws') (hd : decode cc pc = .ok (.bastore, 1)) (kk : G E X nL ce sl ws' (pc + 1) L st) : G E X nL ce sl ws pc L (.int x :: .int i :: .ref a :: st) := by
  subst hi
  intro H locs ls hP hD hS hL
  refine va_zast hX.2.1 hX.2.2.1 hX.2.2.2.2.2.2.2.2 hP hD hS q0 1 hw rfl (vp_in_nI hj hn) hd (fun H1 locs1 hP1 hD1 hS1 => ?_)
  rw [nI_clamp (by omega), hx] at hP1 hD1
  exact kk H1 locs1 ls (hset ▸ hP1) (hset ▸ hD1) hS1 hL
end
def x0F (ad : Nat → Nat) (u : GU) : List Value := [.int (u 0 0), .ref (ad 1), .ref (ad 2), .ref (ad 3), .int (u 4 0), .ref (ad 5), .ref (ad 6), .ref (ad 7), .ref (ad 8), .int (u 9 0), .ref (ad 10), .ref (ad 11), .ref (ad 12), .int (u 13 0), .ref (ad 14), .ref (ad 15), .ref (ad 16), .ref (ad 17), .ref (ad 18), .ref (ad 19), .ref (ad 20), .int (u 21 0), .int (u 22 0), .int (u 23 0), .ref (ad 24), .ref (ad 25), .ref (ad 26)]
def x0W (E : gE) (ad : Nat → Nat) (u : GU) : va_W := [(ad 0, .inr (0, x0F ad u)), (ad 1, .inl (E.dI, 12, .inl (u 1))), (ad 2, .inl (E.dI, 12, .inl (u 2))), (ad 3, .inl (E.dI, 12, .inl (u 3))), (ad 5, .inl (E.dI, 6, .inl (u 5))), (ad 6, .inl (E.dI, 6, .inl (u 6))), (ad 7, .inl (E.dZ, 6, .inl (u 7))), (ad 8, .inl (E.dI, 6, .inl (u 8))), (ad 10, .inl (E.dI, 24, .inl (u 10))), (ad 11, .inl (E.dZ, 24, .inl (u 11))), (ad 12, .inl (E.dI, 24, .inl (u 12))), (ad 14, .inl (E.dZ, 6, .inl (u 14))), (ad 15, .inl (E.dI, 6, .inl (u 15))), (ad 16, .inl (E.dI, 6, .inl (u 16))), (ad 17, .inl (E.dZ, 144, .inl (u 17))), (ad 18, .inl (E.dI, 144, .inl (u 18))), (ad 19, .inl (E.dI, 144, .inl (u 19))), (ad 20, .inl (E.dI, 8, .inl (u 20))), (ad 24, .inl (E.dI, 6, .inl (u 24))), (ad 25, .inl (E.dI, 8, .inl (u 25))), (ad 26, .inl (E.dI, 8, .inl (u 26)))]
theorem x0_wf (E : gE) (ad : Nat → Nat) : gWf (x0W E ad) (ad 0) RX0 := ⟨fun _ _ => rfl, 0, (RX0, TX0, 27), rfl, rfl, fun u => ⟨x0F ad u, rfl⟩⟩
section
variable {E : gE} {X : gC} {cc : ByteArray} {nL : Nat} {own : String} {rm : Room} {ce sl : Nat} {pc : Nat} {L st : List Value} {ad : Nat → Nat} {u : GU}
theorem x0_get {v : Value} (hX : gK E X cc nL RX0 rm) (k idx : Nat) (hk : k < 27) (hT : (TX0 k).1 = RX0) (hl : Cond.fieldLink RX0 idx RX0 (TX0 k).2.1 (TX0 k).2.2.1 ∈ lw_all) (hv : (x0F ad u)[k]? = some v) (hd : decode cc pc = .ok (.getfield idx, 3)) (kk : G E X nL ce sl (x0W E ad u) (pc + 3) L (v :: st)) : G E X nL ce sl (x0W E ad u) pc L (.ref (ad 0) :: st) :=
  fun H locs ls hP hD hS hL => va_get (D := E.D) (ci := 0) (C := RX0) (T := TX0) (N := 27) hX.2.1 hX.2.2.1 hX.2.2.2.2.2.2.1 in_X0 hX.2.2.2.2.2.1 hX.2.2.2.2.2.2.2.2 hP 0 rfl rfl k hk (hX.2.2.2.2.2.2.1 _ hl) (fun _ h9 => by rw [hT] at h9; exact h9) hv hd (kk H locs ls hP hD hS hL)
theorem x0_put {x : Int32} {ws' : va_W} (hX : gK E X cc nL RX0 rm) (k idx : Nat) (hk : k < 27) (hT : (TX0 k).1 = RX0) (hl : Cond.fieldLink RX0 idx RX0 (TX0 k).2.1 (TX0 k).2.2.1 ∈ lw_all) (hfin : (TX0 k).2.2.2 = false) {ty : FieldType} (hty : parseFieldDescriptor (TX0 k).2.2.1 = some ty) (hn : narrow ty (.int x) = .int x) (hfit : fits ty (.int x) = true) (hw : (x0W E ad u).set 0 (ad 0, .inr (0, (x0F ad u).set k (.int x))) = ws') (hd : decode cc pc = .ok (.putfield idx, 3)) (kk : G E X nL ce sl ws' (pc + 3) L st) : G E X nL ce sl (x0W E ad u) pc L (.int x :: .ref (ad 0) :: st) :=
  fun H locs ls hP hD hS hL => va_put (D := E.D) (ci := 0) (v := .int x) (ty := ty) (C := RX0) (T := TX0) (N := 27) hX.2.1 hX.2.2.1 hX.2.2.2.2.2.2.1 in_X0 tyX0 tyX0_ok nmX0 hX.2.2.2.2.2.1 hX.2.2.2.2.2.2.2.2 hP hD hS 0 rfl rfl k hk (hX.2.2.2.2.2.2.1 _ hl) (fun _ h9 => by rw [hT] at h9; exact h9) hfin hty hn hfit hk hd (fun H1 locs1 hP1 hD1 hS1 => kk H1 locs1 ls (hw ▸ hP1) (hw ▸ hD1) hS1 hL)
/-- get, put size -/
theorem x0_g0 {x : Int32} (hX : gK E X cc nL RX0 rm) (hd : decode cc pc = .ok (.getfield 71, 3)) (hv : u 0 0 = x) (kk : G E X nL ce sl (x0W E ad u) (pc + 3) L (.int x :: st)) : G E X nL ce sl (x0W E ad u) pc L (.ref (ad 0) :: st) :=
  x0_get hX 0 71 (by decide) rfl q37 rfl hd (hv ▸ kk)
theorem x0_p0 {x : Int32} (hX : gK E X cc nL RX0 rm) (hd : decode cc pc = .ok (.putfield 71, 3)) (kk : G E X nL ce sl (x0W E ad (gput u 0 x)) (pc + 3) L st) : G E X nL ce sl (x0W E ad u) pc L (.int x :: .ref (ad 0) :: st) :=
  x0_put hX 0 71 (by decide) rfl q37 rfl (ty := .int) (by decide +kernel) rfl rfl rfl hd kk
/-- get op -/
theorem x0_g1 (hX : gK E X cc nL RX0 rm) (hd : decode cc pc = .ok (.getfield 7, 3)) (kk : G E X nL ce sl (x0W E ad u) (pc + 3) L (.ref (ad 1) :: st)) : G E X nL ce sl (x0W E ad u) pc L (.ref (ad 0) :: st) :=
  x0_get hX 1 7 (by decide) rfl q38 rfl hd kk
theorem x0_l1 {i x : Int32} {j : Nat} (hX : gK E X cc nL own rm) (hd : decode cc pc = .ok (.iaload, 1)) (hi : i = nI j) (hj : j < 12) (hv : u 1 j = x) (kk : G E X nL ce sl (x0W E ad u) (pc + 1) L (.int x :: st)) : G E X nL ce sl (x0W E ad u) pc L (.int i :: .ref (ad 1) :: st) :=
  g_ald (q0 := 1) (n := 12) (f := u 1) hX rfl hi hj (by decide) hd (hv ▸ kk)
theorem x0_s1 {i x : Int32} {j : Nat} (hX : gK E X cc nL own rm) (hd : decode cc pc = .ok (.iastore, 1)) (hi : i = nI j) (hj : j < 12) (kk : G E X nL ce sl (x0W E ad (va_up u 1 (upd (u 1) j x))) (pc + 1) L st) : G E X nL ce sl (x0W E ad u) pc L (.int x :: .int i :: .ref (ad 1) :: st) :=
  g_ast (q0 := 1) (n := 12) (f := u 1) hX rfl hi hj (by decide) rfl hd kk
/-- get regs -/
theorem x0_g2 (hX : gK E X cc nL RX0 rm) (hd : decode cc pc = .ok (.getfield 13, 3)) (kk : G E X nL ce sl (x0W E ad u) (pc + 3) L (.ref (ad 2) :: st)) : G E X nL ce sl (x0W E ad u) pc L (.ref (ad 0) :: st) :=
  x0_get hX 2 13 (by decide) rfl q39 rfl hd kk
theorem x0_l2 {i x : Int32} {j : Nat} (hX : gK E X cc nL own rm) (hd : decode cc pc = .ok (.iaload, 1)) (hi : i = nI j) (hj : j < 12) (hv : u 2 j = x) (kk : G E X nL ce sl (x0W E ad u) (pc + 1) L (.int x :: st)) : G E X nL ce sl (x0W E ad u) pc L (.int i :: .ref (ad 2) :: st) :=
  g_ald (q0 := 2) (n := 12) (f := u 2) hX rfl hi hj (by decide) hd (hv ▸ kk)
theorem x0_s2 {i x : Int32} {j : Nat} (hX : gK E X cc nL own rm) (hd : decode cc pc = .ok (.iastore, 1)) (hi : i = nI j) (hj : j < 12) (kk : G E X nL ce sl (x0W E ad (va_up u 2 (upd (u 2) j x))) (pc + 1) L st) : G E X nL ce sl (x0W E ad u) pc L (.int x :: .int i :: .ref (ad 2) :: st) :=
  g_ast (q0 := 2) (n := 12) (f := u 2) hX rfl hi hj (by decide) rfl hd kk
/-- get con -/
theorem x0_g3 (hX : gK E X cc nL RX0 rm) (hd : decode cc pc = .ok (.getfield 16, 3)) (kk : G E X nL ce sl (x0W E ad u) (pc + 3) L (.ref (ad 3) :: st)) : G E X nL ce sl (x0W E ad u) pc L (.ref (ad 0) :: st) :=
  x0_get hX 3 16 (by decide) rfl q40 rfl hd kk
theorem x0_l3 {i x : Int32} {j : Nat} (hX : gK E X cc nL own rm) (hd : decode cc pc = .ok (.iaload, 1)) (hi : i = nI j) (hj : j < 12) (hv : u 3 j = x) (kk : G E X nL ce sl (x0W E ad u) (pc + 1) L (.int x :: st)) : G E X nL ce sl (x0W E ad u) pc L (.int i :: .ref (ad 3) :: st) :=
  g_ald (q0 := 3) (n := 12) (f := u 3) hX rfl hi hj (by decide) hd (hv ▸ kk)
theorem x0_s3 {i x : Int32} {j : Nat} (hX : gK E X cc nL own rm) (hd : decode cc pc = .ok (.iastore, 1)) (hi : i = nI j) (hj : j < 12) (kk : G E X nL ce sl (x0W E ad (va_up u 3 (upd (u 3) j x))) (pc + 1) L st) : G E X nL ce sl (x0W E ad u) pc L (.int x :: .int i :: .ref (ad 3) :: st) :=
  g_ast (q0 := 3) (n := 12) (f := u 3) hX rfl hi hj (by decide) rfl hd kk
/-- get, put tests -/
theorem x0_g4 {x : Int32} (hX : gK E X cc nL RX0 rm) (hd : decode cc pc = .ok (.getfield 79, 3)) (hv : u 4 0 = x) (kk : G E X nL ce sl (x0W E ad u) (pc + 3) L (.int x :: st)) : G E X nL ce sl (x0W E ad u) pc L (.ref (ad 0) :: st) :=
  x0_get hX 4 79 (by decide) rfl q41 rfl hd (hv ▸ kk)
theorem x0_p4 {x : Int32} (hX : gK E X cc nL RX0 rm) (hd : decode cc pc = .ok (.putfield 79, 3)) (kk : G E X nL ce sl (x0W E ad (gput u 4 x)) (pc + 3) L st) : G E X nL ce sl (x0W E ad u) pc L (.int x :: .ref (ad 0) :: st) :=
  x0_put hX 4 79 (by decide) rfl q41 rfl (ty := .int) (by decide +kernel) rfl rfl rfl hd kk
/-- get startX -/
theorem x0_g5 (hX : gK E X cc nL RX0 rm) (hd : decode cc pc = .ok (.getfield 19, 3)) (kk : G E X nL ce sl (x0W E ad u) (pc + 3) L (.ref (ad 5) :: st)) : G E X nL ce sl (x0W E ad u) pc L (.ref (ad 0) :: st) :=
  x0_get hX 5 19 (by decide) rfl q42 rfl hd kk
theorem x0_l5 {i x : Int32} {j : Nat} (hX : gK E X cc nL own rm) (hd : decode cc pc = .ok (.iaload, 1)) (hi : i = nI j) (hj : j < 6) (hv : u 5 j = x) (kk : G E X nL ce sl (x0W E ad u) (pc + 1) L (.int x :: st)) : G E X nL ce sl (x0W E ad u) pc L (.int i :: .ref (ad 5) :: st) :=
  g_ald (q0 := 4) (n := 6) (f := u 5) hX rfl hi hj (by decide) hd (hv ▸ kk)
theorem x0_s5 {i x : Int32} {j : Nat} (hX : gK E X cc nL own rm) (hd : decode cc pc = .ok (.iastore, 1)) (hi : i = nI j) (hj : j < 6) (kk : G E X nL ce sl (x0W E ad (va_up u 5 (upd (u 5) j x))) (pc + 1) L st) : G E X nL ce sl (x0W E ad u) pc L (.int x :: .int i :: .ref (ad 5) :: st) :=
  g_ast (q0 := 4) (n := 6) (f := u 5) hX rfl hi hj (by decide) rfl hd kk
/-- get startY -/
theorem x0_g6 (hX : gK E X cc nL RX0 rm) (hd : decode cc pc = .ok (.getfield 22, 3)) (kk : G E X nL ce sl (x0W E ad u) (pc + 3) L (.ref (ad 6) :: st)) : G E X nL ce sl (x0W E ad u) pc L (.ref (ad 0) :: st) :=
  x0_get hX 6 22 (by decide) rfl q43 rfl hd kk
theorem x0_l6 {i x : Int32} {j : Nat} (hX : gK E X cc nL own rm) (hd : decode cc pc = .ok (.iaload, 1)) (hi : i = nI j) (hj : j < 6) (hv : u 6 j = x) (kk : G E X nL ce sl (x0W E ad u) (pc + 1) L (.int x :: st)) : G E X nL ce sl (x0W E ad u) pc L (.int i :: .ref (ad 6) :: st) :=
  g_ald (q0 := 5) (n := 6) (f := u 6) hX rfl hi hj (by decide) hd (hv ▸ kk)
theorem x0_s6 {i x : Int32} {j : Nat} (hX : gK E X cc nL own rm) (hd : decode cc pc = .ok (.iastore, 1)) (hi : i = nI j) (hj : j < 6) (kk : G E X nL ce sl (x0W E ad (va_up u 6 (upd (u 6) j x))) (pc + 1) L st) : G E X nL ce sl (x0W E ad u) pc L (.int x :: .int i :: .ref (ad 6) :: st) :=
  g_ast (q0 := 5) (n := 6) (f := u 6) hX rfl hi hj (by decide) rfl hd kk
/-- get wantsOutput -/
theorem x0_g7 (hX : gK E X cc nL RX0 rm) (hd : decode cc pc = .ok (.getfield 25, 3)) (kk : G E X nL ce sl (x0W E ad u) (pc + 3) L (.ref (ad 7) :: st)) : G E X nL ce sl (x0W E ad u) pc L (.ref (ad 0) :: st) :=
  x0_get hX 7 25 (by decide) rfl q44 rfl hd kk
theorem x0_l7 {i x : Int32} {j : Nat} (hX : gK E X cc nL own rm) (hd : decode cc pc = .ok (.baload, 1)) (hi : i = nI j) (hj : j < 6) (hv : u 7 j = x) (kk : G E X nL ce sl (x0W E ad u) (pc + 1) L (.int x :: st)) : G E X nL ce sl (x0W E ad u) pc L (.int i :: .ref (ad 7) :: st) :=
  g_zld (q0 := 6) (n := 6) (f := u 7) hX rfl hi hj (by decide) hd (hv ▸ kk)
theorem x0_s7 {i x : Int32} {j : Nat} (hX : gK E X cc nL own rm) (hd : decode cc pc = .ok (.bastore, 1)) (hi : i = nI j) (hj : j < 6) (hx : vp_nar .boolean x = x) (kk : G E X nL ce sl (x0W E ad (va_up u 7 (upd (u 7) j x))) (pc + 1) L st) : G E X nL ce sl (x0W E ad u) pc L (.int x :: .int i :: .ref (ad 7) :: st) :=
  g_zst (q0 := 6) (n := 6) (f := u 7) hX rfl hi hj (by decide) hx rfl hd kk
/-- get wants -/
theorem x0_g8 (hX : gK E X cc nL RX0 rm) (hd : decode cc pc = .ok (.getfield 29, 3)) (kk : G E X nL ce sl (x0W E ad u) (pc + 3) L (.ref (ad 8) :: st)) : G E X nL ce sl (x0W E ad u) pc L (.ref (ad 0) :: st) :=
  x0_get hX 8 29 (by decide) rfl q45 rfl hd kk
theorem x0_l8 {i x : Int32} {j : Nat} (hX : gK E X cc nL own rm) (hd : decode cc pc = .ok (.iaload, 1)) (hi : i = nI j) (hj : j < 6) (hv : u 8 j = x) (kk : G E X nL ce sl (x0W E ad u) (pc + 1) L (.int x :: st)) : G E X nL ce sl (x0W E ad u) pc L (.int i :: .ref (ad 8) :: st) :=
  g_ald (q0 := 7) (n := 6) (f := u 8) hX rfl hi hj (by decide) hd (hv ▸ kk)
theorem x0_s8 {i x : Int32} {j : Nat} (hX : gK E X cc nL own rm) (hd : decode cc pc = .ok (.iastore, 1)) (hi : i = nI j) (hj : j < 6) (kk : G E X nL ce sl (x0W E ad (va_up u 8 (upd (u 8) j x))) (pc + 1) L st) : G E X nL ce sl (x0W E ad u) pc L (.int x :: .int i :: .ref (ad 8) :: st) :=
  g_ast (q0 := 7) (n := 6) (f := u 8) hX rfl hi hj (by decide) rfl hd kk
/-- get, put mutants -/
theorem x0_g9 {x : Int32} (hX : gK E X cc nL RX0 rm) (hd : decode cc pc = .ok (.getfield 90, 3)) (hv : u 9 0 = x) (kk : G E X nL ce sl (x0W E ad u) (pc + 3) L (.int x :: st)) : G E X nL ce sl (x0W E ad u) pc L (.ref (ad 0) :: st) :=
  x0_get hX 9 90 (by decide) rfl q46 rfl hd (hv ▸ kk)
theorem x0_p9 {x : Int32} (hX : gK E X cc nL RX0 rm) (hd : decode cc pc = .ok (.putfield 90, 3)) (kk : G E X nL ce sl (x0W E ad (gput u 9 x)) (pc + 3) L st) : G E X nL ce sl (x0W E ad u) pc L (.int x :: .ref (ad 0) :: st) :=
  x0_put hX 9 90 (by decide) rfl q46 rfl (ty := .int) (by decide +kernel) rfl rfl rfl hd kk
/-- get where -/
theorem x0_g10 (hX : gK E X cc nL RX0 rm) (hd : decode cc pc = .ok (.getfield 32, 3)) (kk : G E X nL ce sl (x0W E ad u) (pc + 3) L (.ref (ad 10) :: st)) : G E X nL ce sl (x0W E ad u) pc L (.ref (ad 0) :: st) :=
  x0_get hX 10 32 (by decide) rfl q47 rfl hd kk
theorem x0_l10 {i x : Int32} {j : Nat} (hX : gK E X cc nL own rm) (hd : decode cc pc = .ok (.iaload, 1)) (hi : i = nI j) (hj : j < 24) (hv : u 10 j = x) (kk : G E X nL ce sl (x0W E ad u) (pc + 1) L (.int x :: st)) : G E X nL ce sl (x0W E ad u) pc L (.int i :: .ref (ad 10) :: st) :=
  g_ald (q0 := 8) (n := 24) (f := u 10) hX rfl hi hj (by decide) hd (hv ▸ kk)
theorem x0_s10 {i x : Int32} {j : Nat} (hX : gK E X cc nL own rm) (hd : decode cc pc = .ok (.iastore, 1)) (hi : i = nI j) (hj : j < 24) (kk : G E X nL ce sl (x0W E ad (va_up u 10 (upd (u 10) j x))) (pc + 1) L st) : G E X nL ce sl (x0W E ad u) pc L (.int x :: .int i :: .ref (ad 10) :: st) :=
  g_ast (q0 := 8) (n := 24) (f := u 10) hX rfl hi hj (by decide) rfl hd kk
/-- get changesOp -/
theorem x0_g11 (hX : gK E X cc nL RX0 rm) (hd : decode cc pc = .ok (.getfield 35, 3)) (kk : G E X nL ce sl (x0W E ad u) (pc + 3) L (.ref (ad 11) :: st)) : G E X nL ce sl (x0W E ad u) pc L (.ref (ad 0) :: st) :=
  x0_get hX 11 35 (by decide) rfl q48 rfl hd kk
theorem x0_l11 {i x : Int32} {j : Nat} (hX : gK E X cc nL own rm) (hd : decode cc pc = .ok (.baload, 1)) (hi : i = nI j) (hj : j < 24) (hv : u 11 j = x) (kk : G E X nL ce sl (x0W E ad u) (pc + 1) L (.int x :: st)) : G E X nL ce sl (x0W E ad u) pc L (.int i :: .ref (ad 11) :: st) :=
  g_zld (q0 := 9) (n := 24) (f := u 11) hX rfl hi hj (by decide) hd (hv ▸ kk)
theorem x0_s11 {i x : Int32} {j : Nat} (hX : gK E X cc nL own rm) (hd : decode cc pc = .ok (.bastore, 1)) (hi : i = nI j) (hj : j < 24) (hx : vp_nar .boolean x = x) (kk : G E X nL ce sl (x0W E ad (va_up u 11 (upd (u 11) j x))) (pc + 1) L st) : G E X nL ce sl (x0W E ad u) pc L (.int x :: .int i :: .ref (ad 11) :: st) :=
  g_zst (q0 := 9) (n := 24) (f := u 11) hX rfl hi hj (by decide) hx rfl hd kk
/-- get change -/
theorem x0_g12 (hX : gK E X cc nL RX0 rm) (hd : decode cc pc = .ok (.getfield 38, 3)) (kk : G E X nL ce sl (x0W E ad u) (pc + 3) L (.ref (ad 12) :: st)) : G E X nL ce sl (x0W E ad u) pc L (.ref (ad 0) :: st) :=
  x0_get hX 12 38 (by decide) rfl q49 rfl hd kk
theorem x0_l12 {i x : Int32} {j : Nat} (hX : gK E X cc nL own rm) (hd : decode cc pc = .ok (.iaload, 1)) (hi : i = nI j) (hj : j < 24) (hv : u 12 j = x) (kk : G E X nL ce sl (x0W E ad u) (pc + 1) L (.int x :: st)) : G E X nL ce sl (x0W E ad u) pc L (.int i :: .ref (ad 12) :: st) :=
  g_ald (q0 := 10) (n := 24) (f := u 12) hX rfl hi hj (by decide) hd (hv ▸ kk)
theorem x0_s12 {i x : Int32} {j : Nat} (hX : gK E X cc nL own rm) (hd : decode cc pc = .ok (.iastore, 1)) (hi : i = nI j) (hj : j < 24) (kk : G E X nL ce sl (x0W E ad (va_up u 12 (upd (u 12) j x))) (pc + 1) L st) : G E X nL ce sl (x0W E ad u) pc L (.int x :: .int i :: .ref (ad 12) :: st) :=
  g_ast (q0 := 10) (n := 24) (f := u 12) hX rfl hi hj (by decide) rfl hd kk
/-- get, put ready -/
theorem x0_g13 {x : Int32} (hX : gK E X cc nL RX0 rm) (hd : decode cc pc = .ok (.getfield 75, 3)) (hv : u 13 0 = x) (kk : G E X nL ce sl (x0W E ad u) (pc + 3) L (.int x :: st)) : G E X nL ce sl (x0W E ad u) pc L (.ref (ad 0) :: st) :=
  x0_get hX 13 75 (by decide) rfl q50 rfl hd (hv ▸ kk)
theorem x0_p13 {x : Int32} (hX : gK E X cc nL RX0 rm) (hd : decode cc pc = .ok (.putfield 75, 3)) (hn : narrow .boolean (.int x) = .int x) (hf : fits .boolean (.int x) = true) (kk : G E X nL ce sl (x0W E ad (gput u 13 x)) (pc + 3) L st) : G E X nL ce sl (x0W E ad u) pc L (.int x :: .ref (ad 0) :: st) :=
  x0_put hX 13 75 (by decide) rfl q50 rfl (ty := .boolean) (by decide +kernel) hn hf rfl hd kk
/-- get ends -/
theorem x0_g14 (hX : gK E X cc nL RX0 rm) (hd : decode cc pc = .ok (.getfield 41, 3)) (kk : G E X nL ce sl (x0W E ad u) (pc + 3) L (.ref (ad 14) :: st)) : G E X nL ce sl (x0W E ad u) pc L (.ref (ad 0) :: st) :=
  x0_get hX 14 41 (by decide) rfl q51 rfl hd kk
theorem x0_l14 {i x : Int32} {j : Nat} (hX : gK E X cc nL own rm) (hd : decode cc pc = .ok (.baload, 1)) (hi : i = nI j) (hj : j < 6) (hv : u 14 j = x) (kk : G E X nL ce sl (x0W E ad u) (pc + 1) L (.int x :: st)) : G E X nL ce sl (x0W E ad u) pc L (.int i :: .ref (ad 14) :: st) :=
  g_zld (q0 := 11) (n := 6) (f := u 14) hX rfl hi hj (by decide) hd (hv ▸ kk)
theorem x0_s14 {i x : Int32} {j : Nat} (hX : gK E X cc nL own rm) (hd : decode cc pc = .ok (.bastore, 1)) (hi : i = nI j) (hj : j < 6) (hx : vp_nar .boolean x = x) (kk : G E X nL ce sl (x0W E ad (va_up u 14 (upd (u 14) j x))) (pc + 1) L st) : G E X nL ce sl (x0W E ad u) pc L (.int x :: .int i :: .ref (ad 14) :: st) :=
  g_zst (q0 := 11) (n := 6) (f := u 14) hX rfl hi hj (by decide) hx rfl hd kk
/-- get out -/
theorem x0_g15 (hX : gK E X cc nL RX0 rm) (hd : decode cc pc = .ok (.getfield 44, 3)) (kk : G E X nL ce sl (x0W E ad u) (pc + 3) L (.ref (ad 15) :: st)) : G E X nL ce sl (x0W E ad u) pc L (.ref (ad 0) :: st) :=
  x0_get hX 15 44 (by decide) rfl q52 rfl hd kk
theorem x0_l15 {i x : Int32} {j : Nat} (hX : gK E X cc nL own rm) (hd : decode cc pc = .ok (.iaload, 1)) (hi : i = nI j) (hj : j < 6) (hv : u 15 j = x) (kk : G E X nL ce sl (x0W E ad u) (pc + 1) L (.int x :: st)) : G E X nL ce sl (x0W E ad u) pc L (.int i :: .ref (ad 15) :: st) :=
  g_ald (q0 := 12) (n := 6) (f := u 15) hX rfl hi hj (by decide) hd (hv ▸ kk)
theorem x0_s15 {i x : Int32} {j : Nat} (hX : gK E X cc nL own rm) (hd : decode cc pc = .ok (.iastore, 1)) (hi : i = nI j) (hj : j < 6) (kk : G E X nL ce sl (x0W E ad (va_up u 15 (upd (u 15) j x))) (pc + 1) L st) : G E X nL ce sl (x0W E ad u) pc L (.int x :: .int i :: .ref (ad 15) :: st) :=
  g_ast (q0 := 12) (n := 6) (f := u 15) hX rfl hi hj (by decide) rfl hd kk
/-- get steps -/
theorem x0_g16 (hX : gK E X cc nL RX0 rm) (hd : decode cc pc = .ok (.getfield 47, 3)) (kk : G E X nL ce sl (x0W E ad u) (pc + 3) L (.ref (ad 16) :: st)) : G E X nL ce sl (x0W E ad u) pc L (.ref (ad 0) :: st) :=
  x0_get hX 16 47 (by decide) rfl q53 rfl hd kk
theorem x0_l16 {i x : Int32} {j : Nat} (hX : gK E X cc nL own rm) (hd : decode cc pc = .ok (.iaload, 1)) (hi : i = nI j) (hj : j < 6) (hv : u 16 j = x) (kk : G E X nL ce sl (x0W E ad u) (pc + 1) L (.int x :: st)) : G E X nL ce sl (x0W E ad u) pc L (.int i :: .ref (ad 16) :: st) :=
  g_ald (q0 := 13) (n := 6) (f := u 16) hX rfl hi hj (by decide) hd (hv ▸ kk)
theorem x0_s16 {i x : Int32} {j : Nat} (hX : gK E X cc nL own rm) (hd : decode cc pc = .ok (.iastore, 1)) (hi : i = nI j) (hj : j < 6) (kk : G E X nL ce sl (x0W E ad (va_up u 16 (upd (u 16) j x))) (pc + 1) L st) : G E X nL ce sl (x0W E ad u) pc L (.int x :: .int i :: .ref (ad 16) :: st) :=
  g_ast (q0 := 13) (n := 6) (f := u 16) hX rfl hi hj (by decide) rfl hd kk
/-- get mutantEnds -/
theorem x0_g17 (hX : gK E X cc nL RX0 rm) (hd : decode cc pc = .ok (.getfield 50, 3)) (kk : G E X nL ce sl (x0W E ad u) (pc + 3) L (.ref (ad 17) :: st)) : G E X nL ce sl (x0W E ad u) pc L (.ref (ad 0) :: st) :=
  x0_get hX 17 50 (by decide) rfl q54 rfl hd kk
theorem x0_l17 {i x : Int32} {j : Nat} (hX : gK E X cc nL own rm) (hd : decode cc pc = .ok (.baload, 1)) (hi : i = nI j) (hj : j < 144) (hv : u 17 j = x) (kk : G E X nL ce sl (x0W E ad u) (pc + 1) L (.int x :: st)) : G E X nL ce sl (x0W E ad u) pc L (.int i :: .ref (ad 17) :: st) :=
  g_zld (q0 := 14) (n := 144) (f := u 17) hX rfl hi hj (by decide) hd (hv ▸ kk)
theorem x0_s17 {i x : Int32} {j : Nat} (hX : gK E X cc nL own rm) (hd : decode cc pc = .ok (.bastore, 1)) (hi : i = nI j) (hj : j < 144) (hx : vp_nar .boolean x = x) (kk : G E X nL ce sl (x0W E ad (va_up u 17 (upd (u 17) j x))) (pc + 1) L st) : G E X nL ce sl (x0W E ad u) pc L (.int x :: .int i :: .ref (ad 17) :: st) :=
  g_zst (q0 := 14) (n := 144) (f := u 17) hX rfl hi hj (by decide) hx rfl hd kk
/-- get mutantOut -/
theorem x0_g18 (hX : gK E X cc nL RX0 rm) (hd : decode cc pc = .ok (.getfield 53, 3)) (kk : G E X nL ce sl (x0W E ad u) (pc + 3) L (.ref (ad 18) :: st)) : G E X nL ce sl (x0W E ad u) pc L (.ref (ad 0) :: st) :=
  x0_get hX 18 53 (by decide) rfl q55 rfl hd kk
theorem x0_l18 {i x : Int32} {j : Nat} (hX : gK E X cc nL own rm) (hd : decode cc pc = .ok (.iaload, 1)) (hi : i = nI j) (hj : j < 144) (hv : u 18 j = x) (kk : G E X nL ce sl (x0W E ad u) (pc + 1) L (.int x :: st)) : G E X nL ce sl (x0W E ad u) pc L (.int i :: .ref (ad 18) :: st) :=
  g_ald (q0 := 15) (n := 144) (f := u 18) hX rfl hi hj (by decide) hd (hv ▸ kk)
theorem x0_s18 {i x : Int32} {j : Nat} (hX : gK E X cc nL own rm) (hd : decode cc pc = .ok (.iastore, 1)) (hi : i = nI j) (hj : j < 144) (kk : G E X nL ce sl (x0W E ad (va_up u 18 (upd (u 18) j x))) (pc + 1) L st) : G E X nL ce sl (x0W E ad u) pc L (.int x :: .int i :: .ref (ad 18) :: st) :=
  g_ast (q0 := 15) (n := 144) (f := u 18) hX rfl hi hj (by decide) rfl hd kk
/-- get mutantSteps -/
theorem x0_g19 (hX : gK E X cc nL RX0 rm) (hd : decode cc pc = .ok (.getfield 56, 3)) (kk : G E X nL ce sl (x0W E ad u) (pc + 3) L (.ref (ad 19) :: st)) : G E X nL ce sl (x0W E ad u) pc L (.ref (ad 0) :: st) :=
  x0_get hX 19 56 (by decide) rfl q56 rfl hd kk
theorem x0_l19 {i x : Int32} {j : Nat} (hX : gK E X cc nL own rm) (hd : decode cc pc = .ok (.iaload, 1)) (hi : i = nI j) (hj : j < 144) (hv : u 19 j = x) (kk : G E X nL ce sl (x0W E ad u) (pc + 1) L (.int x :: st)) : G E X nL ce sl (x0W E ad u) pc L (.int i :: .ref (ad 19) :: st) :=
  g_ald (q0 := 16) (n := 144) (f := u 19) hX rfl hi hj (by decide) hd (hv ▸ kk)
theorem x0_s19 {i x : Int32} {j : Nat} (hX : gK E X cc nL own rm) (hd : decode cc pc = .ok (.iastore, 1)) (hi : i = nI j) (hj : j < 144) (kk : G E X nL ce sl (x0W E ad (va_up u 19 (upd (u 19) j x))) (pc + 1) L st) : G E X nL ce sl (x0W E ad u) pc L (.int x :: .int i :: .ref (ad 19) :: st) :=
  g_ast (q0 := 16) (n := 144) (f := u 19) hX rfl hi hj (by decide) rfl hd kk
/-- get reg -/
theorem x0_g20 (hX : gK E X cc nL RX0 rm) (hd : decode cc pc = .ok (.getfield 59, 3)) (kk : G E X nL ce sl (x0W E ad u) (pc + 3) L (.ref (ad 20) :: st)) : G E X nL ce sl (x0W E ad u) pc L (.ref (ad 0) :: st) :=
  x0_get hX 20 59 (by decide) rfl q57 rfl hd kk
theorem x0_l20 {i x : Int32} {j : Nat} (hX : gK E X cc nL own rm) (hd : decode cc pc = .ok (.iaload, 1)) (hi : i = nI j) (hj : j < 8) (hv : u 20 j = x) (kk : G E X nL ce sl (x0W E ad u) (pc + 1) L (.int x :: st)) : G E X nL ce sl (x0W E ad u) pc L (.int i :: .ref (ad 20) :: st) :=
  g_ald (q0 := 17) (n := 8) (f := u 20) hX rfl hi hj (by decide) hd (hv ▸ kk)
theorem x0_s20 {i x : Int32} {j : Nat} (hX : gK E X cc nL own rm) (hd : decode cc pc = .ok (.iastore, 1)) (hi : i = nI j) (hj : j < 8) (kk : G E X nL ce sl (x0W E ad (va_up u 20 (upd (u 20) j x))) (pc + 1) L st) : G E X nL ce sl (x0W E ad u) pc L (.int x :: .int i :: .ref (ad 20) :: st) :=
  g_ast (q0 := 17) (n := 8) (f := u 20) hX rfl hi hj (by decide) rfl hd kk
/-- get, put mutantPlace -/
theorem x0_g21 {x : Int32} (hX : gK E X cc nL RX0 rm) (hd : decode cc pc = .ok (.getfield 97, 3)) (hv : u 21 0 = x) (kk : G E X nL ce sl (x0W E ad u) (pc + 3) L (.int x :: st)) : G E X nL ce sl (x0W E ad u) pc L (.ref (ad 0) :: st) :=
  x0_get hX 21 97 (by decide) rfl q58 rfl hd (hv ▸ kk)
theorem x0_p21 {x : Int32} (hX : gK E X cc nL RX0 rm) (hd : decode cc pc = .ok (.putfield 97, 3)) (kk : G E X nL ce sl (x0W E ad (gput u 21 x)) (pc + 3) L st) : G E X nL ce sl (x0W E ad u) pc L (.int x :: .ref (ad 0) :: st) :=
  x0_put hX 21 97 (by decide) rfl q58 rfl (ty := .int) (by decide +kernel) rfl rfl rfl hd kk
/-- get, put mutantOp -/
theorem x0_g22 {x : Int32} (hX : gK E X cc nL RX0 rm) (hd : decode cc pc = .ok (.getfield 100, 3)) (hv : u 22 0 = x) (kk : G E X nL ce sl (x0W E ad u) (pc + 3) L (.int x :: st)) : G E X nL ce sl (x0W E ad u) pc L (.ref (ad 0) :: st) :=
  x0_get hX 22 100 (by decide) rfl q59 rfl hd (hv ▸ kk)
theorem x0_p22 {x : Int32} (hX : gK E X cc nL RX0 rm) (hd : decode cc pc = .ok (.putfield 100, 3)) (kk : G E X nL ce sl (x0W E ad (gput u 22 x)) (pc + 3) L st) : G E X nL ce sl (x0W E ad u) pc L (.int x :: .ref (ad 0) :: st) :=
  x0_put hX 22 100 (by decide) rfl q59 rfl (ty := .int) (by decide +kernel) rfl rfl rfl hd kk
/-- get, put mutantCon -/
theorem x0_g23 {x : Int32} (hX : gK E X cc nL RX0 rm) (hd : decode cc pc = .ok (.getfield 103, 3)) (hv : u 23 0 = x) (kk : G E X nL ce sl (x0W E ad u) (pc + 3) L (.int x :: st)) : G E X nL ce sl (x0W E ad u) pc L (.ref (ad 0) :: st) :=
  x0_get hX 23 103 (by decide) rfl q60 rfl hd (hv ▸ kk)
theorem x0_p23 {x : Int32} (hX : gK E X cc nL RX0 rm) (hd : decode cc pc = .ok (.putfield 103, 3)) (kk : G E X nL ce sl (x0W E ad (gput u 23 x)) (pc + 3) L st) : G E X nL ce sl (x0W E ad u) pc L (.int x :: .ref (ad 0) :: st) :=
  x0_put hX 23 103 (by decide) rfl q60 rfl (ty := .int) (by decide +kernel) rfl rfl rfl hd kk
/-- get kills -/
theorem x0_g24 (hX : gK E X cc nL RX0 rm) (hd : decode cc pc = .ok (.getfield 62, 3)) (kk : G E X nL ce sl (x0W E ad u) (pc + 3) L (.ref (ad 24) :: st)) : G E X nL ce sl (x0W E ad u) pc L (.ref (ad 0) :: st) :=
  x0_get hX 24 62 (by decide) rfl q61 rfl hd kk
theorem x0_l24 {i x : Int32} {j : Nat} (hX : gK E X cc nL own rm) (hd : decode cc pc = .ok (.iaload, 1)) (hi : i = nI j) (hj : j < 6) (hv : u 24 j = x) (kk : G E X nL ce sl (x0W E ad u) (pc + 1) L (.int x :: st)) : G E X nL ce sl (x0W E ad u) pc L (.int i :: .ref (ad 24) :: st) :=
  g_ald (q0 := 18) (n := 6) (f := u 24) hX rfl hi hj (by decide) hd (hv ▸ kk)
theorem x0_s24 {i x : Int32} {j : Nat} (hX : gK E X cc nL own rm) (hd : decode cc pc = .ok (.iastore, 1)) (hi : i = nI j) (hj : j < 6) (kk : G E X nL ce sl (x0W E ad (va_up u 24 (upd (u 24) j x))) (pc + 1) L st) : G E X nL ce sl (x0W E ad u) pc L (.int x :: .int i :: .ref (ad 24) :: st) :=
  g_ast (q0 := 18) (n := 6) (f := u 24) hX rfl hi hj (by decide) rfl hd kk
/-- get uncovered -/
theorem x0_g25 (hX : gK E X cc nL RX0 rm) (hd : decode cc pc = .ok (.getfield 65, 3)) (kk : G E X nL ce sl (x0W E ad u) (pc + 3) L (.ref (ad 25) :: st)) : G E X nL ce sl (x0W E ad u) pc L (.ref (ad 0) :: st) :=
  x0_get hX 25 65 (by decide) rfl q62 rfl hd kk
theorem x0_l25 {i x : Int32} {j : Nat} (hX : gK E X cc nL own rm) (hd : decode cc pc = .ok (.iaload, 1)) (hi : i = nI j) (hj : j < 8) (hv : u 25 j = x) (kk : G E X nL ce sl (x0W E ad u) (pc + 1) L (.int x :: st)) : G E X nL ce sl (x0W E ad u) pc L (.int i :: .ref (ad 25) :: st) :=
  g_ald (q0 := 19) (n := 8) (f := u 25) hX rfl hi hj (by decide) hd (hv ▸ kk)
theorem x0_s25 {i x : Int32} {j : Nat} (hX : gK E X cc nL own rm) (hd : decode cc pc = .ok (.iastore, 1)) (hi : i = nI j) (hj : j < 8) (kk : G E X nL ce sl (x0W E ad (va_up u 25 (upd (u 25) j x))) (pc + 1) L st) : G E X nL ce sl (x0W E ad u) pc L (.int x :: .int i :: .ref (ad 25) :: st) :=
  g_ast (q0 := 19) (n := 8) (f := u 25) hX rfl hi hj (by decide) rfl hd kk
/-- get options -/
theorem x0_g26 (hX : gK E X cc nL RX0 rm) (hd : decode cc pc = .ok (.getfield 68, 3)) (kk : G E X nL ce sl (x0W E ad u) (pc + 3) L (.ref (ad 26) :: st)) : G E X nL ce sl (x0W E ad u) pc L (.ref (ad 0) :: st) :=
  x0_get hX 26 68 (by decide) rfl q63 rfl hd kk
theorem x0_l26 {i x : Int32} {j : Nat} (hX : gK E X cc nL own rm) (hd : decode cc pc = .ok (.iaload, 1)) (hi : i = nI j) (hj : j < 8) (hv : u 26 j = x) (kk : G E X nL ce sl (x0W E ad u) (pc + 1) L (.int x :: st)) : G E X nL ce sl (x0W E ad u) pc L (.int i :: .ref (ad 26) :: st) :=
  g_ald (q0 := 20) (n := 8) (f := u 26) hX rfl hi hj (by decide) hd (hv ▸ kk)
theorem x0_s26 {i x : Int32} {j : Nat} (hX : gK E X cc nL own rm) (hd : decode cc pc = .ok (.iastore, 1)) (hi : i = nI j) (hj : j < 8) (kk : G E X nL ce sl (x0W E ad (va_up u 26 (upd (u 26) j x))) (pc + 1) L st) : G E X nL ce sl (x0W E ad u) pc L (.int x :: .int i :: .ref (ad 26) :: st) :=
  g_ast (q0 := 20) (n := 8) (f := u 26) hX rfl hi hj (by decide) rfl hd kk
end
def x1F (ad : Nat → Nat) (u : GU) : List Value := [.int (u 0 0), .ref (ad 1), .ref (ad 2), .ref (ad 3), .ref (ad 4), .int (u 5 0), .ref (ad 6), .ref (ad 7), .ref (ad 8), .ref (ad 9), .int (u 10 0), .ref (ad 11), .ref (ad 12), .ref (ad 13), .ref (ad 14), .int (u 15 0), .int (u 16 0)]
def x1W (E : gE) (ad : Nat → Nat) (u : GU) : va_W := [(ad 0, .inr (1, x1F ad u)), (ad 1, .inl (E.dI, 12, .inl (u 1))), (ad 2, .inl (E.dI, 12, .inl (u 2))), (ad 3, .inl (E.dI, 12, .inl (u 3))), (ad 4, .inl (E.dI, 12, .inl (u 4))), (ad 6, .inl (E.dI, 6, .inl (u 6))), (ad 7, .inl (E.dI, 6, .inl (u 7))), (ad 8, .inl (E.dZ, 6, .inl (u 8))), (ad 9, .inl (E.dI, 6, .inl (u 9))), (ad 11, .inl (E.dI, 24, .inl (u 11))), (ad 12, .inl (E.dZ, 24, .inl (u 12))), (ad 13, .inl (E.dI, 24, .inl (u 13))), (ad 14, .inl (E.dI, 4, .inl (u 14)))]
theorem x1_wf (E : gE) (ad : Nat → Nat) : gWf (x1W E ad) (ad 0) RX1 := ⟨fun _ _ => rfl, 1, (RX1, TX1, 17), rfl, rfl, fun u => ⟨x1F ad u, rfl⟩⟩
section
variable {E : gE} {X : gC} {cc : ByteArray} {nL : Nat} {own : String} {rm : Room} {ce sl : Nat} {pc : Nat} {L st : List Value} {ad : Nat → Nat} {u : GU}
theorem x1_get {v : Value} (hX : gK E X cc nL RX1 rm) (k idx : Nat) (hk : k < 17) (hT : (TX1 k).1 = RX1) (hl : Cond.fieldLink RX1 idx RX1 (TX1 k).2.1 (TX1 k).2.2.1 ∈ lw_all) (hv : (x1F ad u)[k]? = some v) (hd : decode cc pc = .ok (.getfield idx, 3)) (kk : G E X nL ce sl (x1W E ad u) (pc + 3) L (v :: st)) : G E X nL ce sl (x1W E ad u) pc L (.ref (ad 0) :: st) :=
  fun H locs ls hP hD hS hL => va_get (D := E.D) (ci := 1) (C := RX1) (T := TX1) (N := 17) hX.2.1 hX.2.2.1 hX.2.2.2.2.2.2.1 in_X1 hX.2.2.2.2.2.1 hX.2.2.2.2.2.2.2.2 hP 0 rfl rfl k hk (hX.2.2.2.2.2.2.1 _ hl) (fun _ h9 => by rw [hT] at h9; exact h9) hv hd (kk H locs ls hP hD hS hL)
theorem x1_put {x : Int32} {ws' : va_W} (hX : gK E X cc nL RX1 rm) (k idx : Nat) (hk : k < 17) (hT : (TX1 k).1 = RX1) (hl : Cond.fieldLink RX1 idx RX1 (TX1 k).2.1 (TX1 k).2.2.1 ∈ lw_all) (hfin : (TX1 k).2.2.2 = false) {ty : FieldType} (hty : parseFieldDescriptor (TX1 k).2.2.1 = some ty) (hn : narrow ty (.int x) = .int x) (hfit : fits ty (.int x) = true) (hw : (x1W E ad u).set 0 (ad 0, .inr (1, (x1F ad u).set k (.int x))) = ws') (hd : decode cc pc = .ok (.putfield idx, 3)) (kk : G E X nL ce sl ws' (pc + 3) L st) : G E X nL ce sl (x1W E ad u) pc L (.int x :: .ref (ad 0) :: st) :=
  fun H locs ls hP hD hS hL => va_put (D := E.D) (ci := 1) (v := .int x) (ty := ty) (C := RX1) (T := TX1) (N := 17) hX.2.1 hX.2.2.1 hX.2.2.2.2.2.2.1 in_X1 tyX1 tyX1_ok nmX1 hX.2.2.2.2.2.1 hX.2.2.2.2.2.2.2.2 hP hD hS 0 rfl rfl k hk (hX.2.2.2.2.2.2.1 _ hl) (fun _ h9 => by rw [hT] at h9; exact h9) hfin hty hn hfit hk hd (fun H1 locs1 hP1 hD1 hS1 => kk H1 locs1 ls (hw ▸ hP1) (hw ▸ hD1) hS1 hL)
/-- get, put size -/
theorem x1_g0 {x : Int32} (hX : gK E X cc nL RX1 rm) (hd : decode cc pc = .ok (.getfield 47, 3)) (hv : u 0 0 = x) (kk : G E X nL ce sl (x1W E ad u) (pc + 3) L (.int x :: st)) : G E X nL ce sl (x1W E ad u) pc L (.ref (ad 0) :: st) :=
  x1_get hX 0 47 (by decide) rfl q250 rfl hd (hv ▸ kk)
theorem x1_p0 {x : Int32} (hX : gK E X cc nL RX1 rm) (hd : decode cc pc = .ok (.putfield 47, 3)) (kk : G E X nL ce sl (x1W E ad (gput u 0 x)) (pc + 3) L st) : G E X nL ce sl (x1W E ad u) pc L (.int x :: .ref (ad 0) :: st) :=
  x1_put hX 0 47 (by decide) rfl q250 rfl (ty := .int) (by decide +kernel) rfl rfl rfl hd kk
/-- get ops -/
theorem x1_g1 (hX : gK E X cc nL RX1 rm) (hd : decode cc pc = .ok (.getfield 7, 3)) (kk : G E X nL ce sl (x1W E ad u) (pc + 3) L (.ref (ad 1) :: st)) : G E X nL ce sl (x1W E ad u) pc L (.ref (ad 0) :: st) :=
  x1_get hX 1 7 (by decide) rfl q251 rfl hd kk
theorem x1_l1 {i x : Int32} {j : Nat} (hX : gK E X cc nL own rm) (hd : decode cc pc = .ok (.iaload, 1)) (hi : i = nI j) (hj : j < 12) (hv : u 1 j = x) (kk : G E X nL ce sl (x1W E ad u) (pc + 1) L (.int x :: st)) : G E X nL ce sl (x1W E ad u) pc L (.int i :: .ref (ad 1) :: st) :=
  g_ald (q0 := 1) (n := 12) (f := u 1) hX rfl hi hj (by decide) hd (hv ▸ kk)
theorem x1_s1 {i x : Int32} {j : Nat} (hX : gK E X cc nL own rm) (hd : decode cc pc = .ok (.iastore, 1)) (hi : i = nI j) (hj : j < 12) (kk : G E X nL ce sl (x1W E ad (va_up u 1 (upd (u 1) j x))) (pc + 1) L st) : G E X nL ce sl (x1W E ad u) pc L (.int x :: .int i :: .ref (ad 1) :: st) :=
  g_ast (q0 := 1) (n := 12) (f := u 1) hX rfl hi hj (by decide) rfl hd kk
/-- get as -/
theorem x1_g2 (hX : gK E X cc nL RX1 rm) (hd : decode cc pc = .ok (.getfield 13, 3)) (kk : G E X nL ce sl (x1W E ad u) (pc + 3) L (.ref (ad 2) :: st)) : G E X nL ce sl (x1W E ad u) pc L (.ref (ad 0) :: st) :=
  x1_get hX 2 13 (by decide) rfl q252 rfl hd kk
theorem x1_l2 {i x : Int32} {j : Nat} (hX : gK E X cc nL own rm) (hd : decode cc pc = .ok (.iaload, 1)) (hi : i = nI j) (hj : j < 12) (hv : u 2 j = x) (kk : G E X nL ce sl (x1W E ad u) (pc + 1) L (.int x :: st)) : G E X nL ce sl (x1W E ad u) pc L (.int i :: .ref (ad 2) :: st) :=
  g_ald (q0 := 2) (n := 12) (f := u 2) hX rfl hi hj (by decide) hd (hv ▸ kk)
theorem x1_s2 {i x : Int32} {j : Nat} (hX : gK E X cc nL own rm) (hd : decode cc pc = .ok (.iastore, 1)) (hi : i = nI j) (hj : j < 12) (kk : G E X nL ce sl (x1W E ad (va_up u 2 (upd (u 2) j x))) (pc + 1) L st) : G E X nL ce sl (x1W E ad u) pc L (.int x :: .int i :: .ref (ad 2) :: st) :=
  g_ast (q0 := 2) (n := 12) (f := u 2) hX rfl hi hj (by decide) rfl hd kk
/-- get bs -/
theorem x1_g3 (hX : gK E X cc nL RX1 rm) (hd : decode cc pc = .ok (.getfield 16, 3)) (kk : G E X nL ce sl (x1W E ad u) (pc + 3) L (.ref (ad 3) :: st)) : G E X nL ce sl (x1W E ad u) pc L (.ref (ad 0) :: st) :=
  x1_get hX 3 16 (by decide) rfl q253 rfl hd kk
theorem x1_l3 {i x : Int32} {j : Nat} (hX : gK E X cc nL own rm) (hd : decode cc pc = .ok (.iaload, 1)) (hi : i = nI j) (hj : j < 12) (hv : u 3 j = x) (kk : G E X nL ce sl (x1W E ad u) (pc + 1) L (.int x :: st)) : G E X nL ce sl (x1W E ad u) pc L (.int i :: .ref (ad 3) :: st) :=
  g_ald (q0 := 3) (n := 12) (f := u 3) hX rfl hi hj (by decide) hd (hv ▸ kk)
theorem x1_s3 {i x : Int32} {j : Nat} (hX : gK E X cc nL own rm) (hd : decode cc pc = .ok (.iastore, 1)) (hi : i = nI j) (hj : j < 12) (kk : G E X nL ce sl (x1W E ad (va_up u 3 (upd (u 3) j x))) (pc + 1) L st) : G E X nL ce sl (x1W E ad u) pc L (.int x :: .int i :: .ref (ad 3) :: st) :=
  g_ast (q0 := 3) (n := 12) (f := u 3) hX rfl hi hj (by decide) rfl hd kk
/-- get cs -/
theorem x1_g4 (hX : gK E X cc nL RX1 rm) (hd : decode cc pc = .ok (.getfield 19, 3)) (kk : G E X nL ce sl (x1W E ad u) (pc + 3) L (.ref (ad 4) :: st)) : G E X nL ce sl (x1W E ad u) pc L (.ref (ad 0) :: st) :=
  x1_get hX 4 19 (by decide) rfl q254 rfl hd kk
theorem x1_l4 {i x : Int32} {j : Nat} (hX : gK E X cc nL own rm) (hd : decode cc pc = .ok (.iaload, 1)) (hi : i = nI j) (hj : j < 12) (hv : u 4 j = x) (kk : G E X nL ce sl (x1W E ad u) (pc + 1) L (.int x :: st)) : G E X nL ce sl (x1W E ad u) pc L (.int i :: .ref (ad 4) :: st) :=
  g_ald (q0 := 4) (n := 12) (f := u 4) hX rfl hi hj (by decide) hd (hv ▸ kk)
theorem x1_s4 {i x : Int32} {j : Nat} (hX : gK E X cc nL own rm) (hd : decode cc pc = .ok (.iastore, 1)) (hi : i = nI j) (hj : j < 12) (kk : G E X nL ce sl (x1W E ad (va_up u 4 (upd (u 4) j x))) (pc + 1) L st) : G E X nL ce sl (x1W E ad u) pc L (.int x :: .int i :: .ref (ad 4) :: st) :=
  g_ast (q0 := 4) (n := 12) (f := u 4) hX rfl hi hj (by decide) rfl hd kk
/-- get, put tests -/
theorem x1_g5 {x : Int32} (hX : gK E X cc nL RX1 rm) (hd : decode cc pc = .ok (.getfield 51, 3)) (hv : u 5 0 = x) (kk : G E X nL ce sl (x1W E ad u) (pc + 3) L (.int x :: st)) : G E X nL ce sl (x1W E ad u) pc L (.ref (ad 0) :: st) :=
  x1_get hX 5 51 (by decide) rfl q255 rfl hd (hv ▸ kk)
theorem x1_p5 {x : Int32} (hX : gK E X cc nL RX1 rm) (hd : decode cc pc = .ok (.putfield 51, 3)) (kk : G E X nL ce sl (x1W E ad (gput u 5 x)) (pc + 3) L st) : G E X nL ce sl (x1W E ad u) pc L (.int x :: .ref (ad 0) :: st) :=
  x1_put hX 5 51 (by decide) rfl q255 rfl (ty := .int) (by decide +kernel) rfl rfl rfl hd kk
/-- get xs -/
theorem x1_g6 (hX : gK E X cc nL RX1 rm) (hd : decode cc pc = .ok (.getfield 22, 3)) (kk : G E X nL ce sl (x1W E ad u) (pc + 3) L (.ref (ad 6) :: st)) : G E X nL ce sl (x1W E ad u) pc L (.ref (ad 0) :: st) :=
  x1_get hX 6 22 (by decide) rfl q256 rfl hd kk
theorem x1_l6 {i x : Int32} {j : Nat} (hX : gK E X cc nL own rm) (hd : decode cc pc = .ok (.iaload, 1)) (hi : i = nI j) (hj : j < 6) (hv : u 6 j = x) (kk : G E X nL ce sl (x1W E ad u) (pc + 1) L (.int x :: st)) : G E X nL ce sl (x1W E ad u) pc L (.int i :: .ref (ad 6) :: st) :=
  g_ald (q0 := 5) (n := 6) (f := u 6) hX rfl hi hj (by decide) hd (hv ▸ kk)
theorem x1_s6 {i x : Int32} {j : Nat} (hX : gK E X cc nL own rm) (hd : decode cc pc = .ok (.iastore, 1)) (hi : i = nI j) (hj : j < 6) (kk : G E X nL ce sl (x1W E ad (va_up u 6 (upd (u 6) j x))) (pc + 1) L st) : G E X nL ce sl (x1W E ad u) pc L (.int x :: .int i :: .ref (ad 6) :: st) :=
  g_ast (q0 := 5) (n := 6) (f := u 6) hX rfl hi hj (by decide) rfl hd kk
/-- get ys -/
theorem x1_g7 (hX : gK E X cc nL RX1 rm) (hd : decode cc pc = .ok (.getfield 25, 3)) (kk : G E X nL ce sl (x1W E ad u) (pc + 3) L (.ref (ad 7) :: st)) : G E X nL ce sl (x1W E ad u) pc L (.ref (ad 0) :: st) :=
  x1_get hX 7 25 (by decide) rfl q257 rfl hd kk
theorem x1_l7 {i x : Int32} {j : Nat} (hX : gK E X cc nL own rm) (hd : decode cc pc = .ok (.iaload, 1)) (hi : i = nI j) (hj : j < 6) (hv : u 7 j = x) (kk : G E X nL ce sl (x1W E ad u) (pc + 1) L (.int x :: st)) : G E X nL ce sl (x1W E ad u) pc L (.int i :: .ref (ad 7) :: st) :=
  g_ald (q0 := 6) (n := 6) (f := u 7) hX rfl hi hj (by decide) hd (hv ▸ kk)
theorem x1_s7 {i x : Int32} {j : Nat} (hX : gK E X cc nL own rm) (hd : decode cc pc = .ok (.iastore, 1)) (hi : i = nI j) (hj : j < 6) (kk : G E X nL ce sl (x1W E ad (va_up u 7 (upd (u 7) j x))) (pc + 1) L st) : G E X nL ce sl (x1W E ad u) pc L (.int x :: .int i :: .ref (ad 7) :: st) :=
  g_ast (q0 := 6) (n := 6) (f := u 7) hX rfl hi hj (by decide) rfl hd kk
/-- get ends -/
theorem x1_g8 (hX : gK E X cc nL RX1 rm) (hd : decode cc pc = .ok (.getfield 28, 3)) (kk : G E X nL ce sl (x1W E ad u) (pc + 3) L (.ref (ad 8) :: st)) : G E X nL ce sl (x1W E ad u) pc L (.ref (ad 0) :: st) :=
  x1_get hX 8 28 (by decide) rfl q258 rfl hd kk
theorem x1_l8 {i x : Int32} {j : Nat} (hX : gK E X cc nL own rm) (hd : decode cc pc = .ok (.baload, 1)) (hi : i = nI j) (hj : j < 6) (hv : u 8 j = x) (kk : G E X nL ce sl (x1W E ad u) (pc + 1) L (.int x :: st)) : G E X nL ce sl (x1W E ad u) pc L (.int i :: .ref (ad 8) :: st) :=
  g_zld (q0 := 7) (n := 6) (f := u 8) hX rfl hi hj (by decide) hd (hv ▸ kk)
theorem x1_s8 {i x : Int32} {j : Nat} (hX : gK E X cc nL own rm) (hd : decode cc pc = .ok (.bastore, 1)) (hi : i = nI j) (hj : j < 6) (hx : vp_nar .boolean x = x) (kk : G E X nL ce sl (x1W E ad (va_up u 8 (upd (u 8) j x))) (pc + 1) L st) : G E X nL ce sl (x1W E ad u) pc L (.int x :: .int i :: .ref (ad 8) :: st) :=
  g_zst (q0 := 7) (n := 6) (f := u 8) hX rfl hi hj (by decide) hx rfl hd kk
/-- get expected -/
theorem x1_g9 (hX : gK E X cc nL RX1 rm) (hd : decode cc pc = .ok (.getfield 32, 3)) (kk : G E X nL ce sl (x1W E ad u) (pc + 3) L (.ref (ad 9) :: st)) : G E X nL ce sl (x1W E ad u) pc L (.ref (ad 0) :: st) :=
  x1_get hX 9 32 (by decide) rfl q259 rfl hd kk
theorem x1_l9 {i x : Int32} {j : Nat} (hX : gK E X cc nL own rm) (hd : decode cc pc = .ok (.iaload, 1)) (hi : i = nI j) (hj : j < 6) (hv : u 9 j = x) (kk : G E X nL ce sl (x1W E ad u) (pc + 1) L (.int x :: st)) : G E X nL ce sl (x1W E ad u) pc L (.int i :: .ref (ad 9) :: st) :=
  g_ald (q0 := 8) (n := 6) (f := u 9) hX rfl hi hj (by decide) hd (hv ▸ kk)
theorem x1_s9 {i x : Int32} {j : Nat} (hX : gK E X cc nL own rm) (hd : decode cc pc = .ok (.iastore, 1)) (hi : i = nI j) (hj : j < 6) (kk : G E X nL ce sl (x1W E ad (va_up u 9 (upd (u 9) j x))) (pc + 1) L st) : G E X nL ce sl (x1W E ad u) pc L (.int x :: .int i :: .ref (ad 9) :: st) :=
  g_ast (q0 := 8) (n := 6) (f := u 9) hX rfl hi hj (by decide) rfl hd kk
/-- get, put mutants -/
theorem x1_g10 {x : Int32} (hX : gK E X cc nL RX1 rm) (hd : decode cc pc = .ok (.getfield 66, 3)) (hv : u 10 0 = x) (kk : G E X nL ce sl (x1W E ad u) (pc + 3) L (.int x :: st)) : G E X nL ce sl (x1W E ad u) pc L (.ref (ad 0) :: st) :=
  x1_get hX 10 66 (by decide) rfl q260 rfl hd (hv ▸ kk)
theorem x1_p10 {x : Int32} (hX : gK E X cc nL RX1 rm) (hd : decode cc pc = .ok (.putfield 66, 3)) (kk : G E X nL ce sl (x1W E ad (gput u 10 x)) (pc + 3) L st) : G E X nL ce sl (x1W E ad u) pc L (.int x :: .ref (ad 0) :: st) :=
  x1_put hX 10 66 (by decide) rfl q260 rfl (ty := .int) (by decide +kernel) rfl rfl rfl hd kk
/-- get places -/
theorem x1_g11 (hX : gK E X cc nL RX1 rm) (hd : decode cc pc = .ok (.getfield 35, 3)) (kk : G E X nL ce sl (x1W E ad u) (pc + 3) L (.ref (ad 11) :: st)) : G E X nL ce sl (x1W E ad u) pc L (.ref (ad 0) :: st) :=
  x1_get hX 11 35 (by decide) rfl q261 rfl hd kk
theorem x1_l11 {i x : Int32} {j : Nat} (hX : gK E X cc nL own rm) (hd : decode cc pc = .ok (.iaload, 1)) (hi : i = nI j) (hj : j < 24) (hv : u 11 j = x) (kk : G E X nL ce sl (x1W E ad u) (pc + 1) L (.int x :: st)) : G E X nL ce sl (x1W E ad u) pc L (.int i :: .ref (ad 11) :: st) :=
  g_ald (q0 := 9) (n := 24) (f := u 11) hX rfl hi hj (by decide) hd (hv ▸ kk)
theorem x1_s11 {i x : Int32} {j : Nat} (hX : gK E X cc nL own rm) (hd : decode cc pc = .ok (.iastore, 1)) (hi : i = nI j) (hj : j < 24) (kk : G E X nL ce sl (x1W E ad (va_up u 11 (upd (u 11) j x))) (pc + 1) L st) : G E X nL ce sl (x1W E ad u) pc L (.int x :: .int i :: .ref (ad 11) :: st) :=
  g_ast (q0 := 9) (n := 24) (f := u 11) hX rfl hi hj (by decide) rfl hd kk
/-- get changesOp -/
theorem x1_g12 (hX : gK E X cc nL RX1 rm) (hd : decode cc pc = .ok (.getfield 38, 3)) (kk : G E X nL ce sl (x1W E ad u) (pc + 3) L (.ref (ad 12) :: st)) : G E X nL ce sl (x1W E ad u) pc L (.ref (ad 0) :: st) :=
  x1_get hX 12 38 (by decide) rfl q262 rfl hd kk
theorem x1_l12 {i x : Int32} {j : Nat} (hX : gK E X cc nL own rm) (hd : decode cc pc = .ok (.baload, 1)) (hi : i = nI j) (hj : j < 24) (hv : u 12 j = x) (kk : G E X nL ce sl (x1W E ad u) (pc + 1) L (.int x :: st)) : G E X nL ce sl (x1W E ad u) pc L (.int i :: .ref (ad 12) :: st) :=
  g_zld (q0 := 10) (n := 24) (f := u 12) hX rfl hi hj (by decide) hd (hv ▸ kk)
theorem x1_s12 {i x : Int32} {j : Nat} (hX : gK E X cc nL own rm) (hd : decode cc pc = .ok (.bastore, 1)) (hi : i = nI j) (hj : j < 24) (hx : vp_nar .boolean x = x) (kk : G E X nL ce sl (x1W E ad (va_up u 12 (upd (u 12) j x))) (pc + 1) L st) : G E X nL ce sl (x1W E ad u) pc L (.int x :: .int i :: .ref (ad 12) :: st) :=
  g_zst (q0 := 10) (n := 24) (f := u 12) hX rfl hi hj (by decide) hx rfl hd kk
/-- get changes -/
theorem x1_g13 (hX : gK E X cc nL RX1 rm) (hd : decode cc pc = .ok (.getfield 41, 3)) (kk : G E X nL ce sl (x1W E ad u) (pc + 3) L (.ref (ad 13) :: st)) : G E X nL ce sl (x1W E ad u) pc L (.ref (ad 0) :: st) :=
  x1_get hX 13 41 (by decide) rfl q263 rfl hd kk
theorem x1_l13 {i x : Int32} {j : Nat} (hX : gK E X cc nL own rm) (hd : decode cc pc = .ok (.iaload, 1)) (hi : i = nI j) (hj : j < 24) (hv : u 13 j = x) (kk : G E X nL ce sl (x1W E ad u) (pc + 1) L (.int x :: st)) : G E X nL ce sl (x1W E ad u) pc L (.int i :: .ref (ad 13) :: st) :=
  g_ald (q0 := 11) (n := 24) (f := u 13) hX rfl hi hj (by decide) hd (hv ▸ kk)
theorem x1_s13 {i x : Int32} {j : Nat} (hX : gK E X cc nL own rm) (hd : decode cc pc = .ok (.iastore, 1)) (hi : i = nI j) (hj : j < 24) (kk : G E X nL ce sl (x1W E ad (va_up u 13 (upd (u 13) j x))) (pc + 1) L st) : G E X nL ce sl (x1W E ad u) pc L (.int x :: .int i :: .ref (ad 13) :: st) :=
  g_ast (q0 := 11) (n := 24) (f := u 13) hX rfl hi hj (by decide) rfl hd kk
/-- get r -/
theorem x1_g14 (hX : gK E X cc nL RX1 rm) (hd : decode cc pc = .ok (.getfield 44, 3)) (kk : G E X nL ce sl (x1W E ad u) (pc + 3) L (.ref (ad 14) :: st)) : G E X nL ce sl (x1W E ad u) pc L (.ref (ad 0) :: st) :=
  x1_get hX 14 44 (by decide) rfl q264 rfl hd kk
theorem x1_l14 {i x : Int32} {j : Nat} (hX : gK E X cc nL own rm) (hd : decode cc pc = .ok (.iaload, 1)) (hi : i = nI j) (hj : j < 4) (hv : u 14 j = x) (kk : G E X nL ce sl (x1W E ad u) (pc + 1) L (.int x :: st)) : G E X nL ce sl (x1W E ad u) pc L (.int i :: .ref (ad 14) :: st) :=
  g_ald (q0 := 12) (n := 4) (f := u 14) hX rfl hi hj (by decide) hd (hv ▸ kk)
theorem x1_s14 {i x : Int32} {j : Nat} (hX : gK E X cc nL own rm) (hd : decode cc pc = .ok (.iastore, 1)) (hi : i = nI j) (hj : j < 4) (kk : G E X nL ce sl (x1W E ad (va_up u 14 (upd (u 14) j x))) (pc + 1) L st) : G E X nL ce sl (x1W E ad u) pc L (.int x :: .int i :: .ref (ad 14) :: st) :=
  g_ast (q0 := 12) (n := 4) (f := u 14) hX rfl hi hj (by decide) rfl hd kk
/-- get, put ended -/
theorem x1_g15 {x : Int32} (hX : gK E X cc nL RX1 rm) (hd : decode cc pc = .ok (.getfield 62, 3)) (hv : u 15 0 = x) (kk : G E X nL ce sl (x1W E ad u) (pc + 3) L (.int x :: st)) : G E X nL ce sl (x1W E ad u) pc L (.ref (ad 0) :: st) :=
  x1_get hX 15 62 (by decide) rfl q265 rfl hd (hv ▸ kk)
theorem x1_p15 {x : Int32} (hX : gK E X cc nL RX1 rm) (hd : decode cc pc = .ok (.putfield 62, 3)) (hn : narrow .boolean (.int x) = .int x) (hf : fits .boolean (.int x) = true) (kk : G E X nL ce sl (x1W E ad (gput u 15 x)) (pc + 3) L st) : G E X nL ce sl (x1W E ad u) pc L (.int x :: .ref (ad 0) :: st) :=
  x1_put hX 15 62 (by decide) rfl q265 rfl (ty := .boolean) (by decide +kernel) hn hf rfl hd kk
/-- get, put carried -/
theorem x1_g16 {x : Int32} (hX : gK E X cc nL RX1 rm) (hd : decode cc pc = .ok (.getfield 73, 3)) (hv : u 16 0 = x) (kk : G E X nL ce sl (x1W E ad u) (pc + 3) L (.int x :: st)) : G E X nL ce sl (x1W E ad u) pc L (.ref (ad 0) :: st) :=
  x1_get hX 16 73 (by decide) rfl q266 rfl hd (hv ▸ kk)
theorem x1_p16 {x : Int32} (hX : gK E X cc nL RX1 rm) (hd : decode cc pc = .ok (.putfield 73, 3)) (kk : G E X nL ce sl (x1W E ad (gput u 16 x)) (pc + 3) L st) : G E X nL ce sl (x1W E ad u) pc L (.int x :: .ref (ad 0) :: st) :=
  x1_put hX 16 73 (by decide) rfl q266 rfl (ty := .int) (by decide +kernel) rfl rfl rfl hd kk
end
end
section
/-! contracts over a family of worlds, how one is proved, how one is used -/
def gB (E : gE) (wf : GU → va_W) (u : GU) (sz : Nat) (U : State) : Prop := U.heap.size = sz ∧ va_P E.D vwCl (wf u) U.heap ∧ va_K E.D vwCl (gTy E) U ∧ va_D (fun _ => True) (wf u)
/-- an int or a boolean comes back -/
def gM (E : gE) (y : MethodName) (cc : ByteArray) (nL : Nat) (ret : Option FieldType) (rm : Room) (wf : GU → va_W) (av : List Value) (u : GU) (post : Int32 → GU → Prop) : Prop :=
  ∀ sz : Nat, Met E.l y (ws_ y cc nL ret) rm (va_Pc av (gB E wf u sz)) (va_Qi post (fun u' t => va_P E.D vwCl (wf u') t.heap) (va_A (wf u) sz)) 0 0 (va_A (wf u) sz)
/-- nothing comes back -/
def gV (E : gE) (y : MethodName) (cc : ByteArray) (nL : Nat) (rm : Room) (wf : GU → va_W) (av : List Value) (u : GU) (post : GU → Prop) : Prop :=
  ∀ sz : Nat, Met E.l y (ws_ y cc nL none) rm (va_Pc av (gB E wf u sz)) (va_Qv post (fun u' t => va_P E.D vwCl (wf u') t.heap) (va_A (wf u) sz)) 0 0 (va_A (wf u) sz)
/-- the end rule that a body has -/
def gRi (E : gE) (X : gC) (cc : ByteArray) (nL : Nat) (wf : GU → va_W) (post : Int32 → GU → Prop) : Prop := ∀ (r : Int32) (u' : GU) (pc : Nat) (L : List Value), post r u' → decode cc pc = .ok (.ireturn, 1) → G E X nL 0 0 (wf u') pc L [.int r]
def gRv (E : gE) (X : gC) (cc : ByteArray) (nL : Nat) (wf : GU → va_W) (post : GU → Prop) : Prop := ∀ (u' : GU) (pc : Nat) (L : List Value), post u' → decode cc pc = .ok (.return_, 1) → G E X nL 0 0 (wf u') pc L []
theorem gM_of {E : gE} {y : MethodName} {cc : ByteArray} {nL : Nat} {ty : FieldType} {rm : Room} {wf : GU → va_W} {av : List Value} {u : GU} {post : Int32 → GU → Prop} (hy : plainName y.cls = true) (hav : (lg_sl av).length ≤ nL) (hc0 : av.all (fun v => decide (v.category = 1)) = true) (hn : ∀ r u', post r u' → narrow ty (.int r) = .int r)
    (body : ∀ X : gC, gK E X cc nL y.cls rm → gRi E X cc nL wf post → G E X nL 0 0 (wf u) 0 av []) : gM E y cc nL (some ty) rm wf av u post := by
  have hc : ∀ v ∈ av, v.category = 1 := fun v hv => of_decide_eq_true (List.all_eq_true.mp hc0 v hv)
  intro sz
  refine Met.ofW (cc := cc) (maxL := nL) (ret := some ty) hy rfl ?_
  intro p e s m args below meth c s₁ B hml hv
  obtain ⟨rfl, hsz, hP, hK, hD0⟩ := hv
  have hx := B.exec
  have hb := B.bytes
  have hr := B.returns
  have hts := atoms_spec (ws := ws_ y cc nL (some ty)) B.pre
  have hts : ∀ w ∈ lw_all, w.before _ s = true := fun w h => hts w (List.mem_cons_of_mem _ h)
  have hown : s.vm.findClass y.cls = some m.cls := findClass_of_methodNamed B.named
  have hlocks := B.notSynchronized
  subst hsz
  have hD := hD0.self (sz := s.heap.size)
  have key := body (p, e, rm, s, m, av.toArray, below, meth, c, va_A (wf u) s.heap.size, MQ below (va_Qi post (fun u' t => va_P E.D vwCl (wf u') t.heap) (va_A (wf u) s.heap.size)) av.toArray s 0 0 (va_A (wf u) s.heap.size)) ⟨rfl, hx, hb, hml, hlocks, hown, hts, fun q h => Or.inr h, hK⟩
    (fun r u' pc L hp hd H locs ls hP hD hS hL => W.zret (v := r) hx hb hr (hn r u' hp) (fun t ht _ => ⟨⟨r, u', rfl, hp, by show va_P E.D vwCl (wf u') t.heap; rw [ht]; exact hP⟩, va_S.F hS ht⟩) hS.2.2 hd hlocks)
  rw [lg_entry_eq]
  exact key s.heap [] _ hP hD va_S.rf (gL.entry hav hc)
theorem gV_of {E : gE} {y : MethodName} {cc : ByteArray} {nL : Nat} {rm : Room} {wf : GU → va_W} {av : List Value} {u : GU} {post : GU → Prop} (hy : plainName y.cls = true) (hav : (lg_sl av).length ≤ nL) (hc0 : av.all (fun v => decide (v.category = 1)) = true)
    (body : ∀ X : gC, gK E X cc nL y.cls rm → gRv E X cc nL wf post → G E X nL 0 0 (wf u) 0 av []) : gV E y cc nL rm wf av u post := by
  have hc : ∀ v ∈ av, v.category = 1 := fun v hv => of_decide_eq_true (List.all_eq_true.mp hc0 v hv)
  intro sz
  refine Met.ofW (cc := cc) (maxL := nL) (ret := none) hy rfl ?_
  intro p e s m args below meth c s₁ B hml hv
  obtain ⟨rfl, hsz, hP, hK, hD0⟩ := hv
  have hx := B.exec
  have hb := B.bytes
  have hr := B.returns
  have hts := atoms_spec (ws := ws_ y cc nL none) B.pre
  have hts : ∀ w ∈ lw_all, w.before _ s = true := fun w h => hts w (List.mem_cons_of_mem _ h)
  have hown : s.vm.findClass y.cls = some m.cls := findClass_of_methodNamed B.named
  have hlocks := B.notSynchronized
  subst hsz
  have hD := hD0.self (sz := s.heap.size)
  have key := body (p, e, rm, s, m, av.toArray, below, meth, c, va_A (wf u) s.heap.size, MQ below (va_Qv post (fun u' t => va_P E.D vwCl (wf u') t.heap) (va_A (wf u) s.heap.size)) av.toArray s 0 0 (va_A (wf u) s.heap.size)) ⟨rfl, hx, hb, hml, hlocks, hown, hts, fun q h => Or.inr h, hK⟩
    (fun u' pc L hp hd H locs ls hP hD hS hL => W.vret hx hb hr (fun t ht _ => ⟨⟨u', rfl, hp, by show va_P E.D vwCl (wf u') t.heap; rw [ht]; exact hP⟩, va_S.F hS ht⟩) hS.2.2 hd hlocks)
  rw [lg_entry_eq]
  exact key s.heap [] _ hP hD va_S.rf (gL.entry hav hc)
/-- what a callee is: its words -/
def gY (y : MethodName) (cc : ByteArray) (nL : Nat) (ret : Option FieldType) (n : Nat) : Prop := Cond.instanceMethod y ∈ lw_all ∧ Cond.selects y.cls y y ∈ lw_all ∧ Cond.initialized y.cls ∈ lw_all ∧ Cond.code y cc nL ret ∈ lw_all ∧ y.cls ≠ "java/lang/invoke/MethodHandle" ∧ y.cls ≠ "java/lang/invoke/VarHandle" ∧ (parseMethodDescriptor y.desc).map (fun d => d.parameters.length) = some n
def gYs (y : MethodName) (cc : ByteArray) (nL : Nat) (ret : Option FieldType) (n : Nat) : Prop := Cond.static y ∈ lw_all ∧ Cond.initialized y.cls ∈ lw_all ∧ Cond.code y cc nL ret ∈ lw_all ∧ y.cls ≠ "java/lang/invoke/MethodHandle" ∧ y.cls ≠ "java/lang/invoke/VarHandle" ∧ (parseMethodDescriptor y.desc).map (fun d => d.parameters.length) = some n
theorem gD_congr {A : Nat → Prop} {w w' : va_W} (h : w.map Prod.fst = w'.map Prod.fst) (hD : va_D A w) : va_D A w' := by
  have key : ∀ (k : Nat) (q : Nat × va_E), w'[k]? = some q → ∃ q0, w[k]? = some q0 ∧ q0.1 = q.1 := by
    intro k q hk
    have h1 : (w'.map Prod.fst)[k]? = some q.1 := by rw [List.getElem?_map, hk]; rfl
    rw [← h, List.getElem?_map] at h1
    cases h2 : w[k]? with
    | none => rw [h2] at h1; cases h1
    | some q0 => rw [h2] at h1; exact ⟨q0, rfl, Option.some.inj h1⟩
  refine ⟨fun i j x y hi hj hxy => ?_, fun k q hk => ?_⟩
  · obtain ⟨x0, h1, h2⟩ := key i x hi
    obtain ⟨y0, h3, h4⟩ := key j y hj
    exact hD.1 i j x0 y0 h1 h3 (h2.trans (hxy.trans h4.symm))
  · obtain ⟨q0, h1, h2⟩ := key k q hk
    rw [← h2]
    exact hD.2 k q0 h1
theorem gP_left {D : va_G} {cl : List vw_C} {w1 w2 : va_W} {H : Heap} (h : va_P D cl (w1 ++ w2) H) : va_P D cl w1 H := fun k q hk => h k q (by rw [List.getElem?_append_left (List.getElem?_eq_some_iff.mp hk).1]; exact hk)
theorem gP_right {D : va_G} {cl : List vw_C} {w1 w2 : va_W} {H : Heap} (h : va_P D cl (w1 ++ w2) H) : va_P D cl w2 H := fun k q hk => h (w1.length + k) q (by rw [List.getElem?_append_right (by omega), Nat.add_sub_cancel_left]; exact hk)
theorem gD_left {A : Nat → Prop} {w1 w2 : va_W} (h : va_D A (w1 ++ w2)) : va_D A w1 := by
  have e : ∀ (k : Nat) (q : Nat × va_E), w1[k]? = some q → (w1 ++ w2)[k]? = some q := fun k q hk => by rw [List.getElem?_append_left (List.getElem?_eq_some_iff.mp hk).1]; exact hk
  exact ⟨fun i j x y hi hj hxy => h.1 i j x y (e i x hi) (e j y hj) hxy, fun k q hk => h.2 k q (e k q hk)⟩
theorem gD_right {A : Nat → Prop} {w1 w2 : va_W} (h : va_D A (w1 ++ w2)) : va_D A w2 := by
  have e : ∀ (k : Nat) (q : Nat × va_E), w2[k]? = some q → (w1 ++ w2)[w1.length + k]? = some q := fun k q hk => by rw [List.getElem?_append_right (by omega), Nat.add_sub_cancel_left]; exact hk
  exact ⟨fun i j x y hi hj hxy => by have := h.1 _ _ x y (e i x hi) (e j y hj) hxy; omega, fun k q hk => h.2 _ q (e k q hk)⟩
theorem gD_off {A : Nat → Prop} {w1 w2 : va_W} (h : va_D A (w1 ++ w2)) {i j : Nat} {x y : Nat × va_E} (hi : w1[i]? = some x) (hj : w2[j]? = some y) : x.1 ≠ y.1 := by
  intro hxy
  have h1 : i < w1.length := (List.getElem?_eq_some_iff.mp hi).1
  have := h.1 i (w1.length + j) x y (by rw [List.getElem?_append_left h1]; exact hi) (by rw [List.getElem?_append_right (by omega), Nat.add_sub_cancel_left]; exact hj) hxy
  omega
theorem gD_swap {A : Nat → Prop} {w1 w2 : va_W} (h : va_D A (w1 ++ w2)) : va_D A (w2 ++ w1) := va_D.app (gD_right h) (gD_left h) (fun _ _ _ _ hp hq => Ne.symm (gD_off h hq hp))
theorem G.swap {E : gE} {X : gC} {nL ce sl pc : Nat} {w1 w2 : va_W} {L st : List Value} (k : G E X nL ce sl (w2 ++ w1) pc L st) : G E X nL ce sl (w1 ++ w2) pc L st :=
  fun H locs ls hP hD hS hL => k H locs ls (va_P.app (gP_right hP) (gP_left hP)) (gD_swap hD) hS hL
/-- behind a call of something that has its own cells w: the rest stays -/
theorem g_back {E : gE} {X : gC} {wf : GU → va_W} {u u' : GU} {wr : va_W} {H H1 : Heap} (hwf : (wf u).map Prod.fst = (wf u').map Prod.fst) (hP : va_P E.D vwCl (wf u ++ wr) H) (hD : va_D X.A (wf u ++ wr)) (hk : ∀ q : Nat, q < H.size → ¬ va_A (wf u) H.size q → H1[q]? = H[q]?) (hP1 : va_P E.D vwCl (wf u') H1) : va_P E.D vwCl (wf u' ++ wr) H1 ∧ va_D X.A (wf u' ++ wr) := by
  refine ⟨va_P.app hP1 (fun k q hq => ?_), gD_congr (by rw [List.map_append, List.map_append, hwf]) hD⟩
  have hl := (gP_right hP k q hq).lt
  refine (gP_right hP k q hq).kept (hk q.1 hl (fun h => ?_))
  rcases h with ⟨k2, e, h⟩ | h
  · exact gD_off hD h hq rfl
  · omega
theorem g_frees {E : gE} {X : gC} {wf : GU → va_W} {u : GU} {wr : va_W} {H : Heap} {locs : List Loc} (hA : ∀ q, X.s.heap.size ≤ q → X.A q) (hD : va_D X.A (wf u ++ wr)) (hS : va_S X.A X.s.heap H locs) : ∀ q, va_A (wf u) H.size q → X.A q := by
  intro q h
  rcases h with ⟨k, e, h⟩ | h
  · exact (gD_left hD).2 k (q, e) h
  · exact hA q (Nat.le_trans hS.1 h)
section
variable {E : gE} {X : gC} {cc : ByteArray} {nL : Nat} {own : String} {rm : Room} {ce sl pc : Nat} {L st : List Value} {wf : GU → va_W} {wr : va_W} {u : GU}
variable {y : MethodName} {cy : ByteArray} {nLy n idx a0 : Nat} {ret : Option FieldType} {rmy : Room} {As rest : List Value}
/-- room for a callee; the counts of cells so far -/
abbrev gRoom (rm rmy : Room) (nLy ce sl : Nat) : Prop := rmy.cells = 0 ∧ rmy.slots = 0 ∧ (rmy.frames + 1 ≤ rm.frames ∧ 8 + (nLy + 11) + rmy.locals ≤ rm.locals) ∧ ce + 0 ≤ rm.cells ∧ sl + 0 ≤ rm.slots
theorem g_recv (hX : gK E X cc nL own rm) (hw : gWf wf a0 y.cls) {H : Heap} (hP : va_P E.D vwCl (wf u) H) : ∃ cell : Cell, H[a0]? = some cell ∧ cell.vm.isStatics = false ∧ X.s.vm.findClass y.cls = some cell.cls := by
  obtain ⟨-, ci, q, hc, hq, hf⟩ := hw
  obtain ⟨fs, hfs⟩ := hf u
  rw [← hq]
  exact va_recv hX.2.2.2.2.2.2.2.2 hP hc hfs
theorem g_blind {av : List Value} {sz : Nat} : FrameBlind (va_Pc av (gB E wf u sz)) := fun a U g mk q => by
  obtain ⟨q0, q1, qP, qK, qD⟩ := q
  exact ⟨q0, q1, qP, va_K.moved (u := U) (U := U.calling g mk a) (Vm.Alike.refl U.vm) qK, qD⟩
theorem g_start (hX : gK E X cc nL own rm) {av : List Value} {H : Heap} (hP : va_P E.D vwCl (wf u) H) (hD : va_D X.A (wf u)) : ∀ U : State, U.heap = H → X.s.WarmedH U.vm → va_Pc av (gB E wf u H.size) av.toArray U :=
  fun U hU hW => ⟨rfl, by rw [hU], by rw [hU]; exact hP, va_K.moved hW.alike hX.2.2.2.2.2.2.2.2, hD.weaken (fun _ _ _ _ => trivial)⟩
theorem g_calli {post : Int32 → GU → Prop} (hX : gK E X cc nL own rm) (hM : gM E y cy nLy ret rmy wf (.ref a0 :: As) u post) (hw : gWf wf a0 y.cls) (hy : gY y cy nLy ret n) (hl : Cond.methodLink own idx y ∈ lw_all) (hd : decode cc pc = .ok (.invokevirtual idx, 3)) (hst : st = As.reverse ++ .ref a0 :: rest) (hn : As.length = n) (hrest : (rest.map fun v => v.category).sum ≤ 8) (hR : gRoom rm rmy nLy ce sl)
    (kk : ∀ (r : Int32) (u' : GU), post r u' → G E X nL ce sl (wf u' ++ wr) (pc + 3) L (.int r :: rest)) : G E X nL ce sl (wf u ++ wr) pc L st := by
  subst hst
  intro H locs ls hP hD hS hL
  have hts := hX.2.2.2.2.2.2.1
  obtain ⟨hx, hb, hml, -, hown, -, hA, hK⟩ := hX.2
  have hR' := hX.1
  subst hR'
  have hF := g_frees (E := E) hA hD hS
  obtain ⟨y1, y2, y3, y4, y5⟩ := hy
  refine va_calli (va_runV (As := As) (rest := rest) ⟨hx, hb, hml, hown, hts⟩ (hM H.size) (cwV n hts (lw_V hl y1 y2 y3 y4) rfl hR.1 hR.2.1 ⟨rfl, y5⟩ hR.2.2.1) ⟨g_blind, g_recv hX hw (gP_left hP), g_start hX (gP_left hP) (gD_left hD)⟩ rfl hn hL.1 rfl (lv_room hrest) hd hR.2.2.2) hS (fun q _ h => hF q h) hF (fun r u' t H1 locs1 ht hvm hp hB hz hk hS1 => ?_)
  have hB : va_P E.D vwCl (wf u') t.heap := hB
  rw [ht] at hB
  obtain ⟨h1, h2⟩ := g_back (hw.1 u u') hP hD hk hB
  exact kk r u' hp H1 locs1 ls h1 h2 hS1 hL
theorem g_callv {post : GU → Prop} (hX : gK E X cc nL own rm) (hM : gV E y cy nLy rmy wf (.ref a0 :: As) u post) (hw : gWf wf a0 y.cls) (hy : gY y cy nLy none n) (hl : Cond.methodLink own idx y ∈ lw_all) (hd : decode cc pc = .ok (.invokevirtual idx, 3)) (hst : st = As.reverse ++ .ref a0 :: rest) (hn : As.length = n) (hrest : (rest.map fun v => v.category).sum ≤ 8) (hR : gRoom rm rmy nLy ce sl)
    (kk : ∀ (u' : GU), post u' → G E X nL ce sl (wf u' ++ wr) (pc + 3) L rest) : G E X nL ce sl (wf u ++ wr) pc L st := by
  subst hst
  intro H locs ls hP hD hS hL
  have hts := hX.2.2.2.2.2.2.1
  obtain ⟨hx, hb, hml, -, hown, -, hA, hK⟩ := hX.2
  have hR' := hX.1
  subst hR'
  have hF := g_frees (E := E) hA hD hS
  obtain ⟨y1, y2, y3, y4, y5⟩ := hy
  refine va_callv (va_runV (As := As) (rest := rest) ⟨hx, hb, hml, hown, hts⟩ (hM H.size) (cwV n hts (lw_V hl y1 y2 y3 y4) rfl hR.1 hR.2.1 ⟨rfl, y5⟩ hR.2.2.1) ⟨g_blind, g_recv hX hw (gP_left hP), g_start hX (gP_left hP) (gD_left hD)⟩ rfl hn hL.1 rfl (lv_room hrest) hd hR.2.2.2) hS (fun q _ h => hF q h) hF (fun u' t H1 locs1 ht hvm hp hB hz hk hS1 => ?_)
  have hB : va_P E.D vwCl (wf u') t.heap := hB
  rw [ht] at hB
  obtain ⟨h1, h2⟩ := g_back (hw.1 u u') hP hD hk hB
  exact kk u' hp H1 locs1 ls h1 h2 hS1 hL
/-- a static method that has no cells -/
theorem g_calls {post : Int32 → GU → Prop} {ws : va_W} (hX : gK E X cc nL own rm) (hM : gM E y cy nLy ret rmy (fun _ => []) As u post) (hy : gYs y cy nLy ret n) (hl : Cond.methodLink own idx y ∈ lw_all) (hd : decode cc pc = .ok (.invokestatic idx, 3)) (hst : st = As.reverse ++ rest) (hn : As.length = n) (hrest : (rest.map fun v => v.category).sum ≤ 8) (hR : gRoom rm rmy nLy ce sl)
    (kk : ∀ (r : Int32) (u' : GU), post r u' → G E X nL ce sl ws (pc + 3) L (.int r :: rest)) : G E X nL ce sl ws pc L st := by
  subst hst
  intro H locs ls hP hD hS hL
  have hts := hX.2.2.2.2.2.2.1
  obtain ⟨hx, hb, hml, -, hown, -, hA, hK⟩ := hX.2
  have hR' := hX.1
  subst hR'
  have hF := g_frees (E := E) (wf := fun _ => []) (u := u) (wr := ws) hA hD hS
  obtain ⟨y2, y3, y4, y5⟩ := hy
  refine va_calli (va_runS (As := As) (rest := rest) ⟨hx, hb, hml, hown, hts⟩ (hM H.size) (va_cwS n hts (lw_S hl y2 y3 y4) rfl hR.1 hR.2.1 y5 hR.2.2.1) ⟨g_blind, g_start hX (fun k q hk => by simp at hk) ⟨fun i j p q hi => by simp at hi, fun k q hk => by simp at hk⟩⟩ rfl hn hL.1 rfl (lv_room hrest) hd hR.2.2.2) hS (fun q _ h => hF q h) hF (fun r u' t H1 locs1 ht hvm hp hB hz hk hS1 => ?_)
  have hB : va_P E.D vwCl [] t.heap := hB
  rw [ht] at hB
  obtain ⟨h1, h2⟩ := g_back (E := E) (X := X) (wf := fun _ => []) (u := u) (u' := u') (wr := ws) rfl hP hD hk hB
  exact kk r u' hp H1 locs1 ls h1 h2 hS1 hL
theorem g_calli0 {post : Int32 → GU → Prop} (hX : gK E X cc nL own rm) (hM : gM E y cy nLy ret rmy wf (.ref a0 :: As) u post) (hw : gWf wf a0 y.cls) (hy : gY y cy nLy ret n) (hl : Cond.methodLink own idx y ∈ lw_all) (hd : decode cc pc = .ok (.invokevirtual idx, 3)) (hst : st = As.reverse ++ .ref a0 :: rest) (hn : As.length = n) (hrest : (rest.map fun v => v.category).sum ≤ 8) (hR : gRoom rm rmy nLy ce sl)
    (kk : ∀ (r : Int32) (u' : GU), post r u' → G E X nL ce sl (wf u') (pc + 3) L (.int r :: rest)) : G E X nL ce sl (wf u) pc L st := by
  have h := g_calli (wr := []) (L := L) hX hM hw hy hl hd hst hn hrest hR (fun r u' h => by rw [List.append_nil]; exact kk r u' h)
  rwa [List.append_nil] at h
theorem g_callv0 {post : GU → Prop} (hX : gK E X cc nL own rm) (hM : gV E y cy nLy rmy wf (.ref a0 :: As) u post) (hw : gWf wf a0 y.cls) (hy : gY y cy nLy none n) (hl : Cond.methodLink own idx y ∈ lw_all) (hd : decode cc pc = .ok (.invokevirtual idx, 3)) (hst : st = As.reverse ++ .ref a0 :: rest) (hn : As.length = n) (hrest : (rest.map fun v => v.category).sum ≤ 8) (hR : gRoom rm rmy nLy ce sl)
    (kk : ∀ (u' : GU), post u' → G E X nL ce sl (wf u') (pc + 3) L rest) : G E X nL ce sl (wf u) pc L st := by
  have h := g_callv (wr := []) (L := L) hX hM hw hy hl hd hst hn hrest hR (fun u' h => by rw [List.append_nil]; exact kk u' h)
  rwa [List.append_nil] at h
end
/-! constants -/
abbrev rmX (f lo : Nat) : Room := { frames := f, cells := 0, slots := 0, locals := lo }
theorem ci_m1 : Int32.ofInt (-1) = (-1 : Int32) := by decide
theorem ci_0 : Int32.ofInt 0 = (0 : Int32) := by decide
theorem ci_1 : Int32.ofInt 1 = (1 : Int32) := by decide
theorem ci_2 : Int32.ofInt 2 = (2 : Int32) := by decide
theorem ci_3 : Int32.ofInt 3 = (3 : Int32) := by decide
theorem ci_4 : Int32.ofInt 4 = (4 : Int32) := by decide
theorem ci_5 : Int32.ofInt 5 = (5 : Int32) := by decide
theorem cb_6 : (Int8.ofInt 6).toInt32 = nI 6 := by decide
theorem cb_7 : (Int8.ofInt 7).toInt32 = nI 7 := by decide
theorem cb_8 : (Int8.ofInt 8).toInt32 = nI 8 := by decide
theorem cb_12 : (Int8.ofInt 12).toInt32 = nI 12 := by decide
theorem cb_15 : (Int8.ofInt 15).toInt32 = nI 15 := by decide
theorem cb_16 : (Int8.ofInt 16).toInt32 = nI 16 := by decide
theorem cb_24 : (Int8.ofInt 24).toInt32 = nI 24 := by decide
theorem cb_64 : (Int8.ofInt 64).toInt32 = nI 64 := by decide
theorem cb_100 : (Int8.ofInt 100).toInt32 = nI 100 := by decide
theorem cb_m2 : (Int8.ofInt (-2)).toInt32 = (-2 : Int32) := by decide
theorem cb_m3 : (Int8.ofInt (-3)).toInt32 = (-3 : Int32) := by decide
theorem cb_m4 : (Int8.ofInt (-4)).toInt32 = (-4 : Int32) := by decide
theorem cb_m5 : (Int8.ofInt (-5)).toInt32 = (-5 : Int32) := by decide
theorem cs_144 : (Int16.ofInt 144).toInt32 = nI 144 := by decide
theorem cs_16000 : (Int16.ofInt 16000).toInt32 = nI 16000 := by decide
section
variable {E : gE} {X : gC} {cc : ByteArray} {nL : Nat} {own : String} {rm : Room} {ce sl : Nat} {ws : va_W} {pc : Nat} {L st : List Value}
theorem g_tin (hX : gK E X cc nL own rm) {dflt lo hi : Int} {offs : Array Int} {len : Nat} {x : Int32} {off : Int} {tgt : Nat} (hd : decode cc pc = .ok (.tableswitch dflt lo hi offs, len)) (h1 : ¬ x.toInt < lo) (h2 : ¬ hi < x.toInt) (ho : offs[(x.toInt - lo).toNat]? = some off) (ht : (pc : Int) + off = (tgt : Int)) (k : G E X nL ce sl ws tgt L st) : G E X nL ce sl ws pc L (.int x :: st) :=
  fun H locs ls hP hD hS hL => lv_tableIn hX.2.1 hX.2.2.1 hd h1 h2 ho ht (k H locs ls hP hD hS hL)
theorem g_tout (hX : gK E X cc nL own rm) {dflt lo hi : Int} {offs : Array Int} {len : Nat} {x : Int32} {tgt : Nat} (hd : decode cc pc = .ok (.tableswitch dflt lo hi offs, len)) (h : x.toInt < lo ∨ hi < x.toInt) (ht : (pc : Int) + dflt = (tgt : Int)) (k : G E X nL ce sl ws tgt L st) : G E X nL ce sl ws pc L (.int x :: st) :=
  fun H locs ls hP hD hS hL => lv_tableOut hX.2.1 hX.2.2.1 hd h ht (k H locs ls hP hD hS hL)
end
end
section
/-! what each callee is -/
theorem Y0_emit : gY yX0_emit cX0_emit 4 (some .int) 3 := ⟨q122, q123, q27, q124, by decide +kernel⟩
theorem Y0_test : gY yX0_test cX0_test 4 (some .int) 3 := ⟨q126, q127, q27, q128, by decide +kernel⟩
theorem Y0_addTest : gY yX0_addTest cX0_addTest 6 (some .int) 4 := ⟨q131, qs0, q27, q132, by decide +kernel⟩
theorem Y0_snapshotTest : gY yX0_snapshotTest cX0_snapshotTest 6 (some .int) 2 := ⟨q134, q135, q27, q136, by decide +kernel⟩
theorem Y0_carryOut : gY yX0_carryOut cX0_carryOut 7 (some .int) 4 := ⟨q139, qs1, q27, q140, by decide +kernel⟩
theorem Y0_mutateOp : gY yX0_mutateOp cX0_mutateOp 3 (some .int) 2 := ⟨q142, q143, q27, q144, by decide +kernel⟩
theorem Y0_addMutant : gY yX0_addMutant cX0_addMutant 5 (some .int) 3 := ⟨q147, qs2, q27, q148, by decide +kernel⟩
theorem Y0_mutateC : gY yX0_mutateC cX0_mutateC 3 (some .int) 2 := ⟨q150, q151, q27, q152, by decide +kernel⟩
theorem Y0_clear : gY yX0_clear cX0_clear 1 none 0 := ⟨q154, q155, q27, q156, by decide +kernel⟩
theorem Y0_passes : gY yX0_passes cX0_passes 2 (some .boolean) 1 := ⟨q158, q159, q27, q160, by decide +kernel⟩
theorem Y0_prepare : gY yX0_prepare cX0_prepare 2 none 0 := ⟨q163, qs3, q27, q164, by decide +kernel⟩
theorem Y0_runTest : gY yX0_runTest cX0_runTest 6 none 1 := ⟨q167, qs4, q27, q168, by decide +kernel⟩
theorem Y0_splitAll : gY yX0_splitAll cX0_splitAll 5 none 3 := ⟨q171, qs5, q27, q172, by decide +kernel⟩
theorem Y0_split : gY yX0_split cX0_split 7 none 3 := ⟨q175, qs6, q27, q176, by decide +kernel⟩
theorem Y0_stepMutant : gY yX0_stepMutant cX0_stepMutant 2 (some .int) 1 := ⟨q179, qs7, q27, q180, by decide +kernel⟩
theorem Y0_share : gY yX0_share cX0_share 4 none 2 := ⟨q183, qs8, q27, q184, by decide +kernel⟩
theorem Y0_killers : gY yX0_killers cX0_killers 2 (some .int) 1 := ⟨q186, q187, q27, q188, by decide +kernel⟩
theorem Y0_noMutant : gY yX0_noMutant cX0_noMutant 2 (some .boolean) 1 := ⟨q191, qs9, q27, q192, by decide +kernel⟩
theorem Y0_gatherKills : gY yX0_gatherKills cX0_gatherKills 4 none 0 := ⟨q195, qs10, q27, q196, by decide +kernel⟩
theorem Y0_killsIt : gY yX0_killsIt cX0_killsIt 4 (some .boolean) 2 := ⟨q199, qs11, q27, q200, by decide +kernel⟩
theorem Y0_killersOf : gY yX0_killersOf cX0_killersOf 4 (some .int) 1 := ⟨q203, qs12, q27, q204, by decide +kernel⟩
theorem Y0_killed : gY yX0_killed cX0_killed 4 (some .int) 1 := ⟨q206, q207, q27, q208, by decide +kernel⟩
theorem Y0_ones : gYs yX0_ones cX0_ones 3 (some .int) 1 := ⟨q210, q27, q211, by decide +kernel⟩
theorem Y0_output : gY yX0_output cX0_output 3 (some .int) 2 := ⟨q213, q214, q27, q215, by decide +kernel⟩
theorem Y0_length : gY yX0_length cX0_length 3 (some .int) 2 := ⟨q217, q218, q27, q219, by decide +kernel⟩
theorem Y0_enough : gY yX0_enough cX0_enough 3 (some .int) 0 := ⟨q221, q222, q27, q223, by decide +kernel⟩
theorem Y0_smallest : gY yX0_smallest cX0_smallest 7 (some .int) 1 := ⟨q226, qs13, q27, q227, by decide +kernel⟩
theorem Y0_choices : gY yX0_choices cX0_choices 7 (some .int) 1 := ⟨q230, qs14, q27, q231, by decide +kernel⟩
theorem Y0_killsOf : gY yX0_killsOf cX0_killsOf 3 (some .int) 1 := ⟨q234, qs15, q27, q235, by decide +kernel⟩
theorem Y0_same : gY yX0_same cX0_same 4 (some .int) 0 := ⟨q237, q238, q27, q239, by decide +kernel⟩
theorem Y0_alike : gY yX0_alike cX0_alike 4 (some .boolean) 1 := ⟨q242, qs16, q27, q243, by decide +kernel⟩
theorem Y1_emit : gY yX1_emit cX1_emit 4 (some .int) 3 := ⟨q303, q304, q28, q305, by decide +kernel⟩
theorem Y1_test : gY yX1_test cX1_test 4 (some .int) 3 := ⟨q307, q308, q28, q309, by decide +kernel⟩
theorem Y1_add : gY yX1_add cX1_add 5 (some .int) 4 := ⟨q312, qs17, q28, q313, by decide +kernel⟩
theorem Y1_snapshotTest : gY yX1_snapshotTest cX1_snapshotTest 3 (some .int) 2 := ⟨q315, q316, q28, q317, by decide +kernel⟩
theorem Y1_run : gY yX1_run cX1_run 8 none 3 := ⟨q320, qs18, q28, q321, by decide +kernel⟩
theorem Y1_carryOut : gY yX1_carryOut cX1_carryOut 6 (some .int) 5 := ⟨q324, qs19, q28, q325, by decide +kernel⟩
theorem Y1_mutateOp : gY yX1_mutateOp cX1_mutateOp 3 (some .int) 2 := ⟨q327, q328, q28, q329, by decide +kernel⟩
theorem Y1_mutate : gY yX1_mutate cX1_mutate 4 (some .int) 3 := ⟨q332, qs20, q28, q333, by decide +kernel⟩
theorem Y1_mutateC : gY yX1_mutateC cX1_mutateC 3 (some .int) 2 := ⟨q335, q336, q28, q337, by decide +kernel⟩
theorem Y1_clear : gY yX1_clear cX1_clear 1 none 0 := ⟨q339, q340, q28, q341, by decide +kernel⟩
theorem Y1_passes : gY yX1_passes cX1_passes 2 (some .boolean) 1 := ⟨q343, q344, q28, q345, by decide +kernel⟩
theorem Y1_noTest : gY yX1_noTest cX1_noTest 2 (some .boolean) 1 := ⟨q348, qs21, q28, q349, by decide +kernel⟩
theorem Y1_ok : gY yX1_ok cX1_ok 3 (some .boolean) 2 := ⟨q352, qs22, q28, q353, by decide +kernel⟩
theorem Y1_killers : gY yX1_killers cX1_killers 4 (some .int) 1 := ⟨q355, q356, q28, q357, by decide +kernel⟩
theorem Y1_noMutant : gY yX1_noMutant cX1_noMutant 2 (some .boolean) 1 := ⟨q360, qs23, q28, q361, by decide +kernel⟩
theorem Y1_killed : gY yX1_killed cX1_killed 5 (some .int) 1 := ⟨q363, q364, q28, q365, by decide +kernel⟩
theorem Y1_output : gY yX1_output cX1_output 3 (some .int) 2 := ⟨q368, q369, q28, q370, by decide +kernel⟩
theorem Y1_length : gY yX1_length cX1_length 3 (some .int) 2 := ⟨q372, q373, q28, q374, by decide +kernel⟩
theorem Y1_enough : gY yX1_enough cX1_enough 5 (some .int) 0 := ⟨q376, q377, q28, q378, by decide +kernel⟩
theorem Y1_killsAll : gY yX1_killsAll cX1_killsAll 4 (some .boolean) 1 := ⟨q381, qs24, q28, q382, by decide +kernel⟩
theorem Y1_same : gY yX1_same cX1_same 3 (some .int) 0 := ⟨q384, q385, q28, q386, by decide +kernel⟩
theorem Y1_alike : gY yX1_alike cX1_alike 5 (some .boolean) 1 := ⟨q389, qs25, q28, q390, by decide +kernel⟩
end
section
/-! what an instruction does, what a run does: plain -/
def sR (o c : Int32) (a b : Nat) (R : Nat → Int32) : Nat → Int32 :=
  if o = 0 then upd R a c
  else if o = 1 then upd R a (R a + R b)
  else if o = 2 then upd R a (R a - R b)
  else if o = 3 then upd R a (R a * R b)
  else if o = 4 then upd R a (if R a < R b then R a else R b)
  else if o = 5 then R
  else if o = 6 then R
  else upd R a (R a + c)
def sP (o c : Int32) (a b : Nat) (R : Nat → Int32) (p : Int32) : Int32 :=
  if o = 5 then (if R a < R b then c else p + 1) else if o = 6 then (if R a = 0 then c else p + 1) else p + 1
section
variable {o c p : Int32} {a b : Nat} {R : Nat → Int32}
theorem sR_0 : sR 0 c a b R = upd R a c := by unfold sR; rw [if_pos rfl]
theorem sR_1 : sR 1 c a b R = upd R a (R a + R b) := by unfold sR; rw [if_neg (by decide), if_pos rfl]
theorem sR_2 : sR 2 c a b R = upd R a (R a - R b) := by unfold sR; rw [if_neg (by decide), if_neg (by decide), if_pos rfl]
theorem sR_3 : sR 3 c a b R = upd R a (R a * R b) := by unfold sR; rw [if_neg (by decide), if_neg (by decide), if_neg (by decide), if_pos rfl]
theorem sR_4 : sR 4 c a b R = upd R a (if R a < R b then R a else R b) := by unfold sR; rw [if_neg (by decide), if_neg (by decide), if_neg (by decide), if_neg (by decide), if_pos rfl]
theorem sR_5 : sR 5 c a b R = R := by unfold sR; rw [if_neg (by decide), if_neg (by decide), if_neg (by decide), if_neg (by decide), if_neg (by decide), if_pos rfl]
theorem sR_6 : sR 6 c a b R = R := by unfold sR; rw [if_neg (by decide), if_neg (by decide), if_neg (by decide), if_neg (by decide), if_neg (by decide), if_neg (by decide), if_pos rfl]
theorem sR_d (h0 : ¬ o = 0) (h1 : ¬ o = 1) (h2 : ¬ o = 2) (h3 : ¬ o = 3) (h4 : ¬ o = 4) (h5 : ¬ o = 5) (h6 : ¬ o = 6) : sR o c a b R = upd R a (R a + c) := by
  unfold sR; rw [if_neg h0, if_neg h1, if_neg h2, if_neg h3, if_neg h4, if_neg h5, if_neg h6]
theorem sP_n (h5 : ¬ o = 5) (h6 : ¬ o = 6) : sP o c a b R p = p + 1 := by unfold sP; rw [if_neg h5, if_neg h6]
theorem sP_5t (h : R a < R b) : sP 5 c a b R p = c := by unfold sP; rw [if_pos rfl, if_pos h]
theorem sP_5f (h : ¬ R a < R b) : sP 5 c a b R p = p + 1 := by unfold sP; rw [if_pos rfl, if_neg h]
theorem sP_6t (h : R a = 0) : sP 6 c a b R p = c := by unfold sP; rw [if_neg (by decide), if_pos rfl, if_pos h]
theorem sP_6f (h : ¬ R a = 0) : sP 6 c a b R p = p + 1 := by unfold sP; rw [if_neg (by decide), if_pos rfl, if_neg h]
end
theorem gu_self {α : Type} (f : Nat → α) (k : Nat) : va_up f k (f k) = f := by
  funext j
  unfold va_up
  split
  · next h => rw [h]
  · rfl
theorem gu_same {α : Type} (f : Nat → α) (k : Nat) (v : α) : va_up f k v k = v := by unfold va_up; rw [if_pos rfl]
theorem gu_ne {α : Type} (f : Nat → α) {k j : Nat} (v : α) (h : j ≠ k) : va_up f k v j = f j := by unfold va_up; rw [if_neg h]
theorem upd_same (f : Nat → Int32) (k : Nat) (x : Int32) : upd f k x k = x := by unfold upd; rw [if_pos rfl]
theorem upd_ne (f : Nat → Int32) {k j : Nat} (x : Int32) (h : j ≠ k) : upd f k x j = f j := by unfold upd; rw [if_neg h]
/-- a part of the registers, from d on: an instruction there is an instruction here -/
theorem sR_view (o c : Int32) (a b d : Nat) (U : Nat → Int32) : (fun i => sR o c (d + a) (d + b) U (d + i)) = sR o c a b (fun i => U (d + i)) := by
  have key : ∀ x : Int32, (fun i => upd U (d + a) x (d + i)) = upd (fun i => U (d + i)) a x := by
    intro x
    funext i
    unfold upd
    by_cases h : i = a
    · rw [if_pos h, if_pos (by omega)]
    · rw [if_neg h, if_neg (by omega)]
  unfold sR
  split
  · exact key _
  split
  · exact key _
  split
  · exact key _
  split
  · exact key _
  split
  · exact key _
  split
  · rfl
  split
  · rfl
  · exact key _
theorem sR_low (o c : Int32) (a b d : Nat) (U : Nat → Int32) {i : Nat} (hi : i < d) : sR o c (d + a) (d + b) U i = U i := by
  have key : ∀ x : Int32, upd U (d + a) x i = U i := fun x => upd_ne _ _ (by omega)
  unfold sR
  split
  · exact key _
  split
  · exact key _
  split
  · exact key _
  split
  · exact key _
  split
  · exact key _
  split
  · rfl
  split
  · rfl
  · exact key _
theorem sR_cong (o c : Int32) {a b : Nat} {R R' : Nat → Int32} (ha : a < 4) (hb : b < 4) (h : ∀ i, i < 4 → R i = R' i) : ∀ i, i < 4 → sR o c a b R i = sR o c a b R' i := by
  intro i hi
  have e1 := h a ha
  have e2 := h b hb
  have key : ∀ x : Int32, upd R a x i = upd R' a x i := by
    intro x
    unfold upd
    by_cases q : i = a
    · rw [if_pos q, if_pos q]
    · rw [if_neg q, if_neg q]; exact h i hi
  unfold sR
  rw [e1, e2]
  split
  · exact key _
  split
  · exact key _
  split
  · exact key _
  split
  · exact key _
  split
  · exact key _
  split
  · exact h i hi
  split
  · exact h i hi
  · exact key _
theorem sP_cong (o c p : Int32) {a b : Nat} {R R' : Nat → Int32} (ha : a < 4) (hb : b < 4) (h : ∀ i, i < 4 → R i = R' i) : sP o c a b R p = sP o c a b R' p := by
  unfold sP
  rw [h a ha, h b hb]
/-- the smaller one, either way -/
theorem i32_min (x y : Int32) : (if y < x then y else x) = (if x < y then x else y) := by
  by_cases h1 : y < x
  · rw [if_pos h1, if_neg (fun h2 => by rw [Int32.lt_iff_toInt_lt] at h1 h2; omega)]
  · by_cases h2 : x < y
    · rw [if_neg h1, if_pos h2]
    · rw [if_neg h1, if_neg h2]
      rw [Int32.lt_iff_toInt_lt] at h1 h2
      exact Int32.toInt_inj.mp (by omega)
/-! a run: registers, place, count -/
abbrev Sx : Type := (Nat → Int32) × Int32 × Nat
abbrev ir (z p : Int32) : Prop := ¬ p < 0 ∧ p < z
def sx (z : Int32) (I : Nat → Int32 × Int32 × Nat × Nat) (x : Sx) : Sx :=
  if ir z x.2.1 then (sR (I x.2.1.toNatClampNeg).1 (I x.2.1.toNatClampNeg).2.1 (I x.2.1.toNatClampNeg).2.2.1 (I x.2.1.toNatClampNeg).2.2.2 x.1, sP (I x.2.1.toNatClampNeg).1 (I x.2.1.toNatClampNeg).2.1 (I x.2.1.toNatClampNeg).2.2.1 (I x.2.1.toNatClampNeg).2.2.2 x.1 x.2.1, x.2.2 + 1) else x
def it (z : Int32) (I : Nat → Int32 × Int32 × Nat × Nat) : Nat → Sx → Sx
  | 0, x => x
  | k + 1, x => sx z I (it z I k x)
/-- ended: 1, else 0 -/
def eI (z p : Int32) : Int32 := if ir z p then 0 else 1
theorem eI_0 {z p : Int32} (h : ir z p) : eI z p = 0 := by unfold eI; rw [if_pos h]
theorem eI_1 {z p : Int32} (h : ¬ ir z p) : eI z p = 1 := by unfold eI; rw [if_neg h]
theorem eI_01 (z p : Int32) : eI z p = 0 ∨ eI z p = 1 := by unfold eI; split <;> simp
theorem ir_of {z p : Int32} {n : Nat} (hz : z = nI n) (hn : n < 2 ^ 31) (h : ir z p) : ∃ j, j < n ∧ p = nI j := by
  obtain ⟨j, hj, e⟩ := nI_of h.1
  refine ⟨j, ?_, e⟩
  have h2 := h.2
  rw [hz, e] at h2
  exact (nI_ltI hj hn).mp h2
theorem ir_nI {z : Int32} {n j : Nat} (hz : z = nI n) (hn : n < 2 ^ 31) (h : j < n) : ir z (nI j) := ⟨nI_pos (by omega), by rw [hz]; exact nI_lt h hn⟩
theorem sx_out {z : Int32} {I : Nat → Int32 × Int32 × Nat × Nat} {x : Sx} (h : ¬ ir z x.2.1) : sx z I x = x := by unfold sx; rw [if_neg h]
theorem sx_in {z : Int32} {I : Nat → Int32 × Int32 × Nat × Nat} {R : Nat → Int32} {j k : Nat} (hj : j < 2 ^ 31) (h : ir z (nI j)) : sx z I (R, nI j, k) = (sR (I j).1 (I j).2.1 (I j).2.2.1 (I j).2.2.2 R, sP (I j).1 (I j).2.1 (I j).2.2.1 (I j).2.2.2 R (nI j), k + 1) := by
  unfold sx
  rw [if_pos h]
  simp only [nI_clamp hj]
theorem it_out {z : Int32} {I : Nat → Int32 × Int32 × Nat × Nat} {x : Sx} {k : Nat} (h : ¬ ir z (it z I k x).2.1) : ∀ d, it z I (k + d) x = it z I k x
  | 0 => rfl
  | d + 1 => by
    show sx z I (it z I (k + d) x) = _
    rw [it_out h d]
    exact sx_out h
theorem it_stop {z : Int32} {I : Nat → Int32 × Int32 × Nat × Nat} {x : Sx} {k m : Nat} (hk : k ≤ m) (h : k = m ∨ ¬ ir z (it z I k x).2.1) : it z I m x = it z I k x := by
  rcases h with h | h
  · rw [h]
  · have := it_out h (m - k)
    rwa [show k + (m - k) = m by omega] at this
theorem it_add {z : Int32} {I : Nat → Int32 × Int32 × Nat × Nat} {x : Sx} (k : Nat) : ∀ d, it z I (k + d) x = it z I d (it z I k x)
  | 0 => rfl
  | d + 1 => by
    show sx z I (it z I (k + d) x) = sx z I (it z I d (it z I k x))
    rw [it_add k d]
/-- alike in the four registers -/
def sEq (x y : Sx) : Prop := (∀ i, i < 4 → x.1 i = y.1 i) ∧ x.2 = y.2
theorem sEq.rf (x : Sx) : sEq x x := ⟨fun _ _ => rfl, rfl⟩
theorem sEq.symm {x y : Sx} (h : sEq x y) : sEq y x := ⟨fun i hi => (h.1 i hi).symm, h.2.symm⟩
theorem sEq.trans {x y w : Sx} (h : sEq x y) (h' : sEq y w) : sEq x w := ⟨fun i hi => (h.1 i hi).trans (h'.1 i hi), h.2.trans h'.2⟩
theorem sx_cong {z : Int32} {I : Nat → Int32 × Int32 × Nat × Nat} (hI : ∀ j, (I j).2.2.1 < 4 ∧ (I j).2.2.2 < 4) {x y : Sx} (h : sEq x y) : sEq (sx z I x) (sx z I y) := by
  obtain ⟨R, p, k⟩ := x
  obtain ⟨R', p', k'⟩ := y
  obtain ⟨h1, h2⟩ := h
  cases h2
  unfold sx
  by_cases h : ir z p
  · rw [if_pos h, if_pos h]
    refine ⟨sR_cong _ _ (hI _).1 (hI _).2 h1, ?_⟩
    show (sP _ _ _ _ R p, k + 1) = (sP _ _ _ _ R' p, k + 1)
    rw [sP_cong _ _ _ (hI _).1 (hI _).2 h1]
  · rw [if_neg h, if_neg h]
    exact ⟨h1, rfl⟩
theorem it_cong {z : Int32} {I : Nat → Int32 × Int32 × Nat × Nat} (hI : ∀ j, (I j).2.2.1 < 4 ∧ (I j).2.2.2 < 4) {x y : Sx} (h : sEq x y) : ∀ k, sEq (it z I k x) (it z I k y)
  | 0 => h
  | k + 1 => sx_cong hI (it_cong hI h k)
/-- two programs that are the same where the run comes -/
theorem it_prog {z : Int32} {I I' : Nat → Int32 × Int32 × Nat × Nat} {x : Sx} : ∀ k, (∀ i, i < k → ir z (it z I i x).2.1 → I (it z I i x).2.1.toNatClampNeg = I' (it z I i x).2.1.toNatClampNeg) → it z I' k x = it z I k x
  | 0, _ => rfl
  | k + 1, h => by
    show sx z I' (it z I' k x) = sx z I (it z I k x)
    rw [it_prog k (fun i hi => h i (by omega))]
    unfold sx
    by_cases q : ir z (it z I k x).2.1
    · rw [if_pos q, if_pos q, h k (by omega) q]
    · rw [if_neg q, if_neg q]
theorem it_all {z : Int32} {I I' : Nat → Int32 × Int32 × Nat × Nat} {x : Sx} (h : ∀ j, I j = I' j) (k : Nat) : it z I k x = it z I' k x := by
  have : I = I' := funext h
  rw [this]
end
section
/-! what the two objects stand for: all in the Lab's numbers (u 0 size, 1 op, 2 regs, 3 con, 4 tests, 5 startX, 6 startY, 7 wantsOutput, 8 wants, 9 mutants, 10 where, 11 changesOp, 12 change, 13 ready, 14 ends, 15 out, 16 steps, 17 mutantEnds, 18 mutantOut, 19 mutantSteps, 20 reg, 21 mutantPlace, 22 mutantOp, 23 mutantCon, 24 kills, 25 uncovered, 26 options) -/
def rgN (u : GU) (p : Nat) : Nat := (u 2 p).toNatClampNeg % 16
def pI (u : GU) (p : Nat) : Int32 × Int32 × Nat × Nat := (u 1 p, u 3 p, rgN u p % 4, rgN u p / 4)
def mI (u : GU) (m p : Nat) : Int32 × Int32 × Nat × Nat :=
  (if u 10 m = nI p then (if u 11 m = 0 then u 1 p else u 12 m) else u 1 p, if u 10 m = nI p then (if u 11 m = 0 then u 12 m else u 3 p) else u 3 p, rgN u p % 4, rgN u p / 4)
def oI (u : GU) : Option Nat → Nat → Int32 × Int32 × Nat × Nat
  | none => pI u
  | some m => mI u m
def R0 (x y : Int32) : Nat → Int32 := fun i => if i = 0 then x else if i = 1 then y else 0
def rxy (u : GU) (mo : Option Nat) (x y : Int32) : Sx := it (u 0 0) (oI u mo) 100 (R0 x y, 0, 0)
def res (u : GU) (mo : Option Nat) (t : Nat) : Sx := rxy u mo (u 5 t) (u 6 t)
def oE (u : GU) (mo : Option Nat) (t : Nat) : Int32 := eI (u 0 0) (res u mo t).2.1
def oO (u : GU) (mo : Option Nat) (t : Nat) : Int32 := if oE u mo t = 1 then (res u mo t).1 0 else 0
def oN (u : GU) (mo : Option Nat) (t : Nat) : Int32 := nI (res u mo t).2.2
theorem rgN_lt (u : GU) (p : Nat) : rgN u p < 16 := Nat.mod_lt _ (by decide)
theorem rgN_of {u : GU} {p g : Nat} (h : u 2 p = nI g) (hg : g < 16) : rgN u p = g := by
  unfold rgN
  rw [h, nI_clamp (by omega)]
  exact Nat.mod_eq_of_lt hg
theorem oI_lt (u : GU) (mo : Option Nat) (j : Nat) : (oI u mo j).2.2.1 < 4 ∧ (oI u mo j).2.2.2 < 4 := by
  have h := rgN_lt u j
  cases mo with
  | none => exact ⟨Nat.mod_lt _ (by decide), by show rgN u j / 4 < 4; omega⟩
  | some m => exact ⟨Nat.mod_lt _ (by decide), by show rgN u j / 4 < 4; omega⟩
/-- the numbers and shapes that hold all through a run -/
def wf (u : GU) (n t m : Nat) : Prop := u 0 0 = nI n ∧ n ≤ 12 ∧ u 4 0 = nI t ∧ t ≤ 6 ∧ u 9 0 = nI m ∧ m ≤ 24 ∧ (∀ p, p < 12 → ∃ g, g < 16 ∧ u 2 p = nI g) ∧ (∀ i, i < m → ∃ w, w < n ∧ u 10 i = nI w) ∧ (∀ i, u 7 i = 0 ∨ u 7 i = 1) ∧ (∀ i, u 11 i = 0 ∨ u 11 i = 1)
/-- the first thirteen fields are the same -/
def cs (u u' : GU) : Prop := ∀ k, k < 13 → u' k = u k
theorem cs_rf (u : GU) : cs u u := fun _ _ => rfl
theorem cs_tr {u v w : GU} (h : cs u v) (h' : cs v w) : cs u w := fun k hk => (h' k hk).trans (h k hk)
theorem cs_up {u : GU} {k : Nat} (hk : 13 ≤ k) (f : Nat → Int32) : cs u (va_up u k f) := fun j hj => gu_ne _ _ (by omega)
theorem cs_upR {u v : GU} {k : Nat} (h : cs u v) (hk : 13 ≤ k) (f : Nat → Int32) : cs u (va_up v k f) := cs_tr h (cs_up hk f)
theorem cs_putR {u v : GU} {k : Nat} (h : cs u v) (hk : 13 ≤ k) (x : Int32) : cs u (gput v k x) := cs_tr h (cs_up hk _)
theorem cs_wf {u u' : GU} {n t m : Nat} (h : cs u u') (hw : wf u n t m) : wf u' n t m := by
  obtain ⟨h1, h2, h3, h4, h5, h6, h7, h8, h9, h10⟩ := hw
  refine ⟨?_, h2, ?_, h4, ?_, h6, ?_, ?_, ?_, ?_⟩
  · rw [h 0 (by omega)]; exact h1
  · rw [h 4 (by omega)]; exact h3
  · rw [h 9 (by omega)]; exact h5
  · rw [h 2 (by omega)]; exact h7
  · rw [h 10 (by omega)]; exact h8
  · rw [h 7 (by omega)]; exact h9
  · rw [h 11 (by omega)]; exact h10
theorem cs_oI {u u' : GU} (h : cs u u') (mo : Option Nat) : oI u' mo = oI u mo := by
  have hr : ∀ p, rgN u' p = rgN u p := fun p => by unfold rgN; rw [h 2 (by omega)]
  cases mo with
  | none =>
    funext p
    show pI u' p = pI u p
    unfold pI
    rw [hr, h 1 (by omega), h 3 (by omega)]
  | some m =>
    funext p
    show mI u' m p = mI u m p
    unfold mI
    rw [hr, h 1 (by omega), h 3 (by omega), h 10 (by omega), h 11 (by omega), h 12 (by omega)]
theorem cs_rxy {u u' : GU} (h : cs u u') (mo : Option Nat) (x y : Int32) : rxy u' mo x y = rxy u mo x y := by
  unfold rxy
  rw [cs_oI h, h 0 (by omega)]
theorem cs_res {u u' : GU} (h : cs u u') (mo : Option Nat) (t : Nat) : res u' mo t = res u mo t := by
  unfold res
  rw [cs_rxy h, h 5 (by omega), h 6 (by omega)]
theorem cs_oE {u u' : GU} (h : cs u u') (mo : Option Nat) (t : Nat) : oE u' mo t = oE u mo t := by
  unfold oE
  rw [cs_res h, h 0 (by omega)]
theorem cs_oO {u u' : GU} (h : cs u u') (mo : Option Nat) (t : Nat) : oO u' mo t = oO u mo t := by
  unfold oO
  rw [cs_res h, cs_oE h]
theorem cs_oN {u u' : GU} (h : cs u u') (mo : Option Nat) (t : Nat) : oN u' mo t = oN u mo t := by
  unfold oN
  rw [cs_res h]
/-- the outcomes stand, for the first T tests and M mutants -/
def rdP (u : GU) (t : Nat) : Prop := u 14 t = oE u none t ∧ u 15 t = oO u none t ∧ u 16 t = oN u none t
def rdM (u : GU) (t m : Nat) : Prop := u 17 (t * 24 + m) = oE u (some m) t ∧ u 18 (t * 24 + m) = oO u (some m) t ∧ u 19 (t * 24 + m) = oN u (some m) t
def rdy (u : GU) (T M : Nat) : Prop := ∀ t, t < T → rdP u t ∧ ∀ m, m < M → rdM u t m
theorem cs_rdP {u u' : GU} (h : cs u u') {t : Nat} (h14 : u' 14 t = u 14 t) (h15 : u' 15 t = u 15 t) (h16 : u' 16 t = u 16 t) (q : rdP u t) : rdP u' t := by
  unfold rdP
  rw [cs_oE h, cs_oO h, cs_oN h, h14, h15, h16]
  exact q
theorem cs_rdM {u u' : GU} (h : cs u u') {t m : Nat} (h17 : u' 17 (t * 24 + m) = u 17 (t * 24 + m)) (h18 : u' 18 (t * 24 + m) = u 18 (t * 24 + m)) (h19 : u' 19 (t * 24 + m) = u 19 (t * 24 + m)) (q : rdM u t m) : rdM u' t m := by
  unfold rdM
  rw [cs_oE h, cs_oO h, cs_oN h, h17, h18, h19]
  exact q
theorem cs_rdy {u u' : GU} (h : cs u u') (h2 : ∀ k, 14 ≤ k → k ≤ 19 → u' k = u k) {T M : Nat} (q : rdy u T M) : rdy u' T M :=
  fun t ht => ⟨cs_rdP h (by rw [h2 14 (by omega) (by omega)]) (by rw [h2 15 (by omega) (by omega)]) (by rw [h2 16 (by omega) (by omega)]) (q t ht).1, fun m hm => cs_rdM h (by rw [h2 17 (by omega) (by omega)]) (by rw [h2 18 (by omega) (by omega)]) (by rw [h2 19 (by omega) (by omega)]) ((q t ht).2 m hm)⟩
/-- the reference's fields (0 size, 1 ops, 2 as, 3 bs, 4 cs, 5 tests, 6 xs, 7 ys, 8 ends, 9 expected, 10 mutants, 11 places, 12 changesOp, 13 changes, 14 r, 15 ended, 16 carried) stand for the same -/
def rl (u v : GU) : Prop := v 0 0 = u 0 0 ∧ v 1 = u 1 ∧ (∀ p, p < 12 → v 2 p = nI (rgN u p % 4)) ∧ (∀ p, p < 12 → v 3 p = nI (rgN u p / 4)) ∧ v 4 = u 3 ∧ v 5 0 = u 4 0 ∧ v 6 = u 5 ∧ v 7 = u 6 ∧ v 8 = u 7 ∧ v 9 = u 8 ∧ v 10 0 = u 9 0 ∧ v 11 = u 10 ∧ v 12 = u 11 ∧ v 13 = u 12
theorem rl_cs {u u' v : GU} (h : cs u u') (q : rl u v) : rl u' v := by
  have hr : ∀ p, rgN u' p = rgN u p := fun p => by unfold rgN; rw [h 2 (by omega)]
  obtain ⟨q0, q1, q2, q3, q4, q5, q6, q7, q8, q9, q10, q11, q12, q13⟩ := q
  refine ⟨?_, ?_, fun p hp => ?_, fun p hp => ?_, ?_, ?_, ?_, ?_, ?_, ?_, ?_, ?_, ?_, ?_⟩
  · rw [h 0 (by omega)]; exact q0
  · rw [h 1 (by omega)]; exact q1
  · rw [hr]; exact q2 p hp
  · rw [hr]; exact q3 p hp
  · rw [h 3 (by omega)]; exact q4
  · rw [h 4 (by omega)]; exact q5
  · rw [h 5 (by omega)]; exact q6
  · rw [h 6 (by omega)]; exact q7
  · rw [h 7 (by omega)]; exact q8
  · rw [h 8 (by omega)]; exact q9
  · rw [h 9 (by omega)]; exact q10
  · rw [h 10 (by omega)]; exact q11
  · rw [h 11 (by omega)]; exact q12
  · rw [h 12 (by omega)]; exact q13
/-- the reference's own run cells may change -/
theorem rl_v {u v v' : GU} (h : ∀ k, k < 14 → v' k = v k) (q : rl u v) : rl u v' := by
  obtain ⟨q0, q1, q2, q3, q4, q5, q6, q7, q8, q9, q10, q11, q12, q13⟩ := q
  refine ⟨?_, ?_, fun p hp => ?_, fun p hp => ?_, ?_, ?_, ?_, ?_, ?_, ?_, ?_, ?_, ?_, ?_⟩
  · rw [h 0 (by omega)]; exact q0
  · rw [h 1 (by omega)]; exact q1
  · rw [h 2 (by omega)]; exact q2 p hp
  · rw [h 3 (by omega)]; exact q3 p hp
  · rw [h 4 (by omega)]; exact q4
  · rw [h 5 (by omega)]; exact q5
  · rw [h 6 (by omega)]; exact q6
  · rw [h 7 (by omega)]; exact q7
  · rw [h 8 (by omega)]; exact q8
  · rw [h 9 (by omega)]; exact q9
  · rw [h 10 (by omega)]; exact q10
  · rw [h 11 (by omega)]; exact q11
  · rw [h 12 (by omega)]; exact q12
  · rw [h 13 (by omega)]; exact q13
theorem nz01 {z : Int32} (h : z = 0 ∨ z = 1) : vp_nar .boolean z = z := by rcases h with h | h <;> (rw [h]; decide)
theorem nr01 {z : Int32} (h : z = 0 ∨ z = 1) : narrow .boolean (.int z) = .int z := by rcases h with h | h <;> (rw [h]; rfl)
theorem fr01 {z : Int32} (h : z = 0 ∨ z = 1) : fits .boolean (.int z) = true := by rcases h with h | h <;> (rw [h]; rfl)
/-! comparisons of small numbers -/
theorem lt_of_nI {a b : Nat} (h : nI a < nI b) (ha : a < 2 ^ 31) (hb : b < 2 ^ 31) : a < b := (nI_ltI ha hb).mp h
theorem ge_of_nI {a b : Nat} (h : ¬ nI a < nI b) (ha : a < 2 ^ 31) (hb : b < 2 ^ 31) : b ≤ a := Nat.not_lt.mp (fun q => h (nI_lt q hb))
theorem le_of_nI {a b : Nat} (h : nI a ≤ nI b) (ha : a < 2 ^ 31) (hb : b < 2 ^ 31) : a ≤ b := (nI_leI ha hb).mp h
theorem gt_of_nI {a b : Nat} (h : ¬ nI a ≤ nI b) (ha : a < 2 ^ 31) (hb : b < 2 ^ 31) : b < a := Nat.not_le.mp (fun q => h (nI_le q hb))
/-! the instruction's registers -/
theorem co_ra (b0 : Nat) {g : Nat} (hg : g < 16) : nI b0 + (nI g &&& 3) = nI (b0 + g % 4) := by
  rw [pk_andN (k := 2) (by omega) (by decide), nI_add]
theorem co_rb (b0 : Nat) {g : Nat} (hg : g < 16) : nI b0 + (nI g >>> ((2 : Int32) &&& 31)) = nI (b0 + g / 4) := by
  rw [pk_shrN (k := 2) (by omega) _ (by decide), nI_add]
end
section
/-! sets of small numbers as ints (the first rows are turned from kit/laws/BITS.to-paste) -/
theorem sh_l : ∀ n, n < 32 → ((nI n &&& 31).toBitVec.smod 32).toNat = n := by decide +kernel
theorem bn_and (a b : Nat) : nI a &&& nI b = nI (a &&& b) := by
  apply Int32.toBitVec_inj.1
  show BitVec.ofNat 32 a &&& BitVec.ofNat 32 b = BitVec.ofNat 32 (a &&& b)
  apply BitVec.eq_of_getLsbD_eq
  intro i hi
  simp [hi]
theorem bn_or (a b : Nat) : nI a ||| nI b = nI (a ||| b) := by
  apply Int32.toBitVec_inj.1
  show BitVec.ofNat 32 a ||| BitVec.ofNat 32 b = BitVec.ofNat 32 (a ||| b)
  apply BitVec.eq_of_getLsbD_eq
  intro i hi
  simp [hi]
theorem bn_shl {a j : Nat} (hj : j < 32) (h : a * 2 ^ j < 2 ^ 32) : nI a <<< (nI j &&& 31) = nI (a * 2 ^ j) := pk_shlN _ j (sh_l j hj) h
theorem bn_shr {a j : Nat} (ha : a < 2 ^ 31) (hj : j < 32) : nI a >>> (nI j &&& 31) = nI (a / 2 ^ j) := pk_shrN ha _ j (sh_l j hj)
theorem bn_and1 {a : Nat} (ha : a < 2 ^ 31) : nI a &&& 1 = nI (a % 2) := by
  rw [pk_andN (k := 1) (by omega) (by decide)]
/-- (a >> j) & 1 -/
theorem bn_bit {a j : Nat} (ha : a < 2 ^ 31) (hj : j < 32) : (nI a >>> (nI j &&& 31)) &&& 1 = nI (a.testBit j).toNat := by
  have h1 : a / 2 ^ j ≤ a := Nat.div_le_self _ _
  rw [bn_shr ha hj, bn_and1 (by omega), Nat.testBit_eq_decide_div_mod_eq]
  by_cases h : a / 2 ^ j % 2 = 1
  · rw [decide_eq_true h, h]; rfl
  · have h2 : a / 2 ^ j % 2 = 0 := by omega
    rw [decide_eq_false h, h2]; rfl
theorem bn_set {a j : Nat} (hj : j < 31) : nI a ||| ((1 : Int32) <<< (nI j &&& 31)) = nI (a ||| 2 ^ j) := by
  have h : (2 : Nat) ^ j < 2 ^ 31 := Nat.pow_lt_pow_right (by decide) hj
  rw [show (1 : Int32) = nI 1 from rfl, bn_shl (by omega) (by omega), Nat.one_mul, bn_or]
theorem tn_0 {b : Bool} (h : nI b.toNat = 0) : b = false := by
  cases b with
  | false => rfl
  | true => exact absurd h (by decide)
theorem tn_1 {b : Bool} (h : ¬ nI b.toNat = 0) : b = true := by
  cases b with
  | false => exact absurd rfl h
  | true => rfl
theorem tn_1' {b : Bool} (h : nI b.toNat = 1) : b = true := by
  cases b with
  | false => exact absurd h (by decide)
  | true => rfl
theorem tn_0' {b : Bool} (h : ¬ nI b.toNat = 1) : b = false := by
  cases b with
  | false => rfl
  | true => exact absurd rfl h
theorem or_bit (a j w : Nat) : (a ||| 2 ^ j).testBit w = (a.testBit w || decide (j = w)) := by rw [Nat.testBit_or, Nat.testBit_two_pow]
theorem or_lt {a j k : Nat} (ha : a < 2 ^ k) (hj : j < k) : a ||| 2 ^ j < 2 ^ k := Nat.or_lt_two_pow ha (Nat.pow_lt_pow_right (by decide) hj)
end
section
/-! finite sets and counts; what the questions answer -/
def bset (f : Nat → Bool) : Nat → Nat
  | 0 => 0
  | k + 1 => bset f k ||| (f k).toNat * 2 ^ k
theorem bset_lt (f : Nat → Bool) : ∀ k, bset f k < 2 ^ k
  | 0 => by show 0 < 1; decide
  | k + 1 => by
    have h1 : bset f k < 2 ^ (k + 1) := Nat.lt_trans (bset_lt f k) (Nat.pow_lt_pow_right (by decide) (by omega))
    refine Nat.or_lt_two_pow h1 ?_
    cases f k
    · show 0 * 2 ^ k < _
      rw [Nat.zero_mul]
      exact Nat.two_pow_pos _
    · show 1 * 2 ^ k < _
      rw [Nat.one_mul]
      exact Nat.pow_lt_pow_right (by decide) (by omega)
theorem bset_bit (f : Nat → Bool) (i : Nat) : ∀ k, (bset f k).testBit i = (decide (i < k) && f i)
  | 0 => by show (0 : Nat).testBit i = _; rw [Nat.zero_testBit, decide_eq_false (Nat.not_lt_zero i)]; rfl
  | k + 1 => by
    show (bset f k ||| (f k).toNat * 2 ^ k).testBit i = _
    rw [Nat.testBit_or, bset_bit f i k]
    by_cases e : i = k
    · subst e
      rw [decide_eq_false (Nat.lt_irrefl i), decide_eq_true (Nat.lt_succ_self i)]
      cases f i
      · show (false && false || (0 * 2 ^ i).testBit i) = _
        rw [Nat.zero_mul, Nat.zero_testBit]
        rfl
      · show (false && true || (1 * 2 ^ i).testBit i) = _
        rw [Nat.one_mul, Nat.testBit_two_pow_self]
        rfl
    · have h2 : ((f k).toNat * 2 ^ k).testBit i = false := by
        cases f k
        · show (0 * 2 ^ k).testBit i = false
          rw [Nat.zero_mul, Nat.zero_testBit]
        · show (1 * 2 ^ k).testBit i = false
          rw [Nat.one_mul, Nat.testBit_two_pow_of_ne (Ne.symm e)]
      rw [h2, Bool.or_false]
      by_cases h : i < k
      · rw [decide_eq_true h, decide_eq_true (by omega)]
      · rw [decide_eq_false h, decide_eq_false (by omega)]
theorem bset_cong {f g : Nat → Bool} : ∀ k, (∀ i, i < k → f i = g i) → bset f k = bset g k
  | 0, _ => rfl
  | k + 1, h => by
    show bset f k ||| _ = bset g k ||| _
    rw [bset_cong k (fun i hi => h i (by omega)), h k (by omega)]
theorem bset_false : ∀ k, bset (fun _ => false) k = 0
  | 0 => rfl
  | k + 1 => by
    show bset _ k ||| (false).toNat * 2 ^ k = 0
    rw [bset_false k]
    show 0 ||| 0 * 2 ^ k = 0
    rw [Nat.zero_mul]
    rfl
def ccnt (f : Nat → Bool) : Nat → Nat
  | 0 => 0
  | k + 1 => ccnt f k + (f k).toNat
theorem ccnt_le (f : Nat → Bool) : ∀ k, ccnt f k ≤ k
  | 0 => Nat.le_refl 0
  | k + 1 => by
    show ccnt f k + (f k).toNat ≤ k + 1
    have := ccnt_le f k
    have h2 : (f k).toNat ≤ 1 := by cases f k <;> decide
    omega
theorem ccnt_cong {f g : Nat → Bool} : ∀ k, (∀ i, i < k → f i = g i) → ccnt f k = ccnt g k
  | 0, _ => rfl
  | k + 1, h => by
    show ccnt f k + _ = ccnt g k + _
    rw [ccnt_cong k (fun i hi => h i (by omega)), h k (by omega)]
theorem ccnt_more {f : Nat → Bool} {k : Nat} : ∀ d, (∀ i, k ≤ i → f i = false) → ccnt f (k + d) = ccnt f k
  | 0, _ => rfl
  | d + 1, h => by
    show ccnt f (k + d) + (f (k + d)).toNat = ccnt f k
    rw [ccnt_more d h, h (k + d) (by omega)]
    rfl
def anyB (f : Nat → Bool) : Nat → Bool
  | 0 => false
  | k + 1 => anyB f k || f k
theorem anyB_iff (f : Nat → Bool) : ∀ k, anyB f k = true ↔ ∃ i, i < k ∧ f i = true
  | 0 => ⟨fun h => (by cases h), fun ⟨i, hi, _⟩ => absurd hi (Nat.not_lt_zero i)⟩
  | k + 1 => by
    show (anyB f k || f k) = true ↔ _
    rw [Bool.or_eq_true, anyB_iff f k]
    constructor
    · rintro (⟨i, hi, h⟩ | h)
      · exact ⟨i, by omega, h⟩
      · exact ⟨k, by omega, h⟩
    · rintro ⟨i, hi, h⟩
      by_cases e : i = k
      · subst e; exact Or.inr h
      · exact Or.inl ⟨i, by omega, h⟩
theorem anyB_cong {f g : Nat → Bool} : ∀ k, (∀ i, i < k → f i = g i) → anyB f k = anyB g k
  | 0, _ => rfl
  | k + 1, h => by
    show (anyB f k || _) = (anyB g k || _)
    rw [anyB_cong k (fun i hi => h i (by omega)), h k (by omega)]
/-- a bit of any int -/
def bt (x : Int32) (i : Nat) : Bool := x.toBitVec.getLsbD i
theorem bt_ext {x y : Int32} (h : ∀ i, i < 32 → bt x i = bt y i) : x = y := Int32.toBitVec_inj.mp (BitVec.eq_of_getLsbD_eq (fun i hi => h i hi))
theorem bt_and (x y : Int32) (i : Nat) : bt (x &&& y) i = (bt x i && bt y i) := by unfold bt; rw [Int32.toBitVec_and, BitVec.getLsbD_and]
theorem bt_0 (i : Nat) : bt 0 i = false := by
  unfold bt
  show (0#32).getLsbD i = false
  exact BitVec.getLsbD_zero
theorem bt_nI {a i : Nat} (hi : i < 32) : bt (nI a) i = a.testBit i := by
  unfold bt
  show (BitVec.ofNat 32 a).getLsbD i = a.testBit i
  rw [BitVec.getLsbD_ofNat, decide_eq_true hi, Bool.true_and]
theorem bt_1 : ∀ i, i < 32 → bt 1 i = decide (i = 0) := by decide +kernel
theorem bt_sshr (n : Nat) (hn : n < 32) (x : Int32) {i : Nat} (hi : i < 32) : bt (x >>> (nI n &&& 31)) i = if n + i < 32 then bt x (n + i) else bt x 31 := by
  unfold bt
  rw [Int32.toBitVec_shiftRight]
  show (x.toBitVec.sshiftRight ((nI n &&& 31).toBitVec.smod 32).toNat).getLsbD i = _
  rw [sh_l n hn, BitVec.getLsbD_sshiftRight, BitVec.msb_eq_getLsbD_last]
  simp [hi]
/-- (x >> j) & 1, of any int -/
theorem bt_bit (x : Int32) {j : Nat} (hj : j < 32) : (x >>> (nI j &&& 31)) &&& 1 = nI (bt x j).toNat := by
  refine bt_ext (fun i hi => ?_)
  rw [bt_and, bt_sshr j hj x hi, bt_1 i hi, bt_nI hi]
  by_cases e : i = 0
  · subst e
    rw [if_pos (by omega), Nat.add_zero, decide_eq_true rfl, Bool.and_true]
    cases bt x j <;> rfl
  · rw [decide_eq_false e, Bool.and_false]
    cases bt x j
    · show false = (0 : Nat).testBit i
      rw [Nat.zero_testBit]
    · show false = (1 : Nat).testBit i
      rw [show (1 : Nat) = 2 ^ 0 from rfl, Nat.testBit_two_pow_of_ne (Ne.symm e)]
/-! what the questions answer -/
abbrev okV (u : GU) (mo : Option Nat) (t : Nat) : Prop := oE u mo t = u 7 t ∧ (oE u mo t = 0 ∨ oO u mo t = u 8 t)
def kl (u : GU) (t m : Nat) : Bool := !decide (okV u (some m) t)
abbrev noI (z i : Int32) : Prop := i < 0 ∨ z ≤ i
theorem noI_of {z i : Int32} {n : Nat} (hz : z = nI n) (hn : n < 2 ^ 31) (h : ¬ noI z i) : ∃ j, j < n ∧ i = nI j := by
  obtain ⟨j, hj, e⟩ := nI_of (fun q => h (Or.inl q))
  refine ⟨j, ?_, e⟩
  have h2 : ¬ z ≤ i := fun q => h (Or.inr q)
  rw [hz, e] at h2
  exact gt_of_nI h2 hn hj
theorem noI_ge {z i : Int32} (h : ¬ i < z) : noI z i := Or.inr (by rw [Int32.lt_iff_toInt_lt] at h; rw [Int32.le_iff_toInt_le]; omega)
theorem noI_not {z i : Int32} (h1 : ¬ i < 0) (h2 : i < z) : ¬ noI z i := by
  rintro (h | h)
  · exact h1 h
  · rw [Int32.lt_iff_toInt_lt] at h2
    rw [Int32.le_iff_toInt_le] at h
    omega
def q_passes (u : GU) (i : Int32) : Int32 := if noI (u 4 0) i then 0 else if okV u none i.toNatClampNeg then 1 else 0
def q_output (u : GU) (m t : Int32) : Int32 := if noI (u 9 0) m ∨ noI (u 4 0) t then 0 else oO u (some m.toNatClampNeg) t.toNatClampNeg
def q_length (u : GU) (m t : Int32) : Int32 := if noI (u 9 0) m then -4 else if noI (u 4 0) t then -5 else oN u (some m.toNatClampNeg) t.toNatClampNeg
def q_killers (u : GU) (T : Nat) (m : Int32) : Int32 := if noI (u 9 0) m then -4 else nI (bset (fun t => kl u t m.toNatClampNeg) T)
def q_killed (u : GU) (T M : Nat) (x : Int32) : Int32 := nI (ccnt (fun m => anyB (fun t => bt x t && kl u t m) T) M)
def alk (u : GU) (m t : Nat) : Bool := decide (oE u (some m) t = oE u none t ∧ oO u (some m) t = oO u none t)
def q_same (u : GU) (T M : Nat) : Int32 := nI (ccnt (fun m => !anyB (fun t => !alk u m t) T) M)
theorem cs_kl {u u' : GU} (h : cs u u') (t m : Nat) : kl u' t m = kl u t m := by
  unfold kl okV
  rw [cs_oE h, cs_oO h, h 7 (by omega), h 8 (by omega)]
theorem cs_alk {u u' : GU} (h : cs u u') (m t : Nat) : alk u' m t = alk u m t := by
  unfold alk
  rw [cs_oE h, cs_oO h, cs_oE h, cs_oO h]
end
section
/-! the search for a smallest set of tests: plain -/
def dif (l k : Nat) : Nat := l ^^^ (l &&& k)
theorem dif_bit (l k m : Nat) : (dif l k).testBit m = (l.testBit m && !k.testBit m) := by
  unfold dif
  rw [Nat.testBit_xor, Nat.testBit_and]
  cases l.testBit m <;> cases k.testBit m <;> rfl
theorem dif_lt {l n : Nat} (k : Nat) (h : l < 2 ^ n) : dif l k < 2 ^ n := Nat.xor_lt_two_pow h (Nat.lt_of_le_of_lt Nat.and_le_left h)
theorem dif_comm (l a b : Nat) : dif (dif l a) b = dif (dif l b) a := by
  apply Nat.eq_of_testBit_eq
  intro m
  rw [dif_bit, dif_bit, dif_bit, dif_bit]
  cases l.testBit m <;> cases a.testBit m <;> cases b.testBit m <;> rfl
theorem dif_0 (k : Nat) : dif 0 k = 0 := by
  apply Nat.eq_of_testBit_eq
  intro m
  rw [dif_bit, Nat.zero_testBit]
  rfl
/-- l is covered by at most j tests -/
def Cv (K : Nat → Nat) : Nat → Nat → Prop
  | 0, l => l = 0
  | j + 1, l => Cv K j l ∨ ∃ t, t < 6 ∧ Cv K j (dif l (K t))
theorem Cv_le {K : Nat → Nat} {l j : Nat} (h : Cv K j l) : ∀ d, Cv K (j + d) l
  | 0 => h
  | d + 1 => Or.inl (Cv_le h d)
theorem Cv_0 (K : Nat → Nat) (j : Nat) : Cv K j 0 := by
  have := Cv_le (K := K) (l := 0) (j := 0) rfl j
  rwa [Nat.zero_add] at this
theorem Cv_pick {K : Nat → Nat} {m : Nat} : ∀ (j l : Nat), Cv K j l → l.testBit m = true → ∃ t, t < 6 ∧ (K t).testBit m = true ∧ 1 ≤ j ∧ Cv K (j - 1) (dif l (K t))
  | 0, l, h, hm => by
    have h : l = 0 := h
    rw [h, Nat.zero_testBit] at hm
    cases hm
  | j + 1, l, h, hm => by
    rcases h with h | ⟨t', ht', h⟩
    · obtain ⟨t, h1, h2, h3, h4⟩ := Cv_pick j l h hm
      refine ⟨t, h1, h2, by omega, ?_⟩
      have := Cv_le h4 1
      rwa [show j - 1 + 1 = j + 1 - 1 by omega] at this
    · by_cases hk : (K t').testBit m = true
      · exact ⟨t', ht', hk, by omega, h⟩
      · have hm2 : (dif l (K t')).testBit m = true := by
          rw [dif_bit, hm, Bool.eq_false_iff.mpr hk]
          rfl
        obtain ⟨t, h1, h2, h3, h4⟩ := Cv_pick j (dif l (K t')) h hm2
        refine ⟨t, h1, h2, by omega, ?_⟩
        have h5 : Cv K (j - 1 + 1) (dif l (K t)) := Or.inr ⟨t', ht', by rw [dif_comm]; exact h4⟩
        rwa [show j - 1 + 1 = j + 1 - 1 by omega] at h5
theorem bit_of_ne {l M : Nat} (hl : l < 2 ^ M) (h : l ≠ 0) : ∃ m, m < M ∧ l.testBit m = true := by
  obtain ⟨i, hi⟩ := Nat.exists_testBit_of_ne_zero h
  refine ⟨i, ?_, hi⟩
  rcases Nat.lt_or_ge i M with q | q
  · exact q
  · have : l < 2 ^ i := Nat.lt_of_lt_of_le hl (Nat.pow_le_pow_right (by decide) q)
    rw [Nat.testBit_lt_two_pow this] at hi
    cases hi
/-- the tests that kill one of the uncovered mutants, or none if none is uncovered -/
def chQ (ks : Nat → Nat) (M l r : Nat) : Prop := (∃ m, m < M ∧ l.testBit m = true ∧ r = ks m) ∨ ((∀ m, m < M → l.testBit m = false) ∧ r = 0)
def F6 : Nat → Nat
  | 0 => 1
  | r + 1 => 1 + (r + 1) * (1 + F6 r)
def phi (O : Nat → Nat) : Nat → Nat
  | 0 => 0
  | D + 1 => phi O D + (1 + ccnt (O D).testBit 6 * (1 + F6 (5 - D)))
theorem phi_cong {O O' : Nat → Nat} : ∀ D, (∀ i, i < D → O i = O' i) → phi O D = phi O' D
  | 0, _ => rfl
  | D + 1, h => by
    show phi O D + _ = phi O' D + _
    rw [phi_cong D (fun i hi => h i (by omega)), h D (by omega)]
/-- a frame of the search: what is uncovered at depth i, which options are left -/
def smF (K : Nat → Nat) (al M i l O : Nat) : Prop :=
  l < 2 ^ M ∧ O < 64 ∧ (∀ j, Cv K j l → Cv K (i + j) al) ∧ ∃ P : Nat → Bool, ccnt P 6 = i ∧ (∀ t, t < 6 → P t = true → O.testBit t = false) ∧ ∀ t, t < 6 → P t = true → ∀ m, l.testBit m = true → (K t).testBit m = false
/-- a better set lies behind frame i -/
def smC (K : Nat → Nat) (A i l O : Nat) : Prop := ∃ t, t < 6 ∧ O.testBit t = true ∧ i + 1 ≤ A ∧ Cv K (A - (i + 1)) (dif l (K t))
def smI (K : Nat → Nat) (al M A : Nat) (l O : Nat → Nat) (D b s : Nat) : Prop :=
  b ≤ 7 ∧ D ≤ 7 ∧ (b = 7 ∨ Cv K b al) ∧ (∀ i, i < D → smF K al M i (l i) (O i)) ∧ (A < b → ∃ i, i < D ∧ (smC K A i (l i) (O i) ∨ (i + 1 = D ∧ l i = 0 ∧ i ≤ A))) ∧ s + phi O D ≤ 16000
theorem disj_cnt {f g : Nat → Bool} : ∀ k, (∀ t, t < k → f t = true → g t = false) → ccnt f k + ccnt g k ≤ k
  | 0, _ => Nat.le_refl 0
  | k + 1, h => by
    show ccnt f k + (f k).toNat + (ccnt g k + (g k).toNat) ≤ k + 1
    have h1 := disj_cnt k (fun t ht => h t (by omega))
    have h2 := h k (by omega)
    cases hf : f k
    · cases hg : g k
      · show _ + 0 + (_ + 0) ≤ _; omega
      · show _ + 0 + (_ + 1) ≤ _; omega
    · rw [h2 hf]
      show _ + 1 + (_ + 0) ≤ _; omega
/-- the options of a new frame -/
theorem ch_frame {K ks : Nat → Nat} {al M i l o : Nat} (hks : ∀ m, m < M → ks m < 64 ∧ ∀ t, t < 6 → (ks m).testBit t = (K t).testBit m) (hl : l < 2 ^ M) (hs : ∀ j, Cv K j l → Cv K (i + j) al) (P : Nat → Bool) (hP : ccnt P 6 = i) (hf : ∀ t, t < 6 → P t = true → ∀ m, l.testBit m = true → (K t).testBit m = false) (hc : chQ ks M l o) : smF K al M i l o ∧ ccnt o.testBit 6 + i ≤ 6 := by
  have hd : ∀ t, t < 6 → P t = true → o.testBit t = false := by
    intro t ht hp
    rcases hc with ⟨m, hm, hb, e⟩ | ⟨_, e⟩
    · rw [e, (hks m hm).2 t ht]
      exact hf t ht hp m hb
    · rw [e, Nat.zero_testBit]
  have ho : o < 64 := by
    rcases hc with ⟨m, hm, hb, e⟩ | ⟨_, e⟩
    · rw [e]; exact (hks m hm).1
    · rw [e]; decide
  refine ⟨⟨hl, ho, hs, P, hP, hd, hf⟩, ?_⟩
  have := disj_cnt (f := P) (g := o.testBit) 6 hd
  omega
/-- .. and a better set behind it, if there was one behind the branch -/
theorem ch_pend {K ks : Nat → Nat} {A M i l o : Nat} (hks : ∀ m, m < M → ks m < 64 ∧ ∀ t, t < 6 → (ks m).testBit t = (K t).testBit m) (hl : l < 2 ^ M) (hc : chQ ks M l o) (hi : i ≤ A) (hA : Cv K (A - i) l) : smC K A i l o ∨ l = 0 := by
  rcases hc with ⟨m, hm, hb, e⟩ | ⟨h0, e⟩
  · left
    obtain ⟨t, h1, h2, h3, h4⟩ := Cv_pick (A - i) l hA hb
    refine ⟨t, h1, ?_, by omega, ?_⟩
    · rw [e, (hks m hm).2 t h1]; exact h2
    · rwa [show A - (i + 1) = A - i - 1 by omega]
  · right
    rcases Nat.eq_zero_or_pos l with q | q
    · exact q
    · obtain ⟨m, hm, hb⟩ := bit_of_ne hl (by omega)
      rw [h0 m hm] at hb
      cases hb
theorem sm_start {K ks : Nat → Nat} {al M A o : Nat} {l O : Nat → Nat} (hks : ∀ m, m < M → ks m < 64 ∧ ∀ t, t < 6 → (ks m).testBit t = (K t).testBit m) (hal : al < 2 ^ M) (hA : Cv K A al) (hc : chQ ks M al o) (hl : l 0 = al) (hO : O 0 = o) : smI K al M A l O 1 7 0 := by
  obtain ⟨h1, h2⟩ := ch_frame (al := al) (i := 0) hks hal (fun j h => by rwa [Nat.zero_add]) (fun _ => false) (by decide) (fun t _ h => by cases h) hc
  refine ⟨Nat.le_refl 7, by decide, Or.inl rfl, fun i hi => ?_, fun _ => ⟨0, by decide, ?_⟩, ?_⟩
  · have e : i = 0 := by omega
    subst e
    rw [hl, hO]
    exact h1
  · rw [hl, hO]
    rcases ch_pend (i := 0) hks hal hc (Nat.zero_le A) hA with q | q
    · exact Or.inl q
    · exact Or.inr ⟨rfl, q, Nat.zero_le A⟩
  · show 0 + (0 + (1 + ccnt (O 0).testBit 6 * (1 + F6 (5 - 0)))) ≤ 16000
    rw [hO]
    have h3 : ccnt o.testBit 6 ≤ 6 := by omega
    have h4 : ccnt o.testBit 6 * (1 + F6 (5 - 0)) ≤ 6 * (1 + F6 (5 - 0)) := Nat.mul_le_mul_right _ h3
    have h5 : 6 * (1 + F6 (5 - 0)) = 3912 := by decide
    omega
/-- a level is left; b': the best so far, this level's set looked at -/
theorem sm_pop {K : Nat → Nat} {al M A : Nat} {l O : Nat → Nat} {D b b' s : Nat} (h : smI K al M A l O (D + 1) b s) (hb : (l D = 0 ∧ D < b ∧ b' = D) ∨ ((l D ≠ 0 ∨ b ≤ D) ∧ b' = b)) (hc : l D = 0 ∨ b' ≤ D + 1 ∨ O D = 0) : smI K al M A l O D b' (s + 1) := by
  obtain ⟨h1, h2, h3, h4, h5, h6⟩ := h
  have hle : b' ≤ b := by rcases hb with ⟨-, q, e⟩ | ⟨-, e⟩ <;> omega
  have hz : l D = 0 → b' ≤ D := by
    intro q
    rcases hb with ⟨-, -, e⟩ | ⟨q2, e⟩
    · omega
    · rcases q2 with q2 | q2
      · exact absurd q q2
      · omega
  refine ⟨by omega, by omega, ?_, fun i hi => h4 i (by omega), fun hA => ?_, ?_⟩
  · rcases hb with ⟨q, q2, e⟩ | ⟨-, e⟩
    · right
      rw [e]
      have := (h4 D (by omega)).2.2.1 0 q
      rwa [Nat.add_zero] at this
    · rw [e]; exact h3
  · obtain ⟨i, hi, q⟩ := h5 (by omega)
    rcases q with ⟨t, ht, hbit, hiA, hcv⟩ | ⟨e, q, hiA⟩
    · rcases Nat.lt_or_ge i D with q | q
      · exact ⟨i, q, Or.inl ⟨t, ht, hbit, hiA, hcv⟩⟩
      · have e : i = D := by omega
        subst e
        rcases hc with q2 | q2 | q2
        · have := hz q2; omega
        · omega
        · rw [q2, Nat.zero_testBit] at hbit; cases hbit
    · have e : i = D := by omega
      subst e
      have := hz q
      omega
  · have : phi O (D + 1) = phi O D + (1 + ccnt (O D).testBit 6 * (1 + F6 (5 - D))) := rfl
    omega
theorem low_bit : ∀ O, O < 64 → O ≠ 0 → ∃ t, t < 6 ∧ O.testBit t = true ∧ nI O &&& -(nI O) = nI (2 ^ t) ∧ nI O - nI (2 ^ t) = nI (O - 2 ^ t) ∧ O - 2 ^ t < 64 := by decide +kernel
theorem low_rest : ∀ O, O < 64 → ∀ t, t < 6 → O.testBit t = true → (∀ i, i < 6 → (O - 2 ^ t).testBit i = (O.testBit i && decide (i ≠ t))) ∧ ccnt (O - 2 ^ t).testBit 6 + 1 = ccnt O.testBit 6 := by decide +kernel
theorem ccnt_add {P : Nat → Bool} {t : Nat} (ht : P t = false) : ∀ k, t < k → ccnt (fun i => P i || decide (i = t)) k = ccnt P k + 1
  | 0, h => absurd h (Nat.not_lt_zero t)
  | k + 1, h => by
    show ccnt _ k + (P k || decide (k = t)).toNat = ccnt P k + (P k).toNat + 1
    by_cases e : k = t
    · subst e
      rw [ht, decide_eq_true rfl, ccnt_cong (g := P) k (fun i hi => by rw [decide_eq_false (by omega), Bool.or_false])]
      rfl
    · rw [ccnt_add ht k (by omega), decide_eq_false e, Bool.or_false]
      omega
theorem F6_s (r : Nat) : F6 (r + 1) = 1 + (r + 1) * (1 + F6 r) := rfl
/-- a level is added -/
theorem sm_push {K ks : Nat → Nat} {al M A : Nat} {l O l' O' : Nat → Nat} {D b s t o : Nat} (hks : ∀ m, m < M → ks m < 64 ∧ ∀ t, t < 6 → (ks m).testBit t = (K t).testBit m) (h : smI K al M A l O (D + 1) b s) (h0 : l D ≠ 0) (hb : D + 1 < b) (ht : t < 6) (htO : (O D).testBit t = true) (hc : chQ ks M (dif (l D) (K t)) o)
    (hl1 : ∀ i, i < D + 1 → l' i = l i) (hl2 : l' (D + 1) = dif (l D) (K t)) (hO1 : ∀ i, i < D → O' i = O i) (hO2 : O' D = O D - 2 ^ t) (hO3 : O' (D + 1) = o) : smI K al M A l' O' (D + 2) b (s + 1) := by
  obtain ⟨h1, h2, h3, h4, h5, h6⟩ := h
  obtain ⟨f1, f2, f3, P, f4, f5, f6⟩ := h4 D (by omega)
  obtain ⟨r1, r2⟩ := low_rest (O D) f2 t ht htO
  have hPt : P t = false := by
    cases hp : P t with
    | false => rfl
    | true => rw [f5 t ht hp] at htO; cases htO
  obtain ⟨g1, g2⟩ := ch_frame (K := K) (al := al) (i := D + 1) (l := dif (l D) (K t)) hks (dif_lt _ f1)
    (fun j hj => by have := f3 (j + 1) (Or.inr ⟨t, ht, hj⟩); rwa [show D + (j + 1) = D + 1 + j by omega] at this)
    (fun i => P i || decide (i = t)) (by rw [ccnt_add hPt 6 ht, f4]) (fun t' ht' hp m hm => by
      rw [dif_bit, Bool.and_eq_true] at hm
      rw [Bool.or_eq_true, decide_eq_true_iff] at hp
      rcases hp with hp | hp
      · exact f6 t' ht' hp m hm.1
      · subst hp
        cases hk : (K t').testBit m with
        | false => rfl
        | true => rw [hk] at hm; cases hm.2) hc
  refine ⟨h1, by omega, h3, fun i hi => ?_, fun hA => ?_, ?_⟩
  · rcases Nat.lt_or_ge i D with q | q
    · rw [hl1 i (by omega), hO1 i q]
      exact h4 i (by omega)
    · by_cases e : i = D
      · subst e
        rw [hl1 i (by omega), hO2]
        refine ⟨f1, Nat.lt_of_le_of_lt (Nat.sub_le _ _) f2, f3, P, f4, fun t' ht' hp => ?_, f6⟩
        rw [r1 t' ht', f5 t' ht' hp, Bool.false_and]
      · have e : i = D + 1 := by omega
        subst e
        rw [hl2, hO3]
        exact g1
  · obtain ⟨i, hi, q⟩ := h5 hA
    rcases q with ⟨t', ht', hbit, hiA, hcv⟩ | ⟨e, q, hiA⟩
    · rcases Nat.lt_or_ge i D with q | q
      · refine ⟨i, by omega, Or.inl ?_⟩
        rw [hl1 i (by omega), hO1 i q]
        exact ⟨t', ht', hbit, hiA, hcv⟩
      · have e : i = D := by omega
        subst e
        by_cases ett : t' = t
        · subst ett
          refine ⟨i + 1, by omega, ?_⟩
          rw [hl2, hO3]
          rcases ch_pend (K := K) (A := A) (i := i + 1) hks (dif_lt _ f1) hc (by omega) hcv with z | z
          · exact Or.inl z
          · exact Or.inr ⟨rfl, z, hiA⟩
        · refine ⟨i, by omega, Or.inl ⟨t', ht', ?_, hiA, ?_⟩⟩
          · rw [hO2, r1 t' ht', hbit, decide_eq_true ett]; rfl
          · rw [hl1 i (by omega)]; exact hcv
    · have e : i = D := by omega
      subst e
      exact absurd q h0
  · have e1 : phi O (D + 1) = phi O D + (1 + ccnt (O D).testBit 6 * (1 + F6 (5 - D))) := rfl
    have e2 : phi O' (D + 2) = phi O' D + (1 + ccnt (O' D).testBit 6 * (1 + F6 (5 - D))) + (1 + ccnt (O' (D + 1)).testBit 6 * (1 + F6 (5 - (D + 1)))) := rfl
    rw [phi_cong (O := O') (O' := O) D hO1, hO2, hO3] at e2
    have e3 : ccnt (O D).testBit 6 * (1 + F6 (5 - D)) = ccnt (O D - 2 ^ t).testBit 6 * (1 + F6 (5 - D)) + (1 + F6 (5 - D)) := by rw [← r2, Nat.add_mul, Nat.one_mul]
    have hD : D ≤ 5 := by omega
    have e4 : 1 + ccnt o.testBit 6 * (1 + F6 (5 - (D + 1))) ≤ F6 (5 - D) := by
      by_cases e : D = 5
      · subst e
        have : ccnt o.testBit 6 = 0 := by omega
        rw [this, Nat.zero_mul]
        decide
      · rw [show 5 - D = (5 - (D + 1)) + 1 by omega, F6_s]
        have : ccnt o.testBit 6 * (1 + F6 (5 - (D + 1))) ≤ (5 - (D + 1) + 1) * (1 + F6 (5 - (D + 1))) := Nat.mul_le_mul_right _ (by omega)
        omega
    omega
/-- the least number of tests -/
def isA (K : Nat → Nat) (al A : Nat) : Prop := Cv K A al ∧ ∀ j, j < A → ¬ Cv K j al
theorem sm_done {K : Nat → Nat} {al M A : Nat} {l O : Nat → Nat} {b s : Nat} (hA : isA K al A) (h6 : A ≤ 6) (h : smI K al M A l O 0 b s) : b = A := by
  obtain ⟨h1, h2, h3, h4, h5, -⟩ := h
  have q1 : b ≤ A := by
    rcases Nat.lt_or_ge A b with q | q
    · obtain ⟨i, hi, -⟩ := h5 q
      exact absurd hi (Nat.not_lt_zero i)
    · exact q
  rcases h3 with q | q
  · omega
  · rcases Nat.lt_or_ge b A with z | z
    · exact absurd q (hA.2 b z)
    · omega
/-! the same by sets of tests -/
def cov (K : Nat → Nat) (l S k : Nat) : Prop := ∀ m, l.testBit m = true → ∃ t, t < k ∧ S.testBit t = true ∧ (K t).testBit m = true
theorem Cv_of_cov {K : Nat → Nat} {S : Nat} : ∀ (k l : Nat), k ≤ 6 → cov K l S k → Cv K (ccnt S.testBit k) l
  | 0, l, _, h => by
    show l = 0
    rcases Nat.eq_zero_or_pos l with q | q
    · exact q
    · obtain ⟨i, hi⟩ := Nat.exists_testBit_of_ne_zero (Nat.pos_iff_ne_zero.mp q)
      obtain ⟨t, ht, -⟩ := h i hi
      exact absurd ht (Nat.not_lt_zero t)
  | k + 1, l, hk, h => by
    show Cv K (ccnt S.testBit k + (S.testBit k).toNat) l
    by_cases e : S.testBit k = true
    · rw [e]
      refine Or.inr ⟨k, by omega, Cv_of_cov k _ (by omega) (fun m hm => ?_)⟩
      rw [dif_bit, Bool.and_eq_true] at hm
      obtain ⟨t, ht, h1, h2⟩ := h m hm.1
      refine ⟨t, ?_, h1, h2⟩
      rcases Nat.lt_or_ge t k with q | q
      · exact q
      · have e2 : t = k := by omega
        subst e2
        rw [h2] at hm
        cases hm.2
    · rw [Bool.eq_false_iff.mpr e]
      refine Cv_of_cov k l (by omega) (fun m hm => ?_)
      obtain ⟨t, ht, h1, h2⟩ := h m hm
      refine ⟨t, ?_, h1, h2⟩
      rcases Nat.lt_or_ge t k with q | q
      · exact q
      · have e2 : t = k := by omega
        subst e2
        exact absurd h1 e
theorem ccnt_or : ∀ S, S < 64 → ∀ t, t < 6 → ccnt (S ||| 2 ^ t).testBit 6 ≤ ccnt S.testBit 6 + 1 ∧ S ||| 2 ^ t < 64 := by decide +kernel
theorem cov_of_Cv {K : Nat → Nat} : ∀ (j l : Nat), Cv K j l → ∃ S, S < 64 ∧ ccnt S.testBit 6 ≤ j ∧ cov K l S 6
  | 0, l, h => by
    have h : l = 0 := h
    refine ⟨0, by decide, by decide, fun m hm => ?_⟩
    rw [h, Nat.zero_testBit] at hm
    cases hm
  | j + 1, l, h => by
    rcases h with h | ⟨t, ht, h⟩
    · obtain ⟨S, h1, h2, h3⟩ := cov_of_Cv j l h
      exact ⟨S, h1, by omega, h3⟩
    · obtain ⟨S, h1, h2, h3⟩ := cov_of_Cv j _ h
      obtain ⟨q1, q2⟩ := ccnt_or S h1 t ht
      refine ⟨S ||| 2 ^ t, q2, by omega, fun m hm => ?_⟩
      by_cases e : (K t).testBit m = true
      · exact ⟨t, ht, by rw [or_bit, decide_eq_true rfl, Bool.or_true], e⟩
      · obtain ⟨t', ht', g1, g2⟩ := h3 m (by rw [dif_bit, hm, Bool.eq_false_iff.mpr e]; rfl)
        exact ⟨t', ht', by rw [or_bit, g1]; rfl, g2⟩
end
section
/-! MutantLab: emit, tests, mutants, clear -/
def e0_emit (u : GU) (n : Nat) (o rg c : Int32) : Int32 × GU :=
  if o < 0 ∨ nI 7 < o then (-1, u) else if n < 12 then (nI n, gput (gput (va_up (va_up (va_up u 1 (upd (u 1) n o)) 2 (upd (u 2) n (rg &&& nI 15))) 3 (upd (u 3) n c)) 0 (nI (n + 1))) 13 0) else (-2, u)
theorem m0_emit (E : gE) (ad : Nat → Nat) (u : GU) (n : Nat) (o rg c : Int32) (hsz : u 0 0 = nI n) (hn : n ≤ 12) : gM E yX0_emit cX0_emit 4 (some .int) (rmX 0 0) (x0W E ad) [.ref (ad 0), .int o, .int rg, .int c] u (fun r u' => e0_emit u n o rg c = (r, u')) := by
  refine gM_of (by decide) (Nat.le_of_ble_eq_true rfl) rfl (fun _ _ _ => rfl) (fun X hX hE => ?_)
  refine g_iload_n (pc := 0) (i := 1) hX dX0_emit_0 rfl rfl ?_
  refine g_if_lt (pc := 1) (tgt := 10) hX dX0_emit_1 (by decide) (fun c1 => ?_) (fun c1 => ?_)
  · refine g_iconst (pc := 10) (v := (-1)) hX dX0_emit_10 ci_m1 ?_
    exact hE _ _ _ _ (if_pos (Or.inl c1)) dX0_emit_11
  · refine g_iload_n (pc := 4) (i := 1) hX dX0_emit_4 rfl rfl ?_
    refine g_bipush (pc := 5) (v := nI 7) hX dX0_emit_5 cb_7 ?_
    refine g_icmp_le (pc := 7) (tgt := 12) hX dX0_emit_7 (by decide) (fun c2 => ?_) (fun c2 => ?_)
    · have h0 : ¬ (o < 0 ∨ nI 7 < o) := by
        rintro (h | h)
        · exact c1 h
        · rw [Int32.lt_iff_toInt_lt] at h
          rw [Int32.le_iff_toInt_le] at c2
          omega
      refine g_aload_n (pc := 12) (i := 0) hX dX0_emit_12 rfl rfl ?_
      refine x0_g0 (pc := 13) hX dX0_emit_13 hsz ?_
      refine g_bipush (pc := 16) (v := nI 12) hX dX0_emit_16 cb_12 ?_
      refine g_icmp_lt (pc := 18) (tgt := 24) hX dX0_emit_18 (by decide) (fun c3 => ?_) (fun c3 => ?_)
      · have hn' : n < 12 := lt_of_nI c3 (by omega) (by decide)
        refine g_aload_n (pc := 24) (i := 0) hX dX0_emit_24 rfl rfl ?_
        refine x0_g1 (pc := 25) hX dX0_emit_25 ?_
        refine g_aload_n (pc := 28) (i := 0) hX dX0_emit_28 rfl rfl ?_
        refine x0_g0 (pc := 29) hX dX0_emit_29 hsz ?_
        refine g_iload_n (pc := 32) (i := 1) hX dX0_emit_32 rfl rfl ?_
        refine x0_s1 (pc := 33) hX dX0_emit_33 rfl (by first | assumption | omega) ?_
        refine g_aload_n (pc := 34) (i := 0) hX dX0_emit_34 rfl rfl ?_
        refine x0_g2 (pc := 35) hX dX0_emit_35 ?_
        refine g_aload_n (pc := 38) (i := 0) hX dX0_emit_38 rfl rfl ?_
        refine x0_g0 (pc := 39) hX dX0_emit_39 hsz ?_
        refine g_iload_n (pc := 42) (i := 2) hX dX0_emit_42 rfl rfl ?_
        refine g_bipush (pc := 43) (v := nI 15) hX dX0_emit_43 cb_15 ?_
        refine g_iand (pc := 45) hX dX0_emit_45 ?_
        refine x0_s2 (pc := 46) hX dX0_emit_46 rfl (by first | assumption | omega) ?_
        refine g_aload_n (pc := 47) (i := 0) hX dX0_emit_47 rfl rfl ?_
        refine x0_g3 (pc := 48) hX dX0_emit_48 ?_
        refine g_aload_n (pc := 51) (i := 0) hX dX0_emit_51 rfl rfl ?_
        refine x0_g0 (pc := 52) hX dX0_emit_52 hsz ?_
        refine g_iload_n (pc := 55) (i := 3) hX dX0_emit_55 rfl rfl ?_
        refine x0_s3 (pc := 56) hX dX0_emit_56 rfl (by first | assumption | omega) ?_
        refine g_aload_n (pc := 57) (i := 0) hX dX0_emit_57 rfl rfl ?_
        refine g_dupr (pc := 58) hX dX0_emit_58 ?_
        refine x0_g0 (pc := 59) hX dX0_emit_59 hsz ?_
        refine g_iconst (pc := 62) (v := 1) hX dX0_emit_62 ci_1 ?_
        refine g_iadd (pc := 63) hX dX0_emit_63 ?_
        refine G.topi (nI_1 n) ?_
        refine x0_p0 (pc := 64) hX dX0_emit_64 ?_
        refine g_aload_n (pc := 67) (i := 0) hX dX0_emit_67 rfl rfl ?_
        refine g_iconst (pc := 68) (v := 0) hX dX0_emit_68 ci_0 ?_
        refine x0_p13 (pc := 69) hX dX0_emit_69 rfl rfl ?_
        refine g_aload_n (pc := 72) (i := 0) hX dX0_emit_72 rfl rfl ?_
        refine x0_g0 (pc := 73) hX dX0_emit_73 (show _ = nI (n + 1) from rfl) ?_
        refine g_iconst (pc := 76) (v := 1) hX dX0_emit_76 ci_1 ?_
        refine g_isub (pc := 77) hX dX0_emit_77 ?_
        refine G.topi (nI_pred n) ?_
        exact hE _ _ _ _ ((if_neg h0).trans ((if_pos hn').trans rfl)) dX0_emit_78
      · have hn' : ¬ n < 12 := Nat.not_lt.mpr (ge_of_nI c3 (by omega) (by decide))
        refine g_bipush (pc := 21) (v := -2) hX dX0_emit_21 cb_m2 ?_
        exact hE _ _ _ _ ((if_neg h0).trans ((if_neg hn').trans rfl)) dX0_emit_23
    · have h0 : o < 0 ∨ nI 7 < o := by
        right
        rw [Int32.le_iff_toInt_le] at c2
        rw [Int32.lt_iff_toInt_lt]
        omega
      refine g_iconst (pc := 10) (v := (-1)) hX dX0_emit_10 ci_m1 ?_
      exact hE _ _ _ _ (if_pos h0) dX0_emit_11
def e0_addTest (u : GU) (t : Nat) (x y z w : Int32) : Int32 × GU :=
  if t < 6 then (nI t, gput (gput (va_up (va_up (va_up (va_up u 5 (upd (u 5) t x)) 6 (upd (u 6) t y)) 7 (upd (u 7) t z)) 8 (upd (u 8) t w)) 4 (nI (t + 1))) 13 0) else (-2, u)
theorem m0_addTest (E : gE) (ad : Nat → Nat) (u : GU) (t : Nat) (x y z w : Int32) (hts : u 4 0 = nI t) (ht : t ≤ 6) (hz : z = 0 ∨ z = 1) : gM E yX0_addTest cX0_addTest 6 (some .int) (rmX 0 0) (x0W E ad) [.ref (ad 0), .int x, .int y, .int z, .int w] u (fun r u' => e0_addTest u t x y z w = (r, u')) := by
  refine gM_of (by decide) (Nat.le_of_ble_eq_true rfl) rfl (fun _ _ _ => rfl) (fun X hX hE => ?_)
  refine g_aload_n (pc := 0) (i := 0) hX dX0_addTest_0 rfl rfl ?_
  refine x0_g4 (pc := 1) hX dX0_addTest_1 hts ?_
  refine g_bipush (pc := 4) (v := nI 6) hX dX0_addTest_4 cb_6 ?_
  refine g_icmp_lt (pc := 6) (tgt := 12) hX dX0_addTest_6 (by decide) (fun c3 => ?_) (fun c3 => ?_)
  · have ht' : t < 6 := lt_of_nI c3 (by omega) (by decide)
    refine g_aload_n (pc := 12) (i := 0) hX dX0_addTest_12 rfl rfl ?_
    refine x0_g4 (pc := 13) hX dX0_addTest_13 hts ?_
    refine g_ist5n (pc := 16) hX dX0_addTest_16 (by decide) ?_
    refine g_aload_n (pc := 18) (i := 0) hX dX0_addTest_18 rfl rfl ?_
    refine x0_g5 (pc := 19) hX dX0_addTest_19 ?_
    refine g_iload (pc := 22) hX dX0_addTest_22 rfl ?_
    refine g_iload_n (pc := 24) (i := 1) hX dX0_addTest_24 rfl rfl ?_
    refine x0_s5 (pc := 25) hX dX0_addTest_25 rfl (by first | assumption | omega) ?_
    refine g_aload_n (pc := 26) (i := 0) hX dX0_addTest_26 rfl rfl ?_
    refine x0_g6 (pc := 27) hX dX0_addTest_27 ?_
    refine g_iload (pc := 30) hX dX0_addTest_30 rfl ?_
    refine g_iload_n (pc := 32) (i := 2) hX dX0_addTest_32 rfl rfl ?_
    refine x0_s6 (pc := 33) hX dX0_addTest_33 rfl (by first | assumption | omega) ?_
    refine g_aload_n (pc := 34) (i := 0) hX dX0_addTest_34 rfl rfl ?_
    refine x0_g7 (pc := 35) hX dX0_addTest_35 ?_
    refine g_iload (pc := 38) hX dX0_addTest_38 rfl ?_
    refine g_iload_n (pc := 40) (i := 3) hX dX0_addTest_40 rfl rfl ?_
    refine x0_s7 (pc := 41) hX dX0_addTest_41 rfl (by first | assumption | omega) (nz01 hz) ?_
    refine g_aload_n (pc := 42) (i := 0) hX dX0_addTest_42 rfl rfl ?_
    refine x0_g8 (pc := 43) hX dX0_addTest_43 ?_
    refine g_iload (pc := 46) hX dX0_addTest_46 rfl ?_
    refine g_iload (pc := 48) hX dX0_addTest_48 rfl ?_
    refine x0_s8 (pc := 50) hX dX0_addTest_50 rfl (by first | assumption | omega) ?_
    refine g_aload_n (pc := 51) (i := 0) hX dX0_addTest_51 rfl rfl ?_
    refine g_dupr (pc := 52) hX dX0_addTest_52 ?_
    refine x0_g4 (pc := 53) hX dX0_addTest_53 hts ?_
    refine g_iconst (pc := 56) (v := 1) hX dX0_addTest_56 ci_1 ?_
    refine g_iadd (pc := 57) hX dX0_addTest_57 ?_
    refine G.topi (nI_1 t) ?_
    refine x0_p4 (pc := 58) hX dX0_addTest_58 ?_
    refine g_aload_n (pc := 61) (i := 0) hX dX0_addTest_61 rfl rfl ?_
    refine g_iconst (pc := 62) (v := 0) hX dX0_addTest_62 ci_0 ?_
    refine x0_p13 (pc := 63) hX dX0_addTest_63 rfl rfl ?_
    refine g_iload (pc := 66) hX dX0_addTest_66 rfl ?_
    exact hE _ _ _ _ ((if_pos ht').trans rfl) dX0_addTest_68
  · have ht' : ¬ t < 6 := Nat.not_lt.mpr (ge_of_nI c3 (by omega) (by decide))
    refine g_bipush (pc := 9) (v := -2) hX dX0_addTest_9 cb_m2 ?_
    exact hE _ _ _ _ ((if_neg ht').trans rfl) dX0_addTest_11
theorem m0_test (E : gE) (ad : Nat → Nat) (u : GU) (t : Nat) (x y w : Int32) (hts : u 4 0 = nI t) (ht : t ≤ 6) : gM E yX0_test cX0_test 4 (some .int) (rmX 1 25) (x0W E ad) [.ref (ad 0), .int x, .int y, .int w] u (fun r u' => e0_addTest u t x y 1 w = (r, u')) := by
  refine gM_of (by decide) (Nat.le_of_ble_eq_true rfl) rfl (fun _ _ _ => rfl) (fun X hX hE => ?_)
  refine g_aload_n (pc := 0) (i := 0) hX dX0_test_0 rfl rfl ?_
  refine g_iload_n (pc := 1) (i := 1) hX dX0_test_1 rfl rfl ?_
  refine g_iload_n (pc := 2) (i := 2) hX dX0_test_2 rfl rfl ?_
  refine g_iconst (pc := 3) (v := 1) hX dX0_test_3 ci_1 ?_
  refine g_iload_n (pc := 4) (i := 3) hX dX0_test_4 rfl rfl ?_
  refine g_calli0 (pc := 5) hX (m0_addTest E ad u t x y 1 w hts ht (Or.inr rfl)) (x0_wf E ad) Y0_addTest q129 dX0_test_5 rfl rfl (Nat.le_of_ble_eq_true rfl) (by decide) (fun r u' hp => ?_)
  exact hE _ _ _ _ (hp) dX0_test_8
def e0_addMutant (u : GU) (m : Nat) (p z c : Int32) : Int32 × GU :=
  if m < 24 then (nI m, gput (gput (va_up (va_up (va_up u 10 (upd (u 10) m p)) 11 (upd (u 11) m z)) 12 (upd (u 12) m c)) 9 (nI (m + 1))) 13 0) else (-2, u)
theorem m0_addMutant (E : gE) (ad : Nat → Nat) (u : GU) (m : Nat) (p z c : Int32) (hms : u 9 0 = nI m) (hm : m ≤ 24) (hz : z = 0 ∨ z = 1) : gM E yX0_addMutant cX0_addMutant 5 (some .int) (rmX 0 0) (x0W E ad) [.ref (ad 0), .int p, .int z, .int c] u (fun r u' => e0_addMutant u m p z c = (r, u')) := by
  refine gM_of (by decide) (Nat.le_of_ble_eq_true rfl) rfl (fun _ _ _ => rfl) (fun X hX hE => ?_)
  refine g_aload_n (pc := 0) (i := 0) hX dX0_addMutant_0 rfl rfl ?_
  refine x0_g9 (pc := 1) hX dX0_addMutant_1 hms ?_
  refine g_bipush (pc := 4) (v := nI 24) hX dX0_addMutant_4 cb_24 ?_
  refine g_icmp_lt (pc := 6) (tgt := 12) hX dX0_addMutant_6 (by decide) (fun c3 => ?_) (fun c3 => ?_)
  · have hm' : m < 24 := lt_of_nI c3 (by omega) (by decide)
    refine g_aload_n (pc := 12) (i := 0) hX dX0_addMutant_12 rfl rfl ?_
    refine x0_g9 (pc := 13) hX dX0_addMutant_13 hms ?_
    refine g_ist4n (pc := 16) hX dX0_addMutant_16 (by decide) ?_
    refine g_aload_n (pc := 18) (i := 0) hX dX0_addMutant_18 rfl rfl ?_
    refine x0_g10 (pc := 19) hX dX0_addMutant_19 ?_
    refine g_iload (pc := 22) hX dX0_addMutant_22 rfl ?_
    refine g_iload_n (pc := 24) (i := 1) hX dX0_addMutant_24 rfl rfl ?_
    refine x0_s10 (pc := 25) hX dX0_addMutant_25 rfl (by first | assumption | omega) ?_
    refine g_aload_n (pc := 26) (i := 0) hX dX0_addMutant_26 rfl rfl ?_
    refine x0_g11 (pc := 27) hX dX0_addMutant_27 ?_
    refine g_iload (pc := 30) hX dX0_addMutant_30 rfl ?_
    refine g_iload_n (pc := 32) (i := 2) hX dX0_addMutant_32 rfl rfl ?_
    refine x0_s11 (pc := 33) hX dX0_addMutant_33 rfl (by first | assumption | omega) (nz01 hz) ?_
    refine g_aload_n (pc := 34) (i := 0) hX dX0_addMutant_34 rfl rfl ?_
    refine x0_g12 (pc := 35) hX dX0_addMutant_35 ?_
    refine g_iload (pc := 38) hX dX0_addMutant_38 rfl ?_
    refine g_iload_n (pc := 40) (i := 3) hX dX0_addMutant_40 rfl rfl ?_
    refine x0_s12 (pc := 41) hX dX0_addMutant_41 rfl (by first | assumption | omega) ?_
    refine g_aload_n (pc := 42) (i := 0) hX dX0_addMutant_42 rfl rfl ?_
    refine g_dupr (pc := 43) hX dX0_addMutant_43 ?_
    refine x0_g9 (pc := 44) hX dX0_addMutant_44 hms ?_
    refine g_iconst (pc := 47) (v := 1) hX dX0_addMutant_47 ci_1 ?_
    refine g_iadd (pc := 48) hX dX0_addMutant_48 ?_
    refine G.topi (nI_1 m) ?_
    refine x0_p9 (pc := 49) hX dX0_addMutant_49 ?_
    refine g_aload_n (pc := 52) (i := 0) hX dX0_addMutant_52 rfl rfl ?_
    refine g_iconst (pc := 53) (v := 0) hX dX0_addMutant_53 ci_0 ?_
    refine x0_p13 (pc := 54) hX dX0_addMutant_54 rfl rfl ?_
    refine g_iload (pc := 57) hX dX0_addMutant_57 rfl ?_
    exact hE _ _ _ _ ((if_pos hm').trans rfl) dX0_addMutant_59
  · have hm' : ¬ m < 24 := Nat.not_lt.mpr (ge_of_nI c3 (by omega) (by decide))
    refine g_bipush (pc := 9) (v := -2) hX dX0_addMutant_9 cb_m2 ?_
    exact hE _ _ _ _ ((if_neg hm').trans rfl) dX0_addMutant_11
def e0_mutateOp (u : GU) (m : Nat) (p o : Int32) : Int32 × GU :=
  if p < 0 ∨ u 0 0 ≤ p then (-3, u) else if o < 0 ∨ nI 7 < o then (-1, u) else e0_addMutant u m p 1 o
def e0_mutateC (u : GU) (m : Nat) (p c : Int32) : Int32 × GU :=
  if p < 0 ∨ u 0 0 ≤ p then (-3, u) else e0_addMutant u m p 0 c
theorem m0_mutateOp (E : gE) (ad : Nat → Nat) (u : GU) (m : Nat) (p o : Int32) (hms : u 9 0 = nI m) (hm : m ≤ 24) : gM E yX0_mutateOp cX0_mutateOp 3 (some .int) (rmX 1 24) (x0W E ad) [.ref (ad 0), .int p, .int o] u (fun r u' => e0_mutateOp u m p o = (r, u')) := by
  refine gM_of (by decide) (Nat.le_of_ble_eq_true rfl) rfl (fun _ _ _ => rfl) (fun X hX hE => ?_)
  refine g_iload_n (pc := 0) (i := 1) hX dX0_mutateOp_0 rfl rfl ?_
  refine g_if_lt (pc := 1) (tgt := 12) hX dX0_mutateOp_1 (by decide) (fun c1 => ?_) (fun c1 => ?_)
  · refine g_bipush (pc := 12) (v := -3) hX dX0_mutateOp_12 cb_m3 ?_
    exact hE _ _ _ _ (if_pos (Or.inl c1)) dX0_mutateOp_14
  · refine g_iload_n (pc := 4) (i := 1) hX dX0_mutateOp_4 rfl rfl ?_
    refine g_aload_n (pc := 5) (i := 0) hX dX0_mutateOp_5 rfl rfl ?_
    refine x0_g0 (pc := 6) hX dX0_mutateOp_6 rfl ?_
    refine g_icmp_lt (pc := 9) (tgt := 15) hX dX0_mutateOp_9 (by decide) (fun c2 => ?_) (fun c2 => ?_)
    · have h0 : ¬ (p < 0 ∨ u 0 0 ≤ p) := by
        rintro (h | h)
        · exact c1 h
        · rw [Int32.le_iff_toInt_le] at h
          rw [Int32.lt_iff_toInt_lt] at c2
          omega
      refine g_iload_n (pc := 15) (i := 2) hX dX0_mutateOp_15 rfl rfl ?_
      refine g_if_lt (pc := 16) (tgt := 25) hX dX0_mutateOp_16 (by decide) (fun c3 => ?_) (fun c3 => ?_)
      · refine g_iconst (pc := 25) (v := (-1)) hX dX0_mutateOp_25 ci_m1 ?_
        exact hE _ _ _ _ ((if_neg h0).trans (if_pos (Or.inl c3))) dX0_mutateOp_26
      · refine g_iload_n (pc := 19) (i := 2) hX dX0_mutateOp_19 rfl rfl ?_
        refine g_bipush (pc := 20) (v := nI 7) hX dX0_mutateOp_20 cb_7 ?_
        refine g_icmp_le (pc := 22) (tgt := 27) hX dX0_mutateOp_22 (by decide) (fun c4 => ?_) (fun c4 => ?_)
        · have h1 : ¬ (o < 0 ∨ nI 7 < o) := by
            rintro (h | h)
            · exact c3 h
            · rw [Int32.lt_iff_toInt_lt] at h
              rw [Int32.le_iff_toInt_le] at c4
              omega
          refine g_aload_n (pc := 27) (i := 0) hX dX0_mutateOp_27 rfl rfl ?_
          refine g_iload_n (pc := 28) (i := 1) hX dX0_mutateOp_28 rfl rfl ?_
          refine g_iconst (pc := 29) (v := 1) hX dX0_mutateOp_29 ci_1 ?_
          refine g_iload_n (pc := 30) (i := 2) hX dX0_mutateOp_30 rfl rfl ?_
          refine g_calli0 (pc := 31) hX (m0_addMutant E ad u m p 1 o hms hm (Or.inr rfl)) (x0_wf E ad) Y0_addMutant q145 dX0_mutateOp_31 rfl rfl (Nat.le_of_ble_eq_true rfl) (by decide) (fun r u' hp => ?_)
          exact hE _ _ _ _ ((if_neg h0).trans ((if_neg h1).trans hp)) dX0_mutateOp_34
        · have h1 : o < 0 ∨ nI 7 < o := by
            right
            rw [Int32.le_iff_toInt_le] at c4
            rw [Int32.lt_iff_toInt_lt]
            omega
          refine g_iconst (pc := 25) (v := (-1)) hX dX0_mutateOp_25 ci_m1 ?_
          exact hE _ _ _ _ ((if_neg h0).trans (if_pos h1)) dX0_mutateOp_26
    · have h0 : p < 0 ∨ u 0 0 ≤ p := by
        right
        rw [Int32.lt_iff_toInt_lt] at c2
        rw [Int32.le_iff_toInt_le]
        omega
      refine g_bipush (pc := 12) (v := -3) hX dX0_mutateOp_12 cb_m3 ?_
      exact hE _ _ _ _ (if_pos h0) dX0_mutateOp_14
theorem m0_mutateC (E : gE) (ad : Nat → Nat) (u : GU) (m : Nat) (p c : Int32) (hms : u 9 0 = nI m) (hm : m ≤ 24) : gM E yX0_mutateC cX0_mutateC 3 (some .int) (rmX 1 24) (x0W E ad) [.ref (ad 0), .int p, .int c] u (fun r u' => e0_mutateC u m p c = (r, u')) := by
  refine gM_of (by decide) (Nat.le_of_ble_eq_true rfl) rfl (fun _ _ _ => rfl) (fun X hX hE => ?_)
  refine g_iload_n (pc := 0) (i := 1) hX dX0_mutateC_0 rfl rfl ?_
  refine g_if_lt (pc := 1) (tgt := 12) hX dX0_mutateC_1 (by decide) (fun c1 => ?_) (fun c1 => ?_)
  · refine g_bipush (pc := 12) (v := -3) hX dX0_mutateC_12 cb_m3 ?_
    exact hE _ _ _ _ (if_pos (Or.inl c1)) dX0_mutateC_14
  · refine g_iload_n (pc := 4) (i := 1) hX dX0_mutateC_4 rfl rfl ?_
    refine g_aload_n (pc := 5) (i := 0) hX dX0_mutateC_5 rfl rfl ?_
    refine x0_g0 (pc := 6) hX dX0_mutateC_6 rfl ?_
    refine g_icmp_lt (pc := 9) (tgt := 15) hX dX0_mutateC_9 (by decide) (fun c2 => ?_) (fun c2 => ?_)
    · have h0 : ¬ (p < 0 ∨ u 0 0 ≤ p) := by
        rintro (h | h)
        · exact c1 h
        · rw [Int32.le_iff_toInt_le] at h
          rw [Int32.lt_iff_toInt_lt] at c2
          omega
      refine g_aload_n (pc := 15) (i := 0) hX dX0_mutateC_15 rfl rfl ?_
      refine g_iload_n (pc := 16) (i := 1) hX dX0_mutateC_16 rfl rfl ?_
      refine g_iconst (pc := 17) (v := 0) hX dX0_mutateC_17 ci_0 ?_
      refine g_iload_n (pc := 18) (i := 2) hX dX0_mutateC_18 rfl rfl ?_
      refine g_calli0 (pc := 19) hX (m0_addMutant E ad u m p 0 c hms hm (Or.inl rfl)) (x0_wf E ad) Y0_addMutant q145 dX0_mutateC_19 rfl rfl (Nat.le_of_ble_eq_true rfl) (by decide) (fun r u' hp => ?_)
      exact hE _ _ _ _ ((if_neg h0).trans hp) dX0_mutateC_22
    · have h0 : p < 0 ∨ u 0 0 ≤ p := by
        right
        rw [Int32.lt_iff_toInt_lt] at c2
        rw [Int32.le_iff_toInt_le]
        omega
      refine g_bipush (pc := 12) (v := -3) hX dX0_mutateC_12 cb_m3 ?_
      exact hE _ _ _ _ (if_pos h0) dX0_mutateC_14
def e0_clear (u : GU) : GU := gput (gput (gput u 4 0) 9 0) 13 0
theorem m0_clear (E : gE) (ad : Nat → Nat) (u : GU) : gV E yX0_clear cX0_clear 1 (rmX 0 0) (x0W E ad) [.ref (ad 0)] u (fun u' => e0_clear u = u') := by
  refine gV_of (by decide) (Nat.le_of_ble_eq_true rfl) rfl (fun X hX hE => ?_)
  refine g_aload_n (pc := 0) (i := 0) hX dX0_clear_0 rfl rfl ?_
  refine g_iconst (pc := 1) (v := 0) hX dX0_clear_1 ci_0 ?_
  refine x0_p4 (pc := 2) hX dX0_clear_2 ?_
  refine g_aload_n (pc := 5) (i := 0) hX dX0_clear_5 rfl rfl ?_
  refine g_iconst (pc := 6) (v := 0) hX dX0_clear_6 ci_0 ?_
  refine x0_p9 (pc := 7) hX dX0_clear_7 ?_
  refine g_aload_n (pc := 10) (i := 0) hX dX0_clear_10 rfl rfl ?_
  refine g_iconst (pc := 11) (v := 0) hX dX0_clear_11 ci_0 ?_
  refine x0_p13 (pc := 12) hX dX0_clear_12 rfl rfl ?_
  exact hE _ _ _ (rfl) dX0_clear_15
end
section
/-! MutantLab: one instruction -/
def cR (u : GU) (d g : Nat) (o c : Int32) : GU := va_up u 20 (sR o c (d + g % 4) (d + g / 4) (u 20))
def cP (u : GU) (d g : Nat) (o c p : Int32) : Int32 := sP o c (d + g % 4) (d + g / 4) (u 20) p
theorem m0_carryOut (E : gE) (ad : Nat → Nat) (u : GU) (d p g : Nat) (o c : Int32) (hd : d ≤ 4) (hp : p < 12) (hg : g < 16) (hrg : u 2 p = nI g) : gM E yX0_carryOut cX0_carryOut 7 (some .int) (rmX 0 0) (x0W E ad) [.ref (ad 0), .int (nI d), .int (nI p), .int o, .int c] u (fun r u' => r = cP u d g o c (nI p) ∧ u' = cR u d g o c) := by
  refine gM_of (by decide) (Nat.le_of_ble_eq_true rfl) rfl (fun _ _ _ => rfl) (fun X hX hE => ?_)
  have ha : d + g % 4 < 8 := by omega
  have hb : d + g / 4 < 8 := by omega
  refine g_iload_n (pc := 0) (i := 1) hX dX0_carryOut_0 rfl rfl ?_
  refine g_aload_n (pc := 1) (i := 0) hX dX0_carryOut_1 rfl rfl ?_
  refine x0_g2 (pc := 2) hX dX0_carryOut_2 ?_
  refine g_iload_n (pc := 5) (i := 2) hX dX0_carryOut_5 rfl rfl ?_
  refine x0_l2 (pc := 6) hX dX0_carryOut_6 rfl (by first | assumption | omega) hrg ?_
  refine g_iconst (pc := 7) (v := 3) hX dX0_carryOut_7 ci_3 ?_
  refine g_iand (pc := 8) hX dX0_carryOut_8 ?_
  refine g_iadd (pc := 9) hX dX0_carryOut_9 ?_
  refine G.topi (co_ra d hg) ?_
  refine g_ist5n (pc := 10) hX dX0_carryOut_10 (by decide) ?_
  refine g_iload_n (pc := 12) (i := 1) hX dX0_carryOut_12 rfl rfl ?_
  refine g_aload_n (pc := 13) (i := 0) hX dX0_carryOut_13 rfl rfl ?_
  refine x0_g2 (pc := 14) hX dX0_carryOut_14 ?_
  refine g_iload_n (pc := 17) (i := 2) hX dX0_carryOut_17 rfl rfl ?_
  refine x0_l2 (pc := 18) hX dX0_carryOut_18 rfl (by first | assumption | omega) hrg ?_
  refine g_iconst (pc := 19) (v := 2) hX dX0_carryOut_19 ci_2 ?_
  refine g_ishr (pc := 20) hX dX0_carryOut_20 ?_
  refine g_iadd (pc := 21) hX dX0_carryOut_21 ?_
  refine G.topi (co_rb d hg) ?_
  refine g_ist6n (pc := 22) hX dX0_carryOut_22 (by decide) ?_
  refine g_iload_n (pc := 24) (i := 3) hX dX0_carryOut_24 rfl rfl ?_
  by_cases h0 : o = 0
  · subst h0
    refine g_tin (pc := 25) (tgt := 68) (off := 43) hX dX0_carryOut_25 (by decide) (by decide) (by decide) (by decide) ?_
    refine g_aload_n (pc := 68) (i := 0) hX dX0_carryOut_68 rfl rfl ?_
    refine x0_g20 (pc := 69) hX dX0_carryOut_69 ?_
    refine g_iload (pc := 72) hX dX0_carryOut_72 rfl ?_
    refine g_iload (pc := 74) hX dX0_carryOut_74 rfl ?_
    refine x0_s20 (pc := 76) hX dX0_carryOut_76 rfl (by first | assumption | omega) ?_
    refine g_goto (pc := 77) (tgt := 261) hX dX0_carryOut_77 (by decide) ?_
    refine g_iload_n (pc := 261) (i := 2) hX dX0_carryOut_261 rfl rfl ?_
    refine g_iconst (pc := 262) (v := 1) hX dX0_carryOut_262 ci_1 ?_
    refine g_iadd (pc := 263) hX dX0_carryOut_263 ?_
    exact hE _ _ _ _ (⟨(sP_n (by decide) (by decide)).symm, congrArg (va_up u 20) sR_0.symm⟩) dX0_carryOut_264
  by_cases h1 : o = 1
  · subst h1
    refine g_tin (pc := 25) (tgt := 80) (off := 55) hX dX0_carryOut_25 (by decide) (by decide) (by decide) (by decide) ?_
    refine g_aload_n (pc := 80) (i := 0) hX dX0_carryOut_80 rfl rfl ?_
    refine x0_g20 (pc := 81) hX dX0_carryOut_81 ?_
    refine g_iload (pc := 84) hX dX0_carryOut_84 rfl ?_
    refine g_aload_n (pc := 86) (i := 0) hX dX0_carryOut_86 rfl rfl ?_
    refine x0_g20 (pc := 87) hX dX0_carryOut_87 ?_
    refine g_iload (pc := 90) hX dX0_carryOut_90 rfl ?_
    refine x0_l20 (pc := 92) hX dX0_carryOut_92 rfl (by first | assumption | omega) rfl ?_
    refine g_aload_n (pc := 93) (i := 0) hX dX0_carryOut_93 rfl rfl ?_
    refine x0_g20 (pc := 94) hX dX0_carryOut_94 ?_
    refine g_iload (pc := 97) hX dX0_carryOut_97 rfl ?_
    refine x0_l20 (pc := 99) hX dX0_carryOut_99 rfl (by first | assumption | omega) rfl ?_
    refine g_iadd (pc := 100) hX dX0_carryOut_100 ?_
    refine x0_s20 (pc := 101) hX dX0_carryOut_101 rfl (by first | assumption | omega) ?_
    refine g_goto (pc := 102) (tgt := 261) hX dX0_carryOut_102 (by decide) ?_
    refine g_iload_n (pc := 261) (i := 2) hX dX0_carryOut_261 rfl rfl ?_
    refine g_iconst (pc := 262) (v := 1) hX dX0_carryOut_262 ci_1 ?_
    refine g_iadd (pc := 263) hX dX0_carryOut_263 ?_
    exact hE _ _ _ _ (⟨(sP_n (by decide) (by decide)).symm, congrArg (va_up u 20) sR_1.symm⟩) dX0_carryOut_264
  by_cases h2 : o = 2
  · subst h2
    refine g_tin (pc := 25) (tgt := 105) (off := 80) hX dX0_carryOut_25 (by decide) (by decide) (by decide) (by decide) ?_
    refine g_aload_n (pc := 105) (i := 0) hX dX0_carryOut_105 rfl rfl ?_
    refine x0_g20 (pc := 106) hX dX0_carryOut_106 ?_
    refine g_iload (pc := 109) hX dX0_carryOut_109 rfl ?_
    refine g_aload_n (pc := 111) (i := 0) hX dX0_carryOut_111 rfl rfl ?_
    refine x0_g20 (pc := 112) hX dX0_carryOut_112 ?_
    refine g_iload (pc := 115) hX dX0_carryOut_115 rfl ?_
    refine x0_l20 (pc := 117) hX dX0_carryOut_117 rfl (by first | assumption | omega) rfl ?_
    refine g_aload_n (pc := 118) (i := 0) hX dX0_carryOut_118 rfl rfl ?_
    refine x0_g20 (pc := 119) hX dX0_carryOut_119 ?_
    refine g_iload (pc := 122) hX dX0_carryOut_122 rfl ?_
    refine x0_l20 (pc := 124) hX dX0_carryOut_124 rfl (by first | assumption | omega) rfl ?_
    refine g_isub (pc := 125) hX dX0_carryOut_125 ?_
    refine x0_s20 (pc := 126) hX dX0_carryOut_126 rfl (by first | assumption | omega) ?_
    refine g_goto (pc := 127) (tgt := 261) hX dX0_carryOut_127 (by decide) ?_
    refine g_iload_n (pc := 261) (i := 2) hX dX0_carryOut_261 rfl rfl ?_
    refine g_iconst (pc := 262) (v := 1) hX dX0_carryOut_262 ci_1 ?_
    refine g_iadd (pc := 263) hX dX0_carryOut_263 ?_
    exact hE _ _ _ _ (⟨(sP_n (by decide) (by decide)).symm, congrArg (va_up u 20) sR_2.symm⟩) dX0_carryOut_264
  by_cases h3 : o = 3
  · subst h3
    refine g_tin (pc := 25) (tgt := 130) (off := 105) hX dX0_carryOut_25 (by decide) (by decide) (by decide) (by decide) ?_
    refine g_aload_n (pc := 130) (i := 0) hX dX0_carryOut_130 rfl rfl ?_
    refine x0_g20 (pc := 131) hX dX0_carryOut_131 ?_
    refine g_iload (pc := 134) hX dX0_carryOut_134 rfl ?_
    refine g_aload_n (pc := 136) (i := 0) hX dX0_carryOut_136 rfl rfl ?_
    refine x0_g20 (pc := 137) hX dX0_carryOut_137 ?_
    refine g_iload (pc := 140) hX dX0_carryOut_140 rfl ?_
    refine x0_l20 (pc := 142) hX dX0_carryOut_142 rfl (by first | assumption | omega) rfl ?_
    refine g_aload_n (pc := 143) (i := 0) hX dX0_carryOut_143 rfl rfl ?_
    refine x0_g20 (pc := 144) hX dX0_carryOut_144 ?_
    refine g_iload (pc := 147) hX dX0_carryOut_147 rfl ?_
    refine x0_l20 (pc := 149) hX dX0_carryOut_149 rfl (by first | assumption | omega) rfl ?_
    refine g_imul (pc := 150) hX dX0_carryOut_150 ?_
    refine x0_s20 (pc := 151) hX dX0_carryOut_151 rfl (by first | assumption | omega) ?_
    refine g_goto (pc := 152) (tgt := 261) hX dX0_carryOut_152 (by decide) ?_
    refine g_iload_n (pc := 261) (i := 2) hX dX0_carryOut_261 rfl rfl ?_
    refine g_iconst (pc := 262) (v := 1) hX dX0_carryOut_262 ci_1 ?_
    refine g_iadd (pc := 263) hX dX0_carryOut_263 ?_
    exact hE _ _ _ _ (⟨(sP_n (by decide) (by decide)).symm, congrArg (va_up u 20) sR_3.symm⟩) dX0_carryOut_264
  by_cases h4 : o = 4
  · subst h4
    refine g_tin (pc := 25) (tgt := 155) (off := 130) hX dX0_carryOut_25 (by decide) (by decide) (by decide) (by decide) ?_
    refine g_aload_n (pc := 155) (i := 0) hX dX0_carryOut_155 rfl rfl ?_
    refine x0_g20 (pc := 156) hX dX0_carryOut_156 ?_
    refine g_iload (pc := 159) hX dX0_carryOut_159 rfl ?_
    refine g_aload_n (pc := 161) (i := 0) hX dX0_carryOut_161 rfl rfl ?_
    refine x0_g20 (pc := 162) hX dX0_carryOut_162 ?_
    refine g_iload (pc := 165) hX dX0_carryOut_165 rfl ?_
    refine x0_l20 (pc := 167) hX dX0_carryOut_167 rfl (by first | assumption | omega) rfl ?_
    refine g_aload_n (pc := 168) (i := 0) hX dX0_carryOut_168 rfl rfl ?_
    refine x0_g20 (pc := 169) hX dX0_carryOut_169 ?_
    refine g_iload (pc := 172) hX dX0_carryOut_172 rfl ?_
    refine x0_l20 (pc := 174) hX dX0_carryOut_174 rfl (by first | assumption | omega) rfl ?_
    refine g_icmp_ge (pc := 175) (tgt := 188) hX dX0_carryOut_175 (by decide) (fun c1 => ?_) (fun c1 => ?_)
    · refine g_aload_n (pc := 188) (i := 0) hX dX0_carryOut_188 rfl rfl ?_
      refine x0_g20 (pc := 189) hX dX0_carryOut_189 ?_
      refine g_iload (pc := 192) hX dX0_carryOut_192 rfl ?_
      refine x0_l20 (pc := 194) hX dX0_carryOut_194 rfl (by first | assumption | omega) rfl ?_
      refine x0_s20 (pc := 195) hX dX0_carryOut_195 rfl (by first | assumption | omega) ?_
      refine g_goto (pc := 196) (tgt := 261) hX dX0_carryOut_196 (by decide) ?_
      refine g_iload_n (pc := 261) (i := 2) hX dX0_carryOut_261 rfl rfl ?_
      refine g_iconst (pc := 262) (v := 1) hX dX0_carryOut_262 ci_1 ?_
      refine g_iadd (pc := 263) hX dX0_carryOut_263 ?_
      have e : (if u 20 (d + g % 4) < u 20 (d + g / 4) then u 20 (d + g % 4) else u 20 (d + g / 4)) = u 20 (d + g / 4) := if_neg (fun q => by rw [Int32.lt_iff_toInt_lt] at q; rw [Int32.le_iff_toInt_le] at c1; omega)
      exact hE _ _ _ _ (⟨(sP_n (by decide) (by decide)).symm, congrArg (va_up u 20) (by rw [sR_4, e])⟩) dX0_carryOut_264
    · refine g_aload_n (pc := 178) (i := 0) hX dX0_carryOut_178 rfl rfl ?_
      refine x0_g20 (pc := 179) hX dX0_carryOut_179 ?_
      refine g_iload (pc := 182) hX dX0_carryOut_182 rfl ?_
      refine x0_l20 (pc := 184) hX dX0_carryOut_184 rfl (by first | assumption | omega) rfl ?_
      refine g_goto (pc := 185) (tgt := 195) hX dX0_carryOut_185 (by decide) ?_
      refine x0_s20 (pc := 195) hX dX0_carryOut_195 rfl (by first | assumption | omega) ?_
      refine g_goto (pc := 196) (tgt := 261) hX dX0_carryOut_196 (by decide) ?_
      refine g_iload_n (pc := 261) (i := 2) hX dX0_carryOut_261 rfl rfl ?_
      refine g_iconst (pc := 262) (v := 1) hX dX0_carryOut_262 ci_1 ?_
      refine g_iadd (pc := 263) hX dX0_carryOut_263 ?_
      have e : (if u 20 (d + g % 4) < u 20 (d + g / 4) then u 20 (d + g % 4) else u 20 (d + g / 4)) = u 20 (d + g % 4) := if_pos (by rw [Int32.lt_iff_toInt_lt]; rw [Int32.le_iff_toInt_le] at c1; omega)
      exact hE _ _ _ _ (⟨(sP_n (by decide) (by decide)).symm, congrArg (va_up u 20) (by rw [sR_4, e])⟩) dX0_carryOut_264
  by_cases h5 : o = 5
  · subst h5
    refine g_tin (pc := 25) (tgt := 199) (off := 174) hX dX0_carryOut_25 (by decide) (by decide) (by decide) (by decide) ?_
    have e : u = cR u d g 5 c := by unfold cR; rw [sR_5, gu_self]
    refine g_aload_n (pc := 199) (i := 0) hX dX0_carryOut_199 rfl rfl ?_
    refine x0_g20 (pc := 200) hX dX0_carryOut_200 ?_
    refine g_iload (pc := 203) hX dX0_carryOut_203 rfl ?_
    refine x0_l20 (pc := 205) hX dX0_carryOut_205 rfl (by first | assumption | omega) rfl ?_
    refine g_aload_n (pc := 206) (i := 0) hX dX0_carryOut_206 rfl rfl ?_
    refine x0_g20 (pc := 207) hX dX0_carryOut_207 ?_
    refine g_iload (pc := 210) hX dX0_carryOut_210 rfl ?_
    refine x0_l20 (pc := 212) hX dX0_carryOut_212 rfl (by first | assumption | omega) rfl ?_
    refine g_icmp_ge (pc := 213) (tgt := 221) hX dX0_carryOut_213 (by decide) (fun c1 => ?_) (fun c1 => ?_)
    · refine g_iload_n (pc := 221) (i := 2) hX dX0_carryOut_221 rfl rfl ?_
      refine g_iconst (pc := 222) (v := 1) hX dX0_carryOut_222 ci_1 ?_
      refine g_iadd (pc := 223) hX dX0_carryOut_223 ?_
      exact hE _ _ _ _ (⟨(sP_5f (fun q => by rw [Int32.lt_iff_toInt_lt] at q; rw [Int32.le_iff_toInt_le] at c1; omega)).symm, e⟩) dX0_carryOut_224
    · refine g_iload (pc := 216) hX dX0_carryOut_216 rfl ?_
      refine g_goto (pc := 218) (tgt := 224) hX dX0_carryOut_218 (by decide) ?_
      exact hE _ _ _ _ (⟨(sP_5t (by rw [Int32.lt_iff_toInt_lt]; rw [Int32.le_iff_toInt_le] at c1; omega)).symm, e⟩) dX0_carryOut_224
  by_cases h6 : o = 6
  · subst h6
    refine g_tin (pc := 25) (tgt := 225) (off := 200) hX dX0_carryOut_25 (by decide) (by decide) (by decide) (by decide) ?_
    have e : u = cR u d g 6 c := by unfold cR; rw [sR_6, gu_self]
    refine g_aload_n (pc := 225) (i := 0) hX dX0_carryOut_225 rfl rfl ?_
    refine x0_g20 (pc := 226) hX dX0_carryOut_226 ?_
    refine g_iload (pc := 229) hX dX0_carryOut_229 rfl ?_
    refine x0_l20 (pc := 231) hX dX0_carryOut_231 rfl (by first | assumption | omega) rfl ?_
    refine g_if_ne (pc := 232) (tgt := 240) hX dX0_carryOut_232 (by decide) (fun c1 => ?_) (fun c1 => ?_)
    · refine g_iload_n (pc := 240) (i := 2) hX dX0_carryOut_240 rfl rfl ?_
      refine g_iconst (pc := 241) (v := 1) hX dX0_carryOut_241 ci_1 ?_
      refine g_iadd (pc := 242) hX dX0_carryOut_242 ?_
      exact hE _ _ _ _ (⟨(sP_6f c1).symm, e⟩) dX0_carryOut_243
    · refine g_iload (pc := 235) hX dX0_carryOut_235 rfl ?_
      refine g_goto (pc := 237) (tgt := 243) hX dX0_carryOut_237 (by decide) ?_
      exact hE _ _ _ _ (⟨(sP_6t c1).symm, e⟩) dX0_carryOut_243
  have hout : o.toInt < 0 ∨ 6 < o.toInt := by
    have q0 := lv_neT (a := 0) h0 (by decide)
    have q1 := lv_neT (a := 1) h1 (by decide)
    have q2 := lv_neT (a := 2) h2 (by decide)
    have q3 := lv_neT (a := 3) h3 (by decide)
    have q4 := lv_neT (a := 4) h4 (by decide)
    have q5 := lv_neT (a := 5) h5 (by decide)
    have q6 := lv_neT (a := 6) h6 (by decide)
    omega
  refine g_tout (pc := 25) (tgt := 244) hX dX0_carryOut_25 hout (by decide) ?_
  refine g_aload_n (pc := 244) (i := 0) hX dX0_carryOut_244 rfl rfl ?_
  refine x0_g20 (pc := 245) hX dX0_carryOut_245 ?_
  refine g_iload (pc := 248) hX dX0_carryOut_248 rfl ?_
  refine g_aload_n (pc := 250) (i := 0) hX dX0_carryOut_250 rfl rfl ?_
  refine x0_g20 (pc := 251) hX dX0_carryOut_251 ?_
  refine g_iload (pc := 254) hX dX0_carryOut_254 rfl ?_
  refine x0_l20 (pc := 256) hX dX0_carryOut_256 rfl (by first | assumption | omega) rfl ?_
  refine g_iload (pc := 257) hX dX0_carryOut_257 rfl ?_
  refine g_iadd (pc := 259) hX dX0_carryOut_259 ?_
  refine x0_s20 (pc := 260) hX dX0_carryOut_260 rfl (by first | assumption | omega) ?_
  refine g_iload_n (pc := 261) (i := 2) hX dX0_carryOut_261 rfl rfl ?_
  refine g_iconst (pc := 262) (v := 1) hX dX0_carryOut_262 ci_1 ?_
  refine g_iadd (pc := 263) hX dX0_carryOut_263 ?_
  exact hE _ _ _ _ (⟨(sP_n h5 h6).symm, congrArg (va_up u 20) (sR_d h0 h1 h2 h3 h4 h5 h6).symm⟩) dX0_carryOut_264
theorem m0_stepMutant (E : gE) (ad : Nat → Nat) (u : GU) (p g : Nat) (hp : p < 12) (hg : g < 16) (hrg : u 2 p = nI g) : gM E yX0_stepMutant cX0_stepMutant 2 (some .int) (rmX 1 26) (x0W E ad) [.ref (ad 0), .int (nI p)] u (fun r u' => r = cP u 4 g (if u 21 0 = nI p then u 22 0 else u 1 p) (if u 21 0 = nI p then u 23 0 else u 3 p) (nI p) ∧ u' = cR u 4 g (if u 21 0 = nI p then u 22 0 else u 1 p) (if u 21 0 = nI p then u 23 0 else u 3 p)) := by
  refine gM_of (by decide) (Nat.le_of_ble_eq_true rfl) rfl (fun _ _ _ => rfl) (fun X hX hE => ?_)
  refine g_iload_n (pc := 0) (i := 1) hX dX0_stepMutant_0 rfl rfl ?_
  refine g_aload_n (pc := 1) (i := 0) hX dX0_stepMutant_1 rfl rfl ?_
  refine x0_g21 (pc := 2) hX dX0_stepMutant_2 rfl ?_
  refine g_icmp_ne (pc := 5) (tgt := 23) hX dX0_stepMutant_5 (by decide) (fun c1 => ?_) (fun c1 => ?_)
  · refine g_aload_n (pc := 23) (i := 0) hX dX0_stepMutant_23 rfl rfl ?_
    refine g_iconst (pc := 24) (v := 4) hX dX0_stepMutant_24 ci_4 ?_
    refine g_iload_n (pc := 25) (i := 1) hX dX0_stepMutant_25 rfl rfl ?_
    refine g_aload_n (pc := 26) (i := 0) hX dX0_stepMutant_26 rfl rfl ?_
    refine x0_g1 (pc := 27) hX dX0_stepMutant_27 ?_
    refine g_iload_n (pc := 30) (i := 1) hX dX0_stepMutant_30 rfl rfl ?_
    refine x0_l1 (pc := 31) hX dX0_stepMutant_31 rfl (by first | assumption | omega) rfl ?_
    refine g_aload_n (pc := 32) (i := 0) hX dX0_stepMutant_32 rfl rfl ?_
    refine x0_g3 (pc := 33) hX dX0_stepMutant_33 ?_
    refine g_iload_n (pc := 36) (i := 1) hX dX0_stepMutant_36 rfl rfl ?_
    refine x0_l3 (pc := 37) hX dX0_stepMutant_37 rfl (by first | assumption | omega) rfl ?_
    refine g_calli0 (pc := 38) hX (m0_carryOut E ad u 4 p g (u 1 p) (u 3 p) (by decide) hp hg hrg) (x0_wf E ad) Y0_carryOut q137 dX0_stepMutant_38 rfl rfl (Nat.le_of_ble_eq_true rfl) (by decide) (fun r u' hq => ?_)
    have e1 : ¬ u 21 0 = nI p := fun q => c1 q.symm
    exact hE _ _ _ _ (by rw [if_neg e1, if_neg e1]; exact hq) dX0_stepMutant_41
  · refine g_aload_n (pc := 8) (i := 0) hX dX0_stepMutant_8 rfl rfl ?_
    refine g_iconst (pc := 9) (v := 4) hX dX0_stepMutant_9 ci_4 ?_
    refine g_iload_n (pc := 10) (i := 1) hX dX0_stepMutant_10 rfl rfl ?_
    refine g_aload_n (pc := 11) (i := 0) hX dX0_stepMutant_11 rfl rfl ?_
    refine x0_g22 (pc := 12) hX dX0_stepMutant_12 rfl ?_
    refine g_aload_n (pc := 15) (i := 0) hX dX0_stepMutant_15 rfl rfl ?_
    refine x0_g23 (pc := 16) hX dX0_stepMutant_16 rfl ?_
    refine g_calli0 (pc := 19) hX (m0_carryOut E ad u 4 p g (u 22 0) (u 23 0) (by decide) hp hg hrg) (x0_wf E ad) Y0_carryOut q137 dX0_stepMutant_19 rfl rfl (Nat.le_of_ble_eq_true rfl) (by decide) (fun r u' hq => ?_)
    have e1 : u 21 0 = nI p := c1.symm
    exact hE _ _ _ _ (by rw [if_pos e1, if_pos e1]; exact hq) dX0_stepMutant_22
end
section
/-! MutantLab: the program's own run (snapshotTest) -/
theorem cR_0 (u : GU) (R : Nat → Int32) (g : Nat) (o c : Int32) : cR (va_up u 20 R) 0 g o c = va_up u 20 (sR o c (g % 4) (g / 4) R) := by
  unfold cR
  rw [gu_same, Nat.zero_add, Nat.zero_add, bx_uu]
theorem cP_0 (u : GU) (R : Nat → Int32) (g : Nat) (o c p : Int32) : cP (va_up u 20 R) 0 g o c p = sP o c (g % 4) (g / 4) R p := by
  unfold cP
  rw [gu_same, Nat.zero_add, Nat.zero_add]
theorem pI_at {u : GU} {j g : Nat} (h : u 2 j = nI g) (hg : g < 16) : pI u j = (u 1 j, u 3 j, g % 4, g / 4) := by
  unfold pI
  rw [rgN_of h hg]
theorem it_step {u : GU} {n j g k : Nat} {S0 : Sx} {R : Nat → Int32} (hsz : u 0 0 = nI n) (hn : n ≤ 12) (hj : j < n) (hrg : u 2 j = nI g) (hg : g < 16) (h : it (u 0 0) (pI u) k S0 = (R, nI j, k)) : it (u 0 0) (pI u) (k + 1) S0 = (sR (u 1 j) (u 3 j) (g % 4) (g / 4) R, sP (u 1 j) (u 3 j) (g % 4) (g / 4) R (nI j), k + 1) := by
  show sx (u 0 0) (pI u) (it (u 0 0) (pI u) k S0) = _
  rw [h, sx_in (by omega) (ir_nI hsz (by omega) hj), pI_at hrg hg]
theorem rxy_n (u : GU) (x y : Int32) : it (u 0 0) (pI u) 100 (R0 x y, 0, 0) = rxy u none x y := by unfold rxy; rfl
theorem rxy_s (u : GU) (m : Nat) (x y : Int32) : it (u 0 0) (mI u m) 100 (R0 x y, 0, 0) = rxy u (some m) x y := by unfold rxy; rfl
theorem R0_eq (f : Nat → Int32) (x y : Int32) : ∀ i, i < 4 → upd (upd (upd (upd f 0 x) 1 y) 2 0) 3 0 i = R0 x y i := by
  intro i hi
  match i, hi with
  | 0, _ => rfl
  | 1, _ => rfl
  | 2, _ => rfl
  | 3, _ => rfl
theorem eI_join {z p : Int32} {b : Int32} (h : (p < 0 ∨ ¬ p < z) ∧ b = 1 ∨ (¬ p < 0 ∧ p < z) ∧ b = 0) : b = eI z p := by
  rcases h with ⟨h, e⟩ | ⟨h, e⟩
  · rw [e, eI_1]
    rintro ⟨h1, h2⟩
    rcases h with h | h
    · exact h1 h
    · exact h h2
  · rw [e, eI_0 h]
theorem nlt_of_le {a b : Int32} (h : a ≤ b) : ¬ b < a := fun q => by rw [Int32.lt_iff_toInt_lt] at q; rw [Int32.le_iff_toInt_le] at h; omega
theorem lt_of_nle {a b : Int32} (h : ¬ a ≤ b) : b < a := by rw [Int32.lt_iff_toInt_lt]; rw [Int32.le_iff_toInt_le] at h; omega
theorem snap_loop {E : gE} {X : gC} {ad : Nat → Nat} (hX : gK E X cX0_snapshotTest 6 RX0 (rmX 1 26)) (u : GU) (n t m : Nat) (hw : wf u n t m) (x y : Int32) (S0 : Sx)
    (hk : ∀ (R : Nat → Int32) (p q : Int32), (∃ c, it (u 0 0) (pI u) 100 S0 = (R, p, c)) → G E X 6 0 0 (x0W E ad (va_up u 20 R)) 89 [.ref (ad 0), .int x, .int y, .int p, .int q] []) :
    ∀ (f k : Nat), k + f = 100 → ∀ (R : Nat → Int32) (p : Int32), it (u 0 0) (pI u) k S0 = (R, p, k) → G E X 6 0 0 (x0W E ad (va_up u 20 R)) 45 [.ref (ad 0), .int x, .int y, .int p, .int (nI k)] [] := by
  obtain ⟨hsz, hn, -, -, -, -, hrg, -⟩ := hw
  intro f
  induction f with
  | zero =>
    intro k hkf R p hit
    refine g_iload (pc := 45) hX dX0_snapshotTest_45 rfl ?_
    refine g_bipush (pc := 47) (v := nI 100) hX dX0_snapshotTest_47 cb_100 ?_
    have e : k = 100 := by omega
    subst e
    refine g_icmp_ge (pc := 49) (tgt := 89) hX dX0_snapshotTest_49 (by decide) (fun c1 => ?_) (fun c1 => ?_)
    · exact hk R p _ ⟨_, hit⟩
    · exact absurd (nI_le (Nat.le_refl _) (by decide)) c1
  | succ f ih =>
    intro k hkf R p hit
    have stop : ¬ ir (u 0 0) p → ∃ c, it (u 0 0) (pI u) 100 S0 = (R, p, c) := fun h => ⟨k, by rw [it_stop (k := k) (by omega) (Or.inr (by rw [hit]; exact h))]; exact hit⟩
    refine g_iload (pc := 45) hX dX0_snapshotTest_45 rfl ?_
    refine g_bipush (pc := 47) (v := nI 100) hX dX0_snapshotTest_47 cb_100 ?_
    refine g_icmp_ge (pc := 49) (tgt := 89) hX dX0_snapshotTest_49 (by decide) (fun c1 => ?_) (fun c1 => ?_)
    · exact absurd c1 (nI_ge (by omega) (by decide))
    · refine g_iload_n (pc := 52) (i := 3) hX dX0_snapshotTest_52 rfl rfl ?_
      refine g_if_lt (pc := 53) (tgt := 89) hX dX0_snapshotTest_53 (by decide) (fun c2 => ?_) (fun c2 => ?_)
      · exact hk R p _ (stop (fun h => h.1 c2))
      · refine g_iload_n (pc := 56) (i := 3) hX dX0_snapshotTest_56 rfl rfl ?_
        refine g_aload_n (pc := 57) (i := 0) hX dX0_snapshotTest_57 rfl rfl ?_
        refine x0_g0 (pc := 58) hX dX0_snapshotTest_58 hsz ?_
        refine g_icmp_ge (pc := 61) (tgt := 89) hX dX0_snapshotTest_61 (by decide) (fun c3 => ?_) (fun c3 => ?_)
        · exact hk R p _ (stop (fun h => nlt_of_le c3 (by have := h.2; rwa [hsz] at this)))
        · have hir : ir (u 0 0) p := ⟨c2, by rw [hsz]; exact lt_of_nle c3⟩
          obtain ⟨j, hj, rfl⟩ := ir_of hsz (by omega) hir
          obtain ⟨g, hg, hrj⟩ := hrg j (by omega)
          refine g_aload_n (pc := 64) (i := 0) hX dX0_snapshotTest_64 rfl rfl ?_
          refine g_iconst (pc := 65) (v := 0) hX dX0_snapshotTest_65 ci_0 ?_
          refine g_iload_n (pc := 66) (i := 3) hX dX0_snapshotTest_66 rfl rfl ?_
          refine g_aload_n (pc := 67) (i := 0) hX dX0_snapshotTest_67 rfl rfl ?_
          refine x0_g1 (pc := 68) hX dX0_snapshotTest_68 ?_
          refine g_iload_n (pc := 71) (i := 3) hX dX0_snapshotTest_71 rfl rfl ?_
          refine x0_l1 (pc := 72) hX dX0_snapshotTest_72 rfl (by omega) (show _ = u 1 j from rfl) ?_
          refine g_aload_n (pc := 73) (i := 0) hX dX0_snapshotTest_73 rfl rfl ?_
          refine x0_g3 (pc := 74) hX dX0_snapshotTest_74 ?_
          refine g_iload_n (pc := 77) (i := 3) hX dX0_snapshotTest_77 rfl rfl ?_
          refine x0_l3 (pc := 78) hX dX0_snapshotTest_78 rfl (by omega) (show _ = u 3 j from rfl) ?_
          refine g_calli0 (pc := 79) hX (m0_carryOut E ad (va_up u 20 R) 0 j g (u 1 j) (u 3 j) (by decide) (by omega) hg hrj) (x0_wf E ad) Y0_carryOut q137 dX0_snapshotTest_79 rfl rfl (Nat.le_of_ble_eq_true rfl) (by decide) (fun r u' hq => ?_)
          obtain ⟨rfl, rfl⟩ := hq
          rw [cR_0, cP_0]
          refine g_ist3s (pc := 82) hX dX0_snapshotTest_82 (by decide) ?_
          first | refine g_inc4N (pc := 83) hX dX0_snapshotTest_83 (by decide) ?_ | refine g_inc4 (pc := 83) hX dX0_snapshotTest_83 (by decide) ?_
          refine g_goto (pc := 86) (tgt := 45) hX dX0_snapshotTest_86 (by decide) ?_
          exact ih (k + 1) (by omega) _ _ (it_step hsz hn hj hrj hg hit)
theorem m0_snapshotTest (E : gE) (ad : Nat → Nat) (u : GU) (n t m : Nat) (x y : Int32) (hw : wf u n t m) : gM E yX0_snapshotTest cX0_snapshotTest 6 (some .int) (rmX 1 26) (x0W E ad) [.ref (ad 0), .int x, .int y] u (fun r u' => if t < 6 then ∃ R, e0_addTest (va_up u 20 R) t x y (eI (u 0 0) (rxy u none x y).2.1) ((rxy u none x y).1 0) = (r, u') else (r = -2 ∧ u' = u)) := by
  refine gM_of (by decide) (Nat.le_of_ble_eq_true rfl) rfl (fun _ _ _ => rfl) (fun X hX hE => ?_)
  have hw0 := hw
  obtain ⟨hsz, hn, hts, ht, -, -, hrg, -⟩ := hw
  refine g_aload_n (pc := 0) (i := 0) hX dX0_snapshotTest_0 rfl rfl ?_
  refine x0_g4 (pc := 1) hX dX0_snapshotTest_1 hts ?_
  refine g_bipush (pc := 4) (v := nI 6) hX dX0_snapshotTest_4 cb_6 ?_
  refine g_icmp_lt (pc := 6) (tgt := 12) hX dX0_snapshotTest_6 (by decide) (fun c3 => ?_) (fun c3 => ?_)
  · have ht' : t < 6 := lt_of_nI c3 (by omega) (by decide)
    refine g_aload_n (pc := 12) (i := 0) hX dX0_snapshotTest_12 rfl rfl ?_
    refine x0_g20 (pc := 13) hX dX0_snapshotTest_13 ?_
    refine g_iconst (pc := 16) (v := 0) hX dX0_snapshotTest_16 ci_0 ?_
    refine g_iload_n (pc := 17) (i := 1) hX dX0_snapshotTest_17 rfl rfl ?_
    refine x0_s20 (pc := 18) hX dX0_snapshotTest_18 (show (0 : Int32) = nI 0 from rfl) (by decide) ?_
    refine g_aload_n (pc := 19) (i := 0) hX dX0_snapshotTest_19 rfl rfl ?_
    refine x0_g20 (pc := 20) hX dX0_snapshotTest_20 ?_
    refine g_iconst (pc := 23) (v := 1) hX dX0_snapshotTest_23 ci_1 ?_
    refine g_iload_n (pc := 24) (i := 2) hX dX0_snapshotTest_24 rfl rfl ?_
    refine x0_s20 (pc := 25) hX dX0_snapshotTest_25 (show (1 : Int32) = nI 1 from rfl) (by decide) ?_
    refine g_aload_n (pc := 26) (i := 0) hX dX0_snapshotTest_26 rfl rfl ?_
    refine x0_g20 (pc := 27) hX dX0_snapshotTest_27 ?_
    refine g_iconst (pc := 30) (v := 2) hX dX0_snapshotTest_30 ci_2 ?_
    refine g_iconst (pc := 31) (v := 0) hX dX0_snapshotTest_31 ci_0 ?_
    refine x0_s20 (pc := 32) hX dX0_snapshotTest_32 (show (2 : Int32) = nI 2 from rfl) (by decide) ?_
    refine g_aload_n (pc := 33) (i := 0) hX dX0_snapshotTest_33 rfl rfl ?_
    refine x0_g20 (pc := 34) hX dX0_snapshotTest_34 ?_
    refine g_iconst (pc := 37) (v := 3) hX dX0_snapshotTest_37 ci_3 ?_
    refine g_iconst (pc := 38) (v := 0) hX dX0_snapshotTest_38 ci_0 ?_
    refine x0_s20 (pc := 39) hX dX0_snapshotTest_39 (show (3 : Int32) = nI 3 from rfl) (by decide) ?_
    refine g_iconst (pc := 40) (v := 0) hX dX0_snapshotTest_40 ci_0 ?_
    refine g_ist3n (pc := 41) hX dX0_snapshotTest_41 (by decide) ?_
    refine g_iconst (pc := 42) (v := 0) hX dX0_snapshotTest_42 ci_0 ?_
    refine g_ist4n (pc := 43) hX dX0_snapshotTest_43 (by decide) ?_
    refine G.eqw (ws' := x0W E ad (va_up u 20 (upd (upd (upd (upd (u 20) 0 x) 1 y) 2 0) 3 0))) ?_ ?_
    · rfl
    refine snap_loop hX u n t m hw0 x y (upd (upd (upd (upd (u 20) 0 x) 1 y) 2 0) 3 0, 0, 0) (fun R p q hres => ?_) 100 0 rfl _ 0 rfl
    obtain ⟨cnt, hres⟩ := hres
    have hsq := it_cong (z := u 0 0) (I := pI u) (oI_lt u none) (x := (upd (upd (upd (upd (u 20) 0 x) 1 y) 2 0) 3 0, 0, 0)) (y := (R0 x y, 0, 0)) ⟨R0_eq (u 20) x y, rfl⟩ 100
    rw [hres, rxy_n] at hsq
    have ep : p = (rxy u none x y).2.1 := congrArg Prod.fst hsq.2
    have er : R 0 = (rxy u none x y).1 0 := hsq.1 0 (by decide)
    have key : ∀ b : Int32, b = eI (u 0 0) p → G E X 6 0 0 (x0W E ad (va_up u 20 R)) 106 [.ref (ad 0), .int x, .int y, .int p, .int q] [.int b] := by
      intro b hb
      refine g_ist5n (pc := 106) hX dX0_snapshotTest_106 (by decide) ?_
      refine g_aload_n (pc := 108) (i := 0) hX dX0_snapshotTest_108 rfl rfl ?_
      refine g_iload_n (pc := 109) (i := 1) hX dX0_snapshotTest_109 rfl rfl ?_
      refine g_iload_n (pc := 110) (i := 2) hX dX0_snapshotTest_110 rfl rfl ?_
      refine g_iload (pc := 111) hX dX0_snapshotTest_111 rfl ?_
      refine g_aload_n (pc := 113) (i := 0) hX dX0_snapshotTest_113 rfl rfl ?_
      refine x0_g20 (pc := 114) hX dX0_snapshotTest_114 ?_
      refine g_iconst (pc := 117) (v := 0) hX dX0_snapshotTest_117 ci_0 ?_
      refine x0_l20 (pc := 118) hX dX0_snapshotTest_118 (show (0 : Int32) = nI 0 from rfl) (by decide) (show _ = R 0 from rfl) ?_
      refine g_calli0 (pc := 119) hX (m0_addTest E ad (va_up u 20 R) t x y b (R 0) hts ht (by rw [hb]; exact eI_01 _ _)) (x0_wf E ad) Y0_addTest q129 dX0_snapshotTest_119 rfl rfl (Nat.le_of_ble_eq_true rfl) (by decide) (fun r u' hp => ?_)
      refine hE _ _ _ _ ?_ dX0_snapshotTest_122
      show if t < 6 then _ else _
      rw [if_pos ht']
      refine ⟨R, ?_⟩
      rw [← ep, ← er, ← hb]
      exact hp
    refine g_iload_n (pc := 89) (i := 3) hX dX0_snapshotTest_89 rfl rfl ?_
    refine g_if_lt (pc := 90) (tgt := 101) hX dX0_snapshotTest_90 (by decide) (fun c1 => ?_) (fun c1 => ?_)
    · refine g_iconst (pc := 101) (v := 1) hX dX0_snapshotTest_101 ci_1 ?_
      refine g_goto (pc := 102) (tgt := 106) hX dX0_snapshotTest_102 (by decide) ?_
      exact key 1 (eI_join (Or.inl ⟨Or.inl c1, rfl⟩))
    · refine g_iload_n (pc := 93) (i := 3) hX dX0_snapshotTest_93 rfl rfl ?_
      refine g_aload_n (pc := 94) (i := 0) hX dX0_snapshotTest_94 rfl rfl ?_
      refine x0_g0 (pc := 95) hX dX0_snapshotTest_95 hsz ?_
      refine g_icmp_lt (pc := 98) (tgt := 105) hX dX0_snapshotTest_98 (by decide) (fun c2 => ?_) (fun c2 => ?_)
      · refine g_iconst (pc := 105) (v := 0) hX dX0_snapshotTest_105 ci_0 ?_
        exact key 0 (eI_join (Or.inr ⟨⟨c1, by rw [hsz]; exact c2⟩, rfl⟩))
      · refine g_iconst (pc := 101) (v := 1) hX dX0_snapshotTest_101 ci_1 ?_
        refine g_goto (pc := 102) (tgt := 106) hX dX0_snapshotTest_102 (by decide) ?_
        exact key 1 (eI_join (Or.inl ⟨Or.inr (by rw [hsz]; exact c2), rfl⟩))
  · have ht' : ¬ t < 6 := Nat.not_lt.mpr (ge_of_nI c3 (by omega) (by decide))
    refine g_bipush (pc := 9) (v := -2) hX dX0_snapshotTest_9 cb_m2 ?_
    refine hE _ _ _ _ ?_ dX0_snapshotTest_11
    show if t < 6 then _ else _
    rw [if_neg ht']
    exact ⟨rfl, rfl⟩
end
section
/-! MutantLab: a mutant goes on alone (split, splitAll) -/
def cpy4 (U : Nat → Int32) (i : Nat) : Nat → Int32 := fun q => if 4 ≤ q ∧ q < 4 + i then U (q - 4) else U q
theorem cpy4_0 (U : Nat → Int32) : cpy4 U 0 = U := by
  funext q
  unfold cpy4
  rw [if_neg (by omega)]
theorem cpy4_s (U : Nat → Int32) {i : Nat} (hi : i < 4) : upd (cpy4 U i) (4 + i) (cpy4 U i i) = cpy4 U (i + 1) := by
  funext q
  have e : cpy4 U i i = U i := by unfold cpy4; rw [if_neg (by omega)]
  rw [e]
  unfold upd cpy4
  by_cases h : q = 4 + i
  · rw [if_pos h, if_pos (by omega), h, Nat.add_sub_cancel_left]
  · rw [if_neg h]
    by_cases h2 : 4 ≤ q ∧ q < 4 + i
    · rw [if_pos h2, if_pos (by omega)]
    · rw [if_neg h2, if_neg (by omega)]
theorem cpy4_lo (U : Nat → Int32) {i : Nat} (hi : i < 4) : cpy4 U 4 i = U i := by unfold cpy4; rw [if_neg (by omega)]
theorem cpy4_hi (U : Nat → Int32) {i : Nat} (hi : i < 4) : cpy4 U 4 (4 + i) = U i := by unfold cpy4; rw [if_pos (by omega), Nat.add_sub_cancel_left]
theorem split_copy {E : gE} {X : gC} {ad : Nat → Nat} (hX : gK E X cX0_split 7 RX0 (rmX 2 47)) (u : GU) (a1 a2 a3 : Value)
    (hk : ∀ q : Value, G E X 7 0 0 (x0W E ad (va_up u 20 (cpy4 (u 20) 4))) 31 [.ref (ad 0), a1, a2, a3, q] []) :
    ∀ (f i : Nat), i + f = 4 → G E X 7 0 0 (x0W E ad (va_up u 20 (cpy4 (u 20) i))) 3 [.ref (ad 0), a1, a2, a3, .int (nI i)] [] := by
  intro f
  induction f with
  | zero =>
    intro i hi
    have e : i = 4 := by omega
    subst e
    refine g_iload (pc := 3) hX dX0_split_3 rfl ?_
    refine g_iconst (pc := 5) (v := 4) hX dX0_split_5 ci_4 ?_
    refine g_icmp_ge (pc := 6) (tgt := 31) hX dX0_split_6 (by decide) (fun c1 => ?_) (fun c1 => ?_)
    · exact hk _
    · exact absurd (nI_le (Nat.le_refl 4) (by decide)) c1
  | succ f ih =>
    intro i hi
    refine g_iload (pc := 3) hX dX0_split_3 rfl ?_
    refine g_iconst (pc := 5) (v := 4) hX dX0_split_5 ci_4 ?_
    refine g_icmp_ge (pc := 6) (tgt := 31) hX dX0_split_6 (by decide) (fun c1 => ?_) (fun c1 => ?_)
    · exact absurd c1 (nI_ge (a := i) (b := 4) (by omega) (by decide))
    · refine g_aload_n (pc := 9) (i := 0) hX dX0_split_9 rfl rfl ?_
      refine x0_g20 (pc := 10) hX dX0_split_10 ?_
      refine g_iconst (pc := 13) (v := 4) hX dX0_split_13 ci_4 ?_
      refine g_iload (pc := 14) hX dX0_split_14 rfl ?_
      refine g_iadd (pc := 16) hX dX0_split_16 ?_
      refine G.topi (show (4 : Int32) + nI i = nI (4 + i) from nI_add 4 i) ?_
      refine g_aload_n (pc := 17) (i := 0) hX dX0_split_17 rfl rfl ?_
      refine x0_g20 (pc := 18) hX dX0_split_18 ?_
      refine g_iload (pc := 21) hX dX0_split_21 rfl ?_
      refine x0_l20 (pc := 23) hX dX0_split_23 rfl (by omega) (show _ = cpy4 (u 20) i i from rfl) ?_
      refine x0_s20 (pc := 24) hX dX0_split_24 rfl (by omega) ?_
      first | refine g_inc4N (pc := 25) hX dX0_split_25 (by decide) ?_ | refine g_inc4 (pc := 25) hX dX0_split_25 (by decide) ?_
      refine g_goto (pc := 28) (tgt := 3) hX dX0_split_28 (by decide) ?_
      refine G.eqw (ws' := x0W E ad (va_up u 20 (cpy4 (u 20) (i + 1)))) ?_ ?_
      · show x0W E ad (va_up (va_up u 20 (cpy4 (u 20) i)) 20 (upd (va_up u 20 (cpy4 (u 20) i) 20) (4 + i) (cpy4 (u 20) i i))) = _
        rw [gu_same, bx_uu, cpy4_s _ (by omega)]
      exact ih (i + 1) (by omega)
/-- the state in which a split mutant goes on: place w, its op and c -/
def spB (u : GU) (w o c : Int32) (U : Nat → Int32) : GU := gput (gput (gput (va_up u 20 U) 21 w) 22 o) 23 c
theorem spB_reg (u : GU) (w o c : Int32) (U V : Nat → Int32) : va_up (spB u w o c U) 20 V = spB u w o c V := by
  funext k
  unfold spB gput
  by_cases h20 : k = 20
  · subst h20
    rw [gu_same]
    rfl
  · rw [gu_ne _ _ h20]
    by_cases h23 : k = 23
    · subst h23; rw [gu_same, gu_same]
    · rw [gu_ne _ _ h23, gu_ne _ _ h23]
      by_cases h22 : k = 22
      · subst h22; rw [gu_same, gu_same]
      · rw [gu_ne _ _ h22, gu_ne _ _ h22]
        by_cases h21 : k = 21
        · subst h21; rw [gu_same, gu_same]
        · rw [gu_ne _ _ h21, gu_ne _ _ h21, gu_ne _ _ h20, gu_ne _ _ h20]
theorem mI_at {u : GU} {m j w g : Nat} (hw : u 10 m = nI w) (hwn : w < 2 ^ 31) (hj : j < 2 ^ 31) (h : u 2 j = nI g) (hg : g < 16) : mI u m j = (if nI w = nI j then (if u 11 m = 0 then u 1 w else u 12 m) else u 1 j, if nI w = nI j then (if u 11 m = 0 then u 12 m else u 3 w) else u 3 j, g % 4, g / 4) := by
  unfold mI
  rw [rgN_of h hg, hw]
  by_cases e : nI w = nI j
  · have e2 : w = j := (nI_eq hwn hj).mp e
    subst e2
    rw [if_pos rfl, if_pos rfl]
  · rw [if_neg e, if_neg e, if_neg e, if_neg e]
def vw4 (U : Nat → Int32) : Nat → Int32 := fun i => U (4 + i)
theorem split_loop {E : gE} {X : gC} {ad : Nat → Nat} (hX : gK E X cX0_split 7 RX0 (rmX 2 47)) (u : GU) (n t m M T : Nat) (w k0 : Nat) (hw : wf u n T M) (hwm : u 10 m = nI w) (hwn : w < n) (U0 : Nat → Int32) (a1 a2 a3 : Value) (hk0 : k0 ≤ 100)
    (hk : ∀ (U : Nat → Int32) (p : Int32) (c : Nat), (∀ i, i < 4 → U i = U0 i) → it (u 0 0) (mI u m) (100 - k0) (vw4 U0, nI w, k0) = (vw4 U, p, c) → G E X 7 0 0 (x0W E ad (spB u (nI w) (if u 11 m = 0 then u 1 w else u 12 m) (if u 11 m = 0 then u 12 m else u 3 w) U)) 153 [.ref (ad 0), a1, a2, a3, .int p, .int (nI c)] []) :
    ∀ (f k : Nat), k0 + k + f = 100 → ∀ (U : Nat → Int32) (p : Int32), (∀ i, i < 4 → U i = U0 i) → it (u 0 0) (mI u m) k (vw4 U0, nI w, k0) = (vw4 U, p, k0 + k) → G E X 7 0 0 (x0W E ad (spB u (nI w) (if u 11 m = 0 then u 1 w else u 12 m) (if u 11 m = 0 then u 12 m else u 3 w) U)) 118 [.ref (ad 0), a1, a2, a3, .int p, .int (nI (k0 + k))] [] := by
  obtain ⟨hsz, hn, -, -, -, -, hrg, -⟩ := hw
  intro f
  induction f with
  | zero =>
    intro k hkf U p hU hit
    have e : k = 100 - k0 := by omega
    subst e
    refine g_iload (pc := 118) hX dX0_split_118 rfl ?_
    refine g_bipush (pc := 120) (v := nI 100) hX dX0_split_120 cb_100 ?_
    refine g_icmp_ge (pc := 122) (tgt := 153) hX dX0_split_122 (by decide) (fun c1 => ?_) (fun c1 => ?_)
    · exact hk U p _ hU hit
    · exact absurd (nI_le (by omega) (by omega)) c1
  | succ f ih =>
    intro k hkf U p hU hit
    have stop : ¬ ir (u 0 0) p → it (u 0 0) (mI u m) (100 - k0) (vw4 U0, nI w, k0) = (vw4 U, p, k0 + k) := fun h => by rw [it_stop (k := k) (by omega) (Or.inr (by rw [hit]; exact h))]; exact hit
    refine g_iload (pc := 118) hX dX0_split_118 rfl ?_
    refine g_bipush (pc := 120) (v := nI 100) hX dX0_split_120 cb_100 ?_
    refine g_icmp_ge (pc := 122) (tgt := 153) hX dX0_split_122 (by decide) (fun c1 => ?_) (fun c1 => ?_)
    · exact absurd c1 (nI_ge (by omega) (by decide))
    · refine g_iload (pc := 125) hX dX0_split_125 rfl ?_
      refine g_if_lt (pc := 127) (tgt := 153) hX dX0_split_127 (by decide) (fun c2 => ?_) (fun c2 => ?_)
      · exact hk U p _ hU (stop (fun h => h.1 c2))
      · refine g_iload (pc := 130) hX dX0_split_130 rfl ?_
        refine g_aload_n (pc := 132) (i := 0) hX dX0_split_132 rfl rfl ?_
        refine x0_g0 (pc := 133) hX dX0_split_133 hsz ?_
        refine g_icmp_ge (pc := 136) (tgt := 153) hX dX0_split_136 (by decide) (fun c3 => ?_) (fun c3 => ?_)
        · exact hk U p _ hU (stop (fun h => nlt_of_le c3 (by have := h.2; rwa [hsz] at this)))
        · have hir : ir (u 0 0) p := ⟨c2, by rw [hsz]; exact lt_of_nle c3⟩
          obtain ⟨j, hj, rfl⟩ := ir_of hsz (by omega) hir
          obtain ⟨g, hg, hrj⟩ := hrg j (by omega)
          refine g_aload_n (pc := 139) (i := 0) hX dX0_split_139 rfl rfl ?_
          refine g_iload (pc := 140) hX dX0_split_140 rfl ?_
          refine g_calli0 (pc := 142) hX (m0_stepMutant E ad (spB u (nI w) (if u 11 m = 0 then u 1 w else u 12 m) (if u 11 m = 0 then u 12 m else u 3 w) U) j g (by omega) hg hrj) (x0_wf E ad) Y0_stepMutant q177 dX0_split_142 rfl rfl (Nat.le_of_ble_eq_true rfl) (by decide) (fun r u' hq => ?_)
          have hq : r = cP (spB u (nI w) (if u 11 m = 0 then u 1 w else u 12 m) (if u 11 m = 0 then u 12 m else u 3 w) U) 4 g (if nI w = nI j then (if u 11 m = 0 then u 1 w else u 12 m) else u 1 j) (if nI w = nI j then (if u 11 m = 0 then u 12 m else u 3 w) else u 3 j) (nI j) ∧ u' = cR (spB u (nI w) (if u 11 m = 0 then u 1 w else u 12 m) (if u 11 m = 0 then u 12 m else u 3 w) U) 4 g (if nI w = nI j then (if u 11 m = 0 then u 1 w else u 12 m) else u 1 j) (if nI w = nI j then (if u 11 m = 0 then u 12 m else u 3 w) else u 3 j) := hq
          have hstep : it (u 0 0) (mI u m) (k + 1) (vw4 U0, nI w, k0) = (sR (mI u m j).1 (mI u m j).2.1 (g % 4) (g / 4) (vw4 U), sP (mI u m j).1 (mI u m j).2.1 (g % 4) (g / 4) (vw4 U) (nI j), k0 + (k + 1)) := by
            show sx (u 0 0) (mI u m) (it (u 0 0) (mI u m) k (vw4 U0, nI w, k0)) = _
            rw [hit, sx_in (by omega) (ir_nI hsz (by omega) hj)]
            rw [mI_at hwm (by omega) (by omega) hrj hg]
            rfl
          rw [mI_at hwm (by omega) (by omega) hrj hg] at hstep
          generalize (if nI w = nI j then (if u 11 m = 0 then u 1 w else u 12 m) else u 1 j) = oo at hq hstep
          generalize (if nI w = nI j then (if u 11 m = 0 then u 12 m else u 3 w) else u 3 j) = cc at hq hstep
          obtain ⟨rfl, rfl⟩ := hq
          refine g_ist4s (pc := 145) hX dX0_split_145 (by decide) ?_
          first | refine g_inc5N (pc := 147) hX dX0_split_147 (by decide) ?_ | refine g_inc5 (pc := 147) hX dX0_split_147 (by decide) ?_
          refine g_goto (pc := 150) (tgt := 118) hX dX0_split_150 (by decide) ?_
          refine G.eqw (ws' := x0W E ad (spB u (nI w) (if u 11 m = 0 then u 1 w else u 12 m) (if u 11 m = 0 then u 12 m else u 3 w) (sR oo cc (4 + g % 4) (4 + g / 4) U))) ?_ ?_
          · show x0W E ad (va_up (spB u (nI w) _ _ U) 20 (sR oo cc (4 + g % 4) (4 + g / 4) (spB u (nI w) _ _ U 20))) = _
            rw [spB_reg]
            rfl
          refine ih (k + 1) (by omega) _ _ (fun i hi => by rw [sR_low _ _ _ _ _ _ hi]; exact hU i hi) ?_
          rw [hstep]
          refine Prod.ext ?_ (Prod.ext ?_ rfl)
          · exact (sR_view oo cc (g % 4) (g / 4) 4 U).symm
          · have hv : ∀ a b : Nat, sP oo cc (4 + a) (4 + b) U (nI j) = sP oo cc a b (vw4 U) (nI j) := fun a b => rfl
            exact (hv _ _).symm
/-- what split leaves: three entries, the program's registers, the rest as it was -/
def spQ (u : GU) (t m : Nat) (S : Sx) (u' : GU) : Prop :=
  (∀ k, k < 17 → u' k = u k) ∧ (∀ k, 23 < k → u' k = u k) ∧ (∀ i, i < 4 → u' 20 i = u 20 i) ∧ u' 17 = upd (u 17) (t * 24 + m) (eI (u 0 0) S.2.1) ∧ u' 18 = upd (u 18) (t * 24 + m) (if eI (u 0 0) S.2.1 = 1 then S.1 0 else 0) ∧ u' 19 = upd (u 19) (t * 24 + m) (nI S.2.2)
theorem at_nI (t m : Nat) : nI t * nI 24 + nI m = nI (t * 24 + m) := by rw [pk_mul, nI_add]
theorem m0_split (E : gE) (ad : Nat → Nat) (u : GU) (n T M t m w k0 : Nat) (hw : wf u n T M) (ht : t < 6) (hm : m < 24) (hwm : u 10 m = nI w) (hwn : w < n) (hk0 : k0 ≤ 100) : gV E yX0_split cX0_split 7 (rmX 2 47) (x0W E ad) [.ref (ad 0), .int (nI t), .int (nI m), .int (nI k0)] u (fun u' => spQ u t m (it (u 0 0) (mI u m) (100 - k0) (u 20, nI w, k0)) u') := by
  refine gV_of (by decide) (Nat.le_of_ble_eq_true rfl) rfl (fun X hX hE => ?_)
  have hw0 := hw
  obtain ⟨hsz, hn, -, -, -, -, hrg, -, -, hco⟩ := hw
  refine g_iconst (pc := 0) (v := 0) hX dX0_split_0 ci_0 ?_
  refine g_ist4n (pc := 1) hX dX0_split_1 (by decide) ?_
  refine G.eqw (ws' := x0W E ad (va_up u 20 (cpy4 (u 20) 0))) (by rw [cpy4_0, gu_self]) ?_
  refine split_copy hX u _ _ _ (fun q => ?_) 4 0 rfl
  have key : G E X 7 0 0 (x0W E ad (spB u (nI w) (if u 11 m = 0 then u 1 w else u 12 m) (if u 11 m = 0 then u 12 m else u 3 w) (cpy4 (u 20) 4))) 107 [.ref (ad 0), .int (nI t), .int (nI m), .int (nI k0), q] [] := by
    refine g_aload_n (pc := 107) (i := 0) hX dX0_split_107 rfl rfl ?_
    refine x0_g10 (pc := 108) hX dX0_split_108 ?_
    refine g_iload_n (pc := 111) (i := 2) hX dX0_split_111 rfl rfl ?_
    refine x0_l10 (pc := 112) hX dX0_split_112 rfl (by first | assumption | omega) (show _ = nI w from hwm) ?_
    refine g_ist4s (pc := 113) hX dX0_split_113 (by decide) ?_
    refine g_iload_n (pc := 115) (i := 3) hX dX0_split_115 rfl rfl ?_
    refine g_ist5n (pc := 116) hX dX0_split_116 (by decide) ?_
    refine split_loop hX u n t m M T w k0 hw0 hwm hwn (cpy4 (u 20) 4) _ _ _ hk0 (fun U p c hU hres => ?_) (100 - k0) 0 (by omega) _ _ (fun _ _ => rfl) rfl
    have hsq := it_cong (z := u 0 0) (I := mI u m) (oI_lt u (some m)) (x := (vw4 (cpy4 (u 20) 4), nI w, k0)) (y := (u 20, nI w, k0)) ⟨fun i hi => cpy4_hi _ hi, rfl⟩ (100 - k0)
    rw [hres] at hsq
    generalize it (u 0 0) (mI u m) (100 - k0) (u 20, nI w, k0) = S at hsq hE ⊢
    have ep : p = S.2.1 := congrArg Prod.fst hsq.2
    have ec : c = S.2.2 := congrArg Prod.snd hsq.2
    have er : U 4 = S.1 0 := hsq.1 0 (by decide)
    have hidx : t * 24 + m < 144 := by omega
    refine g_iload_n (pc := 153) (i := 1) hX dX0_split_153 rfl rfl ?_
    refine g_bipush (pc := 154) (v := nI 24) hX dX0_split_154 cb_24 ?_
    refine g_imul (pc := 156) hX dX0_split_156 ?_
    refine g_iload_n (pc := 157) (i := 2) hX dX0_split_157 rfl rfl ?_
    refine g_iadd (pc := 158) hX dX0_split_158 ?_
    refine G.topi (at_nI t m) ?_
    refine g_ist6n (pc := 159) hX dX0_split_159 (by decide) ?_
    refine g_aload_n (pc := 161) (i := 0) hX dX0_split_161 rfl rfl ?_
    refine x0_g17 (pc := 162) hX dX0_split_162 ?_
    refine g_iload (pc := 165) hX dX0_split_165 rfl ?_
    generalize hB : spB u (nI w) (if u 11 m = 0 then u 1 w else u 12 m) (if u 11 m = 0 then u 12 m else u 3 w) U = B
    have hB0 : B 0 0 = nI n := by rw [← hB]; exact hsz
    have hB20 : B 20 = U := by rw [← hB]; rfl
    have hBl : ∀ k, k < 20 → B k = u k := fun k hk => by
      rw [← hB]
      unfold spB gput
      rw [gu_ne _ _ (by omega), gu_ne _ _ (by omega), gu_ne _ _ (by omega), gu_ne _ _ (by omega)]
    have hBh : ∀ k, 23 < k → B k = u k := fun k hk => by
      rw [← hB]
      unfold spB gput
      rw [gu_ne _ _ (by omega), gu_ne _ _ (by omega), gu_ne _ _ (by omega), gu_ne _ _ (by omega)]
    have fin : ∀ v : Int32, v = (if eI (u 0 0) p = 1 then U 4 else 0) → G E X 7 0 0 (x0W E ad (va_up B 17 (upd (B 17) (t * 24 + m) (eI (u 0 0) p)))) 213 [.ref (ad 0), .int (nI t), .int (nI m), .int (nI k0), .int p, .int (nI c), .int (nI (t * 24 + m))] [.int v, .int (nI (t * 24 + m)), .ref (ad 18)] := by
      intro v hv
      refine x0_s18 (pc := 213) hX dX0_split_213 rfl (by first | assumption | omega) ?_
      refine g_aload_n (pc := 214) (i := 0) hX dX0_split_214 rfl rfl ?_
      refine x0_g19 (pc := 215) hX dX0_split_215 ?_
      refine g_iload (pc := 218) hX dX0_split_218 rfl ?_
      refine g_iload (pc := 220) hX dX0_split_220 rfl ?_
      refine x0_s19 (pc := 222) hX dX0_split_222 rfl (by first | assumption | omega) ?_
      refine hE _ _ _ ?_ dX0_split_223
      refine ⟨fun k hk => ?_, fun k hk => ?_, fun i hi => ?_, ?_, ?_, ?_⟩
      · rw [gu_ne _ _ (by omega), gu_ne _ _ (by omega), gu_ne _ _ (by omega)]
        exact hBl k (by omega)
      · rw [gu_ne _ _ (by omega), gu_ne _ _ (by omega), gu_ne _ _ (by omega)]
        exact hBh k hk
      · show B 20 i = _
        rw [hB20, hU i hi]
        exact cpy4_lo _ hi
      · show upd (B 17) (t * 24 + m) (eI (u 0 0) p) = _
        rw [hBl 17 (by decide), ep]
      · show upd (B 18) (t * 24 + m) v = _
        rw [hBl 18 (by decide), hv, ep, er]
      · show upd (B 19) (t * 24 + m) (nI c) = _
        rw [hBl 19 (by decide), ec]
    have join : ∀ b : Int32, b = eI (u 0 0) p → G E X 7 0 0 (x0W E ad B) 186 [.ref (ad 0), .int (nI t), .int (nI m), .int (nI k0), .int p, .int (nI c), .int (nI (t * 24 + m))] [.int b, .int (nI (t * 24 + m)), .ref (ad 17)] := by
      intro b hb
      subst hb
      refine x0_s17 (pc := 186) hX dX0_split_186 rfl (by first | assumption | omega) (nz01 (eI_01 _ _)) ?_
      refine g_aload_n (pc := 187) (i := 0) hX dX0_split_187 rfl rfl ?_
      refine x0_g18 (pc := 188) hX dX0_split_188 ?_
      refine g_iload (pc := 191) hX dX0_split_191 rfl ?_
      refine g_aload_n (pc := 193) (i := 0) hX dX0_split_193 rfl rfl ?_
      refine x0_g17 (pc := 194) hX dX0_split_194 ?_
      refine g_iload (pc := 197) hX dX0_split_197 rfl ?_
      refine x0_l17 (pc := 199) hX dX0_split_199 rfl (by first | assumption | omega) (show _ = eI (u 0 0) p from upd_same _ _ _) ?_
      refine g_if_eq (pc := 200) (tgt := 212) hX dX0_split_200 (by decide) (fun c4 => ?_) (fun c4 => ?_)
      · refine g_iconst (pc := 212) (v := 0) hX dX0_split_212 ci_0 ?_
        exact fin 0 (by rw [if_neg]; rw [c4]; decide)
      · have e1 : eI (u 0 0) p = 1 := (eI_01 (u 0 0) p).resolve_left c4
        refine g_aload_n (pc := 203) (i := 0) hX dX0_split_203 rfl rfl ?_
        refine x0_g20 (pc := 204) hX dX0_split_204 ?_
        refine g_iconst (pc := 207) (v := 4) hX dX0_split_207 ci_4 ?_
        refine x0_l20 (pc := 208) hX dX0_split_208 (show (4 : Int32) = nI 4 from rfl) (by decide) (show _ = U 4 from congrFun hB20 4) ?_
        refine g_goto (pc := 209) (tgt := 213) hX dX0_split_209 (by decide) ?_
        exact fin (U 4) (by rw [if_pos e1])
    refine g_iload (pc := 167) hX dX0_split_167 rfl ?_
    refine g_if_lt (pc := 169) (tgt := 181) hX dX0_split_169 (by decide) (fun c1 => ?_) (fun c1 => ?_)
    · refine g_iconst (pc := 181) (v := 1) hX dX0_split_181 ci_1 ?_
      refine g_goto (pc := 182) (tgt := 186) hX dX0_split_182 (by decide) ?_
      exact join 1 (eI_join (Or.inl ⟨Or.inl c1, rfl⟩))
    · refine g_iload (pc := 172) hX dX0_split_172 rfl ?_
      refine g_aload_n (pc := 174) (i := 0) hX dX0_split_174 rfl rfl ?_
      refine x0_g0 (pc := 175) hX dX0_split_175 hB0 ?_
      refine g_icmp_lt (pc := 178) (tgt := 185) hX dX0_split_178 (by decide) (fun c2 => ?_) (fun c2 => ?_)
      · refine g_iconst (pc := 185) (v := 0) hX dX0_split_185 ci_0 ?_
        exact join 0 (eI_join (Or.inr ⟨⟨c1, by rw [hsz]; exact c2⟩, rfl⟩))
      · refine g_iconst (pc := 181) (v := 1) hX dX0_split_181 ci_1 ?_
        refine g_goto (pc := 182) (tgt := 186) hX dX0_split_182 (by decide) ?_
        exact join 1 (eI_join (Or.inl ⟨Or.inr (by rw [hsz]; exact c2), rfl⟩))
  by_cases hc : u 11 m = 0
  · rw [if_pos hc, if_pos hc] at key
    refine g_aload_n (pc := 31) (i := 0) hX dX0_split_31 rfl rfl ?_
    refine g_aload_n (pc := 32) (i := 0) hX dX0_split_32 rfl rfl ?_
    refine x0_g10 (pc := 33) hX dX0_split_33 ?_
    refine g_iload_n (pc := 36) (i := 2) hX dX0_split_36 rfl rfl ?_
    refine x0_l10 (pc := 37) hX dX0_split_37 rfl (by first | assumption | omega) (show _ = nI w from hwm) ?_
    refine x0_p21 (pc := 38) hX dX0_split_38 ?_
    refine g_aload_n (pc := 41) (i := 0) hX dX0_split_41 rfl rfl ?_
    refine g_aload_n (pc := 42) (i := 0) hX dX0_split_42 rfl rfl ?_
    refine x0_g11 (pc := 43) hX dX0_split_43 ?_
    refine g_iload_n (pc := 46) (i := 2) hX dX0_split_46 rfl rfl ?_
    refine x0_l11 (pc := 47) hX dX0_split_47 rfl (by first | assumption | omega) (show _ = u 11 m from rfl) ?_
    refine g_if_eq (pc := 48) (tgt := 60) hX dX0_split_48 (by decide) (fun c1 => ?_) (fun c1 => ?_)
    · refine g_aload_n (pc := 60) (i := 0) hX dX0_split_60 rfl rfl ?_
      refine x0_g1 (pc := 61) hX dX0_split_61 ?_
      refine g_aload_n (pc := 64) (i := 0) hX dX0_split_64 rfl rfl ?_
      refine x0_g10 (pc := 65) hX dX0_split_65 ?_
      refine g_iload_n (pc := 68) (i := 2) hX dX0_split_68 rfl rfl ?_
      refine x0_l10 (pc := 69) hX dX0_split_69 rfl (by first | assumption | omega) (show _ = nI w from hwm) ?_
      refine x0_l1 (pc := 70) hX dX0_split_70 rfl (by omega) (show _ = u 1 w from rfl) ?_
      refine x0_p22 (pc := 71) hX dX0_split_71 ?_
      refine g_aload_n (pc := 74) (i := 0) hX dX0_split_74 rfl rfl ?_
      refine g_aload_n (pc := 75) (i := 0) hX dX0_split_75 rfl rfl ?_
      refine x0_g11 (pc := 76) hX dX0_split_76 ?_
      refine g_iload_n (pc := 79) (i := 2) hX dX0_split_79 rfl rfl ?_
      refine x0_l11 (pc := 80) hX dX0_split_80 rfl (by first | assumption | omega) (show _ = u 11 m from rfl) ?_
      refine g_if_eq (pc := 81) (tgt := 98) hX dX0_split_81 (by decide) (fun c2 => ?_) (fun c2 => ?_)
      · refine g_aload_n (pc := 98) (i := 0) hX dX0_split_98 rfl rfl ?_
        refine x0_g12 (pc := 99) hX dX0_split_99 ?_
        refine g_iload_n (pc := 102) (i := 2) hX dX0_split_102 rfl rfl ?_
        refine x0_l12 (pc := 103) hX dX0_split_103 rfl (by first | assumption | omega) (show _ = u 12 m from rfl) ?_
        refine x0_p23 (pc := 104) hX dX0_split_104 ?_
        exact key
      · exact absurd hc c2
    · exact absurd hc c1
  · rw [if_neg hc, if_neg hc] at key
    refine g_aload_n (pc := 31) (i := 0) hX dX0_split_31 rfl rfl ?_
    refine g_aload_n (pc := 32) (i := 0) hX dX0_split_32 rfl rfl ?_
    refine x0_g10 (pc := 33) hX dX0_split_33 ?_
    refine g_iload_n (pc := 36) (i := 2) hX dX0_split_36 rfl rfl ?_
    refine x0_l10 (pc := 37) hX dX0_split_37 rfl (by first | assumption | omega) (show _ = nI w from hwm) ?_
    refine x0_p21 (pc := 38) hX dX0_split_38 ?_
    refine g_aload_n (pc := 41) (i := 0) hX dX0_split_41 rfl rfl ?_
    refine g_aload_n (pc := 42) (i := 0) hX dX0_split_42 rfl rfl ?_
    refine x0_g11 (pc := 43) hX dX0_split_43 ?_
    refine g_iload_n (pc := 46) (i := 2) hX dX0_split_46 rfl rfl ?_
    refine x0_l11 (pc := 47) hX dX0_split_47 rfl (by first | assumption | omega) (show _ = u 11 m from rfl) ?_
    refine g_if_eq (pc := 48) (tgt := 60) hX dX0_split_48 (by decide) (fun c1 => ?_) (fun c1 => ?_)
    · exact absurd c1 hc
    · refine g_aload_n (pc := 51) (i := 0) hX dX0_split_51 rfl rfl ?_
      refine x0_g12 (pc := 52) hX dX0_split_52 ?_
      refine g_iload_n (pc := 55) (i := 2) hX dX0_split_55 rfl rfl ?_
      refine x0_l12 (pc := 56) hX dX0_split_56 rfl (by first | assumption | omega) (show _ = u 12 m from rfl) ?_
      refine g_goto (pc := 57) (tgt := 71) hX dX0_split_57 (by decide) ?_
      refine x0_p22 (pc := 71) hX dX0_split_71 ?_
      refine g_aload_n (pc := 74) (i := 0) hX dX0_split_74 rfl rfl ?_
      refine g_aload_n (pc := 75) (i := 0) hX dX0_split_75 rfl rfl ?_
      refine x0_g11 (pc := 76) hX dX0_split_76 ?_
      refine g_iload_n (pc := 79) (i := 2) hX dX0_split_79 rfl rfl ?_
      refine x0_l11 (pc := 80) hX dX0_split_80 rfl (by first | assumption | omega) (show _ = u 11 m from rfl) ?_
      refine g_if_eq (pc := 81) (tgt := 98) hX dX0_split_81 (by decide) (fun c2 => ?_) (fun c2 => ?_)
      · exact absurd c2 hc
      · refine g_aload_n (pc := 84) (i := 0) hX dX0_split_84 rfl rfl ?_
        refine x0_g3 (pc := 85) hX dX0_split_85 ?_
        refine g_aload_n (pc := 88) (i := 0) hX dX0_split_88 rfl rfl ?_
        refine x0_g10 (pc := 89) hX dX0_split_89 ?_
        refine g_iload_n (pc := 92) (i := 2) hX dX0_split_92 rfl rfl ?_
        refine x0_l10 (pc := 93) hX dX0_split_93 rfl (by first | assumption | omega) (show _ = nI w from hwm) ?_
        refine x0_l3 (pc := 94) hX dX0_split_94 rfl (by omega) (show _ = u 3 w from rfl) ?_
        refine g_goto (pc := 95) (tgt := 104) hX dX0_split_95 (by decide) ?_
        refine x0_p23 (pc := 104) hX dX0_split_104 ?_
        exact key
end
section
/-! MutantLab: splitAll, share -/
/-- three entries hold the outcome S -/
def en (u : GU) (j : Nat) (z : Int32) (S : Sx) : Prop := u 17 j = eI z S.2.1 ∧ u 18 j = (if eI z S.2.1 = 1 then S.1 0 else 0) ∧ u 19 j = nI S.2.2
theorem en_cong {u : GU} {j : Nat} {z : Int32} {S S' : Sx} (h : sEq S S') (q : en u j z S) : en u j z S' := by
  have e1 : S'.2 = S.2 := h.2.symm
  have e2 : S'.1 0 = S.1 0 := (h.1 0 (by decide)).symm
  unfold en
  rw [e1, e2]
  exact q
theorem en_kept {u u' : GU} {j : Nat} {z : Int32} {S : Sx} (h17 : u' 17 j = u 17 j) (h18 : u' 18 j = u 18 j) (h19 : u' 19 j = u 19 j) (q : en u j z S) : en u' j z S := by
  unfold en
  rw [h17, h18, h19]
  exact q
def saQ (u : GU) (t p k M : Nat) (u' : GU) : Prop :=
  (∀ q, q < 17 → u' q = u q) ∧ (∀ q, 23 < q → u' q = u q) ∧ (∀ i, i < 4 → u' 20 i = u 20 i) ∧ (∀ j, (∀ m, m < M → u 10 m = nI p → j ≠ t * 24 + m) → u' 17 j = u 17 j ∧ u' 18 j = u 18 j ∧ u' 19 j = u 19 j) ∧
  ∀ m, m < M → u 10 m = nI p → en u' (t * 24 + m) (u 0 0) (it (u 0 0) (mI u m) (100 - k) (u 20, nI p, k))
theorem saQ_0 (u : GU) (t p k : Nat) : saQ u t p k 0 u := ⟨fun _ _ => rfl, fun _ _ => rfl, fun _ _ => rfl, fun _ _ => ⟨rfl, rfl, rfl⟩, fun m h => absurd h (Nat.not_lt_zero m)⟩
theorem saQ_no {u u1 : GU} {t p k m : Nat} (h : saQ u t p k m u1) (hm : ¬ u 10 m = nI p) : saQ u t p k (m + 1) u1 := by
  obtain ⟨h1, h2, h3, h4, h5⟩ := h
  refine ⟨h1, h2, h3, fun j hj => h4 j (fun m' hm' => hj m' (by omega)), fun m' hm' hp => ?_⟩
  by_cases e : m' = m
  · subst e; exact absurd hp hm
  · exact h5 m' (by omega) hp
theorem mI_cs {u u' : GU} (h : ∀ q, q < 13 → u' q = u q) (m : Nat) : mI u' m = mI u m := cs_oI (u := u) (u' := u') h (some m)
theorem saQ_yes {u u1 u2 : GU} {t p k m : Nat} (h : saQ u t p k m u1) (hm : u 10 m = nI p) (hs : spQ u1 t m (it (u1 0 0) (mI u1 m) (100 - k) (u1 20, nI p, k)) u2) : saQ u t p k (m + 1) u2 := by
  obtain ⟨h1, h2, h3, h4, h5⟩ := h
  obtain ⟨s1, s2, s3, s4, s5, s6⟩ := hs
  rw [mI_cs (fun q hq => h1 q (by omega)) m, h1 0 (by decide)] at s4 s5 s6
  have hsq := it_cong (z := u 0 0) (I := mI u m) (oI_lt u (some m)) (x := (u1 20, nI p, k)) (y := (u 20, nI p, k)) ⟨h3, rfl⟩ (100 - k)
  refine ⟨fun q hq => (s1 q hq).trans (h1 q hq), fun q hq => (s2 q hq).trans (h2 q hq), fun i hi => (s3 i hi).trans (h3 i hi), fun j hj => ?_, fun m' hm' hp => ?_⟩
  · have hne : j ≠ t * 24 + m := hj m (by omega) hm
    obtain ⟨g1, g2, g3⟩ := h4 j (fun m' hm' => hj m' (by omega))
    rw [s4, s5, s6, upd_ne _ _ hne, upd_ne _ _ hne, upd_ne _ _ hne]
    exact ⟨g1, g2, g3⟩
  · by_cases e : m' = m
    · subst e
      refine en_cong hsq ?_
      unfold en
      rw [s4, s5, s6, upd_same, upd_same, upd_same]
      exact ⟨rfl, rfl, rfl⟩
    · refine en_kept ?_ ?_ ?_ (h5 m' (by omega) hp)
      · rw [s4, upd_ne _ _ (by omega)]
      · rw [s5, upd_ne _ _ (by omega)]
      · rw [s6, upd_ne _ _ (by omega)]
theorem sall_loop {E : gE} {X : gC} {ad : Nat → Nat} (hX : gK E X cX0_splitAll 5 RX0 (rmX 3 73)) (u : GU) (n T M t p k : Nat) (hw : wf u n T M) (ht : t < 6) (hp : p < n) (hk : k ≤ 100) (hE : gRv E X cX0_splitAll 5 (x0W E ad) (saQ u t p k M)) :
    ∀ (f m : Nat), m + f = M → ∀ u1 : GU, saQ u t p k m u1 → G E X 5 0 0 (x0W E ad u1) 3 [.ref (ad 0), .int (nI t), .int (nI p), .int (nI k), .int (nI m)] [] := by
  have hw0 := hw
  obtain ⟨hsz, hn, -, -, hms, hM, hrg, hwh, -⟩ := hw
  intro f
  induction f with
  | zero =>
    intro m hm u1 hq
    have e : m = M := by omega
    subst e
    have h9 : u1 9 0 = nI m := by rw [hq.1 9 (by decide)]; exact hms
    refine g_iload (pc := 3) hX dX0_splitAll_3 rfl ?_
    refine g_aload_n (pc := 5) (i := 0) hX dX0_splitAll_5 rfl rfl ?_
    refine x0_g9 (pc := 6) hX dX0_splitAll_6 h9 ?_
    refine g_icmp_ge (pc := 9) (tgt := 37) hX dX0_splitAll_9 (by decide) (fun c1 => ?_) (fun c1 => ?_)
    · exact hE _ _ _ (hq) dX0_splitAll_37
    · exact absurd (nI_le (Nat.le_refl m) (by omega)) c1
  | succ f ih =>
    intro m hm u1 hq
    have h9 : u1 9 0 = nI M := by rw [hq.1 9 (by decide)]; exact hms
    refine g_iload (pc := 3) hX dX0_splitAll_3 rfl ?_
    refine g_aload_n (pc := 5) (i := 0) hX dX0_splitAll_5 rfl rfl ?_
    refine x0_g9 (pc := 6) hX dX0_splitAll_6 h9 ?_
    refine g_icmp_ge (pc := 9) (tgt := 37) hX dX0_splitAll_9 (by decide) (fun c1 => ?_) (fun c1 => ?_)
    · exact absurd c1 (nI_ge (by omega) (by omega))
    · obtain ⟨w, hwn, hwm⟩ := hwh m (by omega)
      have h10 : u1 10 m = nI w := by rw [hq.1 10 (by decide)]; exact hwm
      refine g_aload_n (pc := 12) (i := 0) hX dX0_splitAll_12 rfl rfl ?_
      refine x0_g10 (pc := 13) hX dX0_splitAll_13 ?_
      refine g_iload (pc := 16) hX dX0_splitAll_16 rfl ?_
      refine x0_l10 (pc := 18) hX dX0_splitAll_18 rfl (by omega) h10 ?_
      refine g_iload_n (pc := 19) (i := 2) hX dX0_splitAll_19 rfl rfl ?_
      refine g_icmp_ne (pc := 20) (tgt := 31) hX dX0_splitAll_20 (by decide) (fun c2 => ?_) (fun c2 => ?_)
      · first | refine g_inc4N (pc := 31) hX dX0_splitAll_31 (by decide) ?_ | refine g_inc4 (pc := 31) hX dX0_splitAll_31 (by decide) ?_
        refine g_goto (pc := 34) (tgt := 3) hX dX0_splitAll_34 (by decide) ?_
        exact ih (m + 1) (by omega) u1 (saQ_no hq (by rw [hwm]; exact c2))
      · have e : w = p := (nI_eq (by omega) (by omega)).mp c2
        subst e
        have hw1 : wf u1 n T M := cs_wf (fun q hq' => hq.1 q (by omega)) hw0
        refine g_aload_n (pc := 23) (i := 0) hX dX0_splitAll_23 rfl rfl ?_
        refine g_iload_n (pc := 24) (i := 1) hX dX0_splitAll_24 rfl rfl ?_
        refine g_iload (pc := 25) hX dX0_splitAll_25 rfl ?_
        refine g_iload_n (pc := 27) (i := 3) hX dX0_splitAll_27 rfl rfl ?_
        refine g_callv0 (pc := 28) hX (m0_split E ad u1 n T M t m w k hw1 ht (by omega) h10 hwn hk) (x0_wf E ad) Y0_split q173 dX0_splitAll_28 rfl rfl (Nat.le_of_ble_eq_true rfl) (by decide) (fun u2 hs => ?_)
        first | refine g_inc4N (pc := 31) hX dX0_splitAll_31 (by decide) ?_ | refine g_inc4 (pc := 31) hX dX0_splitAll_31 (by decide) ?_
        refine g_goto (pc := 34) (tgt := 3) hX dX0_splitAll_34 (by decide) ?_
        exact ih (m + 1) (by omega) u2 (saQ_yes hq hwm hs)
theorem m0_splitAll (E : gE) (ad : Nat → Nat) (u : GU) (n T M t p k : Nat) (hw : wf u n T M) (ht : t < 6) (hp : p < n) (hk : k ≤ 100) : gV E yX0_splitAll cX0_splitAll 5 (rmX 3 73) (x0W E ad) [.ref (ad 0), .int (nI t), .int (nI p), .int (nI k)] u (saQ u t p k M) := by
  refine gV_of (by decide) (Nat.le_of_ble_eq_true rfl) rfl (fun X hX hE => ?_)
  refine g_iconst (pc := 0) (v := 0) hX dX0_splitAll_0 ci_0 ?_
  refine g_ist4n (pc := 1) hX dX0_splitAll_1 (by decide) ?_
  exact sall_loop hX u n T M t p k hw ht hp hk hE M 0 (by omega) u (saQ_0 u t p k)
def e0_share (u : GU) (t m : Nat) : GU := va_up (va_up (va_up u 17 (upd (u 17) (t * 24 + m) (u 14 t))) 18 (upd (u 18) (t * 24 + m) (u 15 t))) 19 (upd (u 19) (t * 24 + m) (u 16 t))
theorem m0_share (E : gE) (ad : Nat → Nat) (u : GU) (t m : Nat) (ht : t < 6) (hm : m < 24) (hz : u 14 t = 0 ∨ u 14 t = 1) : gV E yX0_share cX0_share 4 (rmX 0 0) (x0W E ad) [.ref (ad 0), .int (nI t), .int (nI m)] u (fun u' => e0_share u t m = u') := by
  refine gV_of (by decide) (Nat.le_of_ble_eq_true rfl) rfl (fun X hX hE => ?_)
  have hidx : t * 24 + m < 144 := by omega
  refine g_iload_n (pc := 0) (i := 1) hX dX0_share_0 rfl rfl ?_
  refine g_bipush (pc := 1) (v := nI 24) hX dX0_share_1 cb_24 ?_
  refine g_imul (pc := 3) hX dX0_share_3 ?_
  refine g_iload_n (pc := 4) (i := 2) hX dX0_share_4 rfl rfl ?_
  refine g_iadd (pc := 5) hX dX0_share_5 ?_
  refine G.topi (at_nI t m) ?_
  refine g_ist3n (pc := 6) hX dX0_share_6 (by decide) ?_
  refine g_aload_n (pc := 7) (i := 0) hX dX0_share_7 rfl rfl ?_
  refine x0_g17 (pc := 8) hX dX0_share_8 ?_
  refine g_iload_n (pc := 11) (i := 3) hX dX0_share_11 rfl rfl ?_
  refine g_aload_n (pc := 12) (i := 0) hX dX0_share_12 rfl rfl ?_
  refine x0_g14 (pc := 13) hX dX0_share_13 ?_
  refine g_iload_n (pc := 16) (i := 1) hX dX0_share_16 rfl rfl ?_
  refine x0_l14 (pc := 17) hX dX0_share_17 rfl (by first | assumption | omega) rfl ?_
  refine x0_s17 (pc := 18) hX dX0_share_18 rfl (by first | assumption | omega) (nz01 hz) ?_
  refine g_aload_n (pc := 19) (i := 0) hX dX0_share_19 rfl rfl ?_
  refine x0_g18 (pc := 20) hX dX0_share_20 ?_
  refine g_iload_n (pc := 23) (i := 3) hX dX0_share_23 rfl rfl ?_
  refine g_aload_n (pc := 24) (i := 0) hX dX0_share_24 rfl rfl ?_
  refine x0_g15 (pc := 25) hX dX0_share_25 ?_
  refine g_iload_n (pc := 28) (i := 1) hX dX0_share_28 rfl rfl ?_
  refine x0_l15 (pc := 29) hX dX0_share_29 rfl (by first | assumption | omega) rfl ?_
  refine x0_s18 (pc := 30) hX dX0_share_30 rfl (by first | assumption | omega) ?_
  refine g_aload_n (pc := 31) (i := 0) hX dX0_share_31 rfl rfl ?_
  refine x0_g19 (pc := 32) hX dX0_share_32 ?_
  refine g_iload_n (pc := 35) (i := 3) hX dX0_share_35 rfl rfl ?_
  refine g_aload_n (pc := 36) (i := 0) hX dX0_share_36 rfl rfl ?_
  refine x0_g16 (pc := 37) hX dX0_share_37 ?_
  refine g_iload_n (pc := 40) (i := 1) hX dX0_share_40 rfl rfl ?_
  refine x0_l16 (pc := 41) hX dX0_share_41 rfl (by first | assumption | omega) rfl ?_
  refine x0_s19 (pc := 42) hX dX0_share_42 rfl (by first | assumption | omega) ?_
  exact hE _ _ _ (rfl) dX0_share_43
end
section
/-! MutantLab: runTest -/
theorem mI_ne {u : GU} {m j w : Nat} (hw : u 10 m = nI w) (hwn : w < 2 ^ 31) (hj : j < 2 ^ 31) (hne : j ≠ w) : mI u m j = pI u j := by
  have e : ¬ nI w = nI j := fun q => hne ((nI_eq hwn hj).mp q).symm
  unfold mI pI
  rw [hw, if_neg e, if_neg e]
/-- a mutant's run is the program's as long as its place isn't come to -/
theorem run_till {u : GU} {n m w k : Nat} {S0 : Sx} (hsz : u 0 0 = nI n) (hn : n ≤ 12) (hw : u 10 m = nI w) (hwn : w < n) (h : ∀ i, i < k → ¬ (it (u 0 0) (pI u) i S0).2.1 = nI w) : it (u 0 0) (mI u m) k S0 = it (u 0 0) (pI u) k S0 := by
  refine it_prog k (fun i hi hir => ?_)
  obtain ⟨j, hj, e⟩ := ir_of hsz (by omega) hir
  rw [e, nI_clamp (by omega)]
  have hne : j ≠ w := fun q => h i hi (by rw [e, q])
  exact (mI_ne hw (by omega) (by omega) hne).symm
/-- the invariant of the program's run on a test -/
def rtI (u : GU) (n t M : Nat) (S0 : Sx) (u1 : GU) (b : Nat) (p : Int32) (k : Nat) : Prop :=
  (∀ q, q < 17 → u1 q = u q) ∧ (∀ q, 23 < q → u1 q = u q) ∧ sEq (u1 20, p, k) (it (u 0 0) (pI u) k S0) ∧ b < 2 ^ 12 ∧
  (∀ w, w < n → (b.testBit w = true ↔ ∃ i, i < k ∧ (it (u 0 0) (pI u) i S0).2.1 = nI w)) ∧
  (∀ m w, m < M → w < n → u 10 m = nI w → b.testBit w = true → en u1 (t * 24 + m) (u 0 0) (it (u 0 0) (mI u m) 100 S0)) ∧
  (∀ j, (j < t * 24 ∨ t * 24 + 24 ≤ j) → u1 17 j = u 17 j ∧ u1 18 j = u 18 j ∧ u1 19 j = u 19 j)
/-- .. and at its end -/
def rtF (u : GU) (n t M : Nat) (S0 : Sx) (u1 : GU) (b : Nat) (p : Int32) (k : Nat) : Prop :=
  rtI u n t M S0 u1 b p k ∧ k ≤ 100 ∧ sEq (u1 20, p, k) (it (u 0 0) (pI u) 100 S0) ∧ ∀ w, w < n → b.testBit w = false → ∀ i, i < 100 → ¬ (it (u 0 0) (pI u) i S0).2.1 = nI w
theorem rt_end {u : GU} {n t M : Nat} {S0 : Sx} {u1 : GU} {b : Nat} {p : Int32} {k : Nat} (hsz : u 0 0 = nI n) (hn : n ≤ 12) (h : rtI u n t M S0 u1 b p k) (hk : k ≤ 100) (he : k = 100 ∨ ¬ ir (u 0 0) p) : rtF u n t M S0 u1 b p k := by
  have ep : (it (u 0 0) (pI u) k S0).2.1 = p := (congrArg Prod.fst h.2.2.1.2).symm
  have he' : k = 100 ∨ ¬ ir (u 0 0) (it (u 0 0) (pI u) k S0).2.1 := by rw [ep]; exact he
  refine ⟨h, hk, ?_, fun w hw hb i hi q => ?_⟩
  · rw [it_stop hk he']
    exact h.2.2.1
  · rcases Nat.lt_or_ge i k with hlt | hge
    · have := (h.2.2.2.2.1 w hw).mpr ⟨i, hlt, q⟩
      rw [hb] at this
      cases this
    · rcases he' with he' | he'
      · omega
      · have e1 := it_out he' (i - k)
        rw [show k + (i - k) = i by omega] at e1
        rw [e1] at q
        exact he' (by rw [q]; exact ir_nI hsz (by omega) hw)
/-- at a place that is come to for the first time, behind splitAll -/
theorem rt_new {u : GU} {n t M T : Nat} {S0 : Sx} {u1 u2 : GU} {b j k : Nat} (hw : wf u n T M) (h : rtI u n t M S0 u1 b (nI j) k) (hj : j < n) (hk : k ≤ 100) (hb : b.testBit j = false) (hs : saQ u1 t j k M u2) :
    rtI u n t M S0 u2 b (nI j) k ∧ ∀ m, m < M → u 10 m = nI j → en u2 (t * 24 + m) (u 0 0) (it (u 0 0) (mI u m) 100 S0) := by
  obtain ⟨hsz, hn, -, -, -, hM, -, hwh, -⟩ := hw
  obtain ⟨i1, i2, i3, i4, i5, i6, i7⟩ := h
  obtain ⟨s1, s2, s3, s4, s5⟩ := hs
  have h10 : u1 10 = u 10 := i1 10 (by decide)
  rw [h10] at s4 s5
  refine ⟨⟨fun q hq => (s1 q hq).trans (i1 q hq), fun q hq => (s2 q hq).trans (i2 q hq), ⟨fun i hi => (s3 i hi).trans (i3.1 i hi), i3.2⟩, i4, i5, fun m w hm hw' hwm hbw => ?_, fun q hq => ?_⟩, fun m hm hwm => ?_⟩
  · have hwj : w ≠ j := fun e => by rw [e, hb] at hbw; cases hbw
    have g := s4 (t * 24 + m) (fun m' _ hm'' e => hwj (by
      have : m' = m := by omega
      subst this
      rw [hwm] at hm''
      exact (nI_eq (by omega) (by omega)).mp hm''))
    exact en_kept g.1 g.2.1 g.2.2 (i6 m w hm hw' hwm hbw)
  · have g := s4 q (fun m' hm' _ e => by omega)
    exact ⟨g.1.trans (i7 q hq).1, g.2.1.trans (i7 q hq).2.1, g.2.2.trans (i7 q hq).2.2⟩
  · have g := s5 m hm hwm
    rw [i1 0 (by decide), mI_cs (fun q hq => i1 q (by omega)) m] at g
    refine en_cong ?_ g
    have e1 : it (u 0 0) (mI u m) k S0 = it (u 0 0) (pI u) k S0 := run_till hsz hn hwm hj (fun i hi q => by
      have := (i5 j hj).mpr ⟨i, hi, q⟩
      rw [hb] at this
      cases this)
    have e2 : it (u 0 0) (mI u m) 100 S0 = it (u 0 0) (mI u m) (100 - k) (it (u 0 0) (mI u m) k S0) := by
      rw [← it_add, show k + (100 - k) = 100 by omega]
    rw [e2, e1]
    exact it_cong (oI_lt u (some m)) i3 (100 - k)
/-- one instruction further -/
theorem rt_step {u : GU} {n t M T : Nat} {S0 : Sx} {u2 : GU} {b j g k : Nat} (hw : wf u n T M) (h : rtI u n t M S0 u2 b (nI j) k) (hj : j < n) (hrg : u 2 j = nI g) (hg : g < 16) (hen : ∀ m, m < M → u 10 m = nI j → en u2 (t * 24 + m) (u 0 0) (it (u 0 0) (mI u m) 100 S0)) :
    rtI u n t M S0 (cR u2 0 g (u 1 j) (u 3 j)) (b ||| 2 ^ j) (cP u2 0 g (u 1 j) (u 3 j) (nI j)) (k + 1) := by
  obtain ⟨hsz, hn, -, -, -, hM, -, hwh, -⟩ := hw
  obtain ⟨i1, i2, i3, i4, i5, i6, i7⟩ := h
  have ep : (it (u 0 0) (pI u) k S0).2.1 = nI j := (congrArg Prod.fst i3.2).symm
  refine ⟨fun q hq => ?_, fun q hq => ?_, ?_, or_lt i4 (by omega), fun w hw' => ?_, fun m w hm hw' hwm hbw => ?_, fun q hq => ?_⟩
  · unfold cR; rw [gu_ne _ _ (by omega)]; exact i1 q hq
  · unfold cR; rw [gu_ne _ _ (by omega)]; exact i2 q hq
  · have hc := sx_cong (z := u 0 0) (I := pI u) (oI_lt u none) i3
    rw [sx_in (by omega) (ir_nI hsz (by omega) hj), pI_at hrg hg] at hc
    unfold cR cP
    rw [gu_same, Nat.zero_add, Nat.zero_add]
    exact hc
  · rw [or_bit, Bool.or_eq_true, i5 w hw', decide_eq_true_iff]
    constructor
    · rintro (⟨i, hi, q⟩ | q)
      · exact ⟨i, by omega, q⟩
      · exact ⟨k, by omega, by rw [ep, q]⟩
    · rintro ⟨i, hi, q⟩
      rcases Nat.lt_or_ge i k with hlt | hge
      · exact Or.inl ⟨i, hlt, q⟩
      · have : i = k := by omega
        subst this
        rw [ep] at q
        exact Or.inr ((nI_eq (by omega) (by omega)).mp q)
  · have hk17 : ∀ q, q ≠ 20 → cR u2 0 g (u 1 j) (u 3 j) q = u2 q := fun q hq => by unfold cR; rw [gu_ne _ _ hq]
    refine en_kept (by rw [hk17 17 (by decide)]) (by rw [hk17 18 (by decide)]) (by rw [hk17 19 (by decide)]) ?_
    rw [or_bit, Bool.or_eq_true, decide_eq_true_iff] at hbw
    rcases hbw with hbw | hbw
    · exact i6 m w hm hw' hwm hbw
    · subst hbw
      exact hen m hm hwm
  · have hk17 : ∀ q, q ≠ 20 → cR u2 0 g (u 1 j) (u 3 j) q = u2 q := fun q hq => by unfold cR; rw [gu_ne _ _ hq]
    rw [hk17 17 (by decide), hk17 18 (by decide), hk17 19 (by decide)]
    exact i7 q hq
theorem rt_loop {E : gE} {X : gC} {ad : Nat → Nat} (hX : gK E X cX0_runTest 6 RX0 (rmX 4 97)) (u : GU) (n T M t : Nat) (hw : wf u n T M) (ht : t < 6) (S0 : Sx)
    (hk : ∀ (u1 : GU) (b : Nat) (p : Int32) (k : Nat), rtF u n t M S0 u1 b p k → G E X 6 0 0 (x0W E ad u1) 111 [.ref (ad 0), .int (nI t), .int (nI b), .int p, .int (nI k)] []) :
    ∀ (f k : Nat), k + f = 100 → ∀ (u1 : GU) (b : Nat) (p : Int32), rtI u n t M S0 u1 b p k → G E X 6 0 0 (x0W E ad u1) 45 [.ref (ad 0), .int (nI t), .int (nI b), .int p, .int (nI k)] [] := by
  have hw0 := hw
  obtain ⟨hsz, hn, -, -, hms, hM, hrg, hwh, -⟩ := hw
  intro f
  induction f with
  | zero =>
    intro k hkf u1 b p hI
    have e : k = 100 := by omega
    subst e
    refine g_iload (pc := 45) hX dX0_runTest_45 rfl ?_
    refine g_bipush (pc := 47) (v := nI 100) hX dX0_runTest_47 cb_100 ?_
    refine g_icmp_ge (pc := 49) (tgt := 111) hX dX0_runTest_49 (by decide) (fun c1 => ?_) (fun c1 => ?_)
    · exact hk u1 b p 100 (rt_end hsz hn hI (Nat.le_refl _) (Or.inl rfl))
    · exact absurd (nI_le (Nat.le_refl _) (by decide)) c1
  | succ f ih =>
    intro k hkf u1 b p hI
    have h0 : u1 0 0 = nI n := by rw [hI.1 0 (by decide)]; exact hsz
    refine g_iload (pc := 45) hX dX0_runTest_45 rfl ?_
    refine g_bipush (pc := 47) (v := nI 100) hX dX0_runTest_47 cb_100 ?_
    refine g_icmp_ge (pc := 49) (tgt := 111) hX dX0_runTest_49 (by decide) (fun c1 => ?_) (fun c1 => ?_)
    · exact absurd c1 (nI_ge (by omega) (by decide))
    · refine g_iload_n (pc := 52) (i := 3) hX dX0_runTest_52 rfl rfl ?_
      refine g_if_lt (pc := 53) (tgt := 111) hX dX0_runTest_53 (by decide) (fun c2 => ?_) (fun c2 => ?_)
      · exact hk u1 b p k (rt_end hsz hn hI (by omega) (Or.inr (fun h => h.1 c2)))
      · refine g_iload_n (pc := 56) (i := 3) hX dX0_runTest_56 rfl rfl ?_
        refine g_aload_n (pc := 57) (i := 0) hX dX0_runTest_57 rfl rfl ?_
        refine x0_g0 (pc := 58) hX dX0_runTest_58 h0 ?_
        refine g_icmp_ge (pc := 61) (tgt := 111) hX dX0_runTest_61 (by decide) (fun c3 => ?_) (fun c3 => ?_)
        · exact hk u1 b p k (rt_end hsz hn hI (by omega) (Or.inr (fun h => nlt_of_le c3 (by have := h.2; rwa [hsz] at this))))
        · have hir : ir (u 0 0) p := ⟨c2, by rw [hsz]; exact lt_of_nle c3⟩
          obtain ⟨j, hj, rfl⟩ := ir_of hsz (by omega) hir
          obtain ⟨g, hg, hrj⟩ := hrg j (by omega)
          have hb31 : b < 2 ^ 31 := Nat.lt_trans hI.2.2.2.1 (by decide)
          have join : ∀ u2 : GU, rtI u n t M S0 u2 b (nI j) k → (∀ m, m < M → u 10 m = nI j → en u2 (t * 24 + m) (u 0 0) (it (u 0 0) (mI u m) 100 S0)) → G E X 6 0 0 (x0W E ad u2) 80 [.ref (ad 0), .int (nI t), .int (nI b), .int (nI j), .int (nI k)] [] := by
            intro u2 hI2 hen
            have g1 : u2 1 = u 1 := hI2.1 1 (by decide)
            have g3 : u2 3 = u 3 := hI2.1 3 (by decide)
            have g2 : u2 2 j = nI g := by rw [hI2.1 2 (by decide)]; exact hrj
            refine g_iload_n (pc := 80) (i := 2) hX dX0_runTest_80 rfl rfl ?_
            refine g_iconst (pc := 81) (v := 1) hX dX0_runTest_81 ci_1 ?_
            refine g_iload_n (pc := 82) (i := 3) hX dX0_runTest_82 rfl rfl ?_
            refine g_ishl (pc := 83) hX dX0_runTest_83 ?_
            refine g_ior (pc := 84) hX dX0_runTest_84 ?_
            refine G.topi (bn_set (by omega)) ?_
            refine g_ist2s (pc := 85) hX dX0_runTest_85 (by decide) ?_
            refine g_aload_n (pc := 86) (i := 0) hX dX0_runTest_86 rfl rfl ?_
            refine g_iconst (pc := 87) (v := 0) hX dX0_runTest_87 ci_0 ?_
            refine g_iload_n (pc := 88) (i := 3) hX dX0_runTest_88 rfl rfl ?_
            refine g_aload_n (pc := 89) (i := 0) hX dX0_runTest_89 rfl rfl ?_
            refine x0_g1 (pc := 90) hX dX0_runTest_90 ?_
            refine g_iload_n (pc := 93) (i := 3) hX dX0_runTest_93 rfl rfl ?_
            refine x0_l1 (pc := 94) hX dX0_runTest_94 rfl (by omega) (show _ = u 1 j from congrFun g1 j) ?_
            refine g_aload_n (pc := 95) (i := 0) hX dX0_runTest_95 rfl rfl ?_
            refine x0_g3 (pc := 96) hX dX0_runTest_96 ?_
            refine g_iload_n (pc := 99) (i := 3) hX dX0_runTest_99 rfl rfl ?_
            refine x0_l3 (pc := 100) hX dX0_runTest_100 rfl (by omega) (show _ = u 3 j from congrFun g3 j) ?_
            refine g_calli0 (pc := 101) hX (m0_carryOut E ad u2 0 j g (u 1 j) (u 3 j) (by decide) (by omega) hg g2) (x0_wf E ad) Y0_carryOut q137 dX0_runTest_101 rfl rfl (Nat.le_of_ble_eq_true rfl) (by decide) (fun r u' hq => ?_)
            obtain ⟨rfl, rfl⟩ := hq
            refine g_ist3s (pc := 104) hX dX0_runTest_104 (by decide) ?_
            first | refine g_inc4N (pc := 105) hX dX0_runTest_105 (by decide) ?_ | refine g_inc4 (pc := 105) hX dX0_runTest_105 (by decide) ?_
            refine g_goto (pc := 108) (tgt := 45) hX dX0_runTest_108 (by decide) ?_
            exact ih (k + 1) (by omega) _ _ _ (rt_step hw0 hI2 hj hrj hg hen)
          refine g_iload_n (pc := 64) (i := 2) hX dX0_runTest_64 rfl rfl ?_
          refine g_iload_n (pc := 65) (i := 3) hX dX0_runTest_65 rfl rfl ?_
          refine g_ishr (pc := 66) hX dX0_runTest_66 ?_
          refine g_iconst (pc := 67) (v := 1) hX dX0_runTest_67 ci_1 ?_
          refine g_iand (pc := 68) hX dX0_runTest_68 ?_
          refine G.topi (bn_bit hb31 (by omega)) ?_
          refine g_if_ne (pc := 69) (tgt := 80) hX dX0_runTest_69 (by decide) (fun c4 => ?_) (fun c4 => ?_)
          · exact join u1 hI (fun m hm hwm => hI.2.2.2.2.2.1 m j hm hj hwm (tn_1 c4))
          · refine g_aload_n (pc := 72) (i := 0) hX dX0_runTest_72 rfl rfl ?_
            refine g_iload_n (pc := 73) (i := 1) hX dX0_runTest_73 rfl rfl ?_
            refine g_iload_n (pc := 74) (i := 3) hX dX0_runTest_74 rfl rfl ?_
            refine g_iload (pc := 75) hX dX0_runTest_75 rfl ?_
            refine g_callv0 (pc := 77) hX (m0_splitAll E ad u1 n T M t j k (cs_wf (fun q hq' => hI.1 q (by omega)) hw0) ht hj (by omega)) (x0_wf E ad) Y0_splitAll q169 dX0_runTest_77 rfl rfl (Nat.le_of_ble_eq_true rfl) (by decide) (fun u2 hs => ?_)
            obtain ⟨h1, h2⟩ := rt_new hw0 hI hj (by omega) (tn_0 c4) hs
            exact join u2 h1 h2
/-- what runTest leaves -/
def rtQ (u : GU) (t M : Nat) (u' : GU) : Prop :=
  (∀ q, q < 14 → u' q = u q) ∧ (∀ q, 23 < q → u' q = u q) ∧ rdP u' t ∧ (∀ m, m < M → rdM u' t m) ∧ (∀ q, q ≠ t → u' 14 q = u 14 q ∧ u' 15 q = u 15 q ∧ u' 16 q = u 16 q) ∧
  (∀ j, (j < t * 24 ∨ t * 24 + 24 ≤ j) → u' 17 j = u 17 j ∧ u' 18 j = u 18 j ∧ u' 19 j = u 19 j)
theorem en_rdM {u u1 : GU} {t m : Nat} (h : cs u u1) (q : en u1 (t * 24 + m) (u 0 0) (res u (some m) t)) : rdM u1 t m := by
  unfold rdM
  rw [cs_oE h, cs_oO h, cs_oN h]
  exact q
/-- the invariant of the last loop: mutants below m are settled -/
def shI (u : GU) (n t M : Nat) (b m : Nat) (u1 : GU) : Prop :=
  (∀ q, q < 14 → u1 q = u q) ∧ (∀ q, 23 < q → u1 q = u q) ∧ rdP u1 t ∧ (∀ m' w, m' < M → w < n → u 10 m' = nI w → (m' < m ∨ b.testBit w = true) → rdM u1 t m') ∧ (∀ q, q ≠ t → u1 14 q = u 14 q ∧ u1 15 q = u 15 q ∧ u1 16 q = u 16 q) ∧
  (∀ j, (j < t * 24 ∨ t * 24 + 24 ≤ j) → u1 17 j = u 17 j ∧ u1 18 j = u 18 j ∧ u1 19 j = u 19 j)
theorem sh_step {u : GU} {n t M b m w : Nat} {u1 : GU} (hM : M ≤ 24) (h : shI u n t M b m u1) (hm : m < M) (hwm : u 10 m = nI w) (hwn : w < n) (hres : res u (some m) t = res u none t) : shI u n t M b (m + 1) (e0_share u1 t m) := by
  obtain ⟨h1, h2, h3, h4, h5, h6⟩ := h
  have hc : cs u1 (e0_share u1 t m) := cs_upR (cs_upR (cs_up (by decide) _) (by decide) _) (by decide) _
  have hu : cs u u1 := fun q hq => h1 q (by omega)
  refine ⟨fun q hq => ?_, fun q hq => ?_, cs_rdP hc rfl rfl rfl h3, fun m' w' hm' hw' hwm' hor => ?_, fun q hq => h5 q hq, fun j hj => ?_⟩
  · unfold e0_share
    rw [gu_ne _ _ (by omega), gu_ne _ _ (by omega), gu_ne _ _ (by omega)]
    exact h1 q hq
  · unfold e0_share
    rw [gu_ne _ _ (by omega), gu_ne _ _ (by omega), gu_ne _ _ (by omega)]
    exact h2 q hq
  · by_cases e : m' = m
    · subst e
      unfold rdM
      rw [cs_oE hc, cs_oO hc, cs_oN hc]
      have e1 : oE u1 (some m') t = oE u1 none t := by unfold oE; rw [cs_res hu, cs_res hu, hres]
      have e2 : oO u1 (some m') t = oO u1 none t := by unfold oO; rw [e1, cs_res hu, cs_res hu, hres]
      have e3 : oN u1 (some m') t = oN u1 none t := by unfold oN; rw [cs_res hu, cs_res hu, hres]
      rw [e1, e2, e3]
      exact ⟨(upd_same _ _ _).trans h3.1, (upd_same _ _ _).trans h3.2.1, (upd_same _ _ _).trans h3.2.2⟩
    · have hor' : m' < m ∨ b.testBit w' = true := by
        rcases hor with q | q
        · exact Or.inl (by omega)
        · exact Or.inr q
      exact cs_rdM hc (upd_ne _ _ (by omega)) (upd_ne _ _ (by omega)) (upd_ne _ _ (by omega)) (h4 m' w' hm' hw' hwm' hor')
  · obtain ⟨g1, g2, g3⟩ := h6 j hj
    exact ⟨(upd_ne _ _ (by omega)).trans g1, (upd_ne _ _ (by omega)).trans g2, (upd_ne _ _ (by omega)).trans g3⟩
theorem rt_share {E : gE} {X : gC} {ad : Nat → Nat} (hX : gK E X cX0_runTest 6 RX0 (rmX 4 97)) (u : GU) (n T M t b : Nat) (hw : wf u n T M) (ht : t < 6) (hb : b < 2 ^ 12) (hun : ∀ m w, m < M → w < n → u 10 m = nI w → b.testBit w = false → res u (some m) t = res u none t) (a3 a4 : Value) (hE : gRv E X cX0_runTest 6 (x0W E ad) (rtQ u t M)) :
    ∀ (f m : Nat), m + f = M → ∀ u1 : GU, shI u n t M b m u1 → G E X 6 0 0 (x0W E ad u1) 170 [.ref (ad 0), .int (nI t), .int (nI b), a3, a4, .int (nI m)] [] := by
  obtain ⟨hsz, hn, -, -, hms, hM, hrg, hwh, -⟩ := hw
  intro f
  induction f with
  | zero =>
    intro m hm u1 hI
    have e : m = M := by omega
    subst e
    have h9 : u1 9 0 = nI m := by rw [hI.1 9 (by decide)]; exact hms
    refine g_iload (pc := 170) hX dX0_runTest_170 rfl ?_
    refine g_aload_n (pc := 172) (i := 0) hX dX0_runTest_172 rfl rfl ?_
    refine x0_g9 (pc := 173) hX dX0_runTest_173 h9 ?_
    refine g_icmp_ge (pc := 176) (tgt := 206) hX dX0_runTest_176 (by decide) (fun c1 => ?_) (fun c1 => ?_)
    · refine hE _ _ _ ?_ dX0_runTest_206
      obtain ⟨h1, h2, h3, h4, h5, h6⟩ := hI
      refine ⟨h1, h2, h3, fun m' hm' => ?_, h5, h6⟩
      obtain ⟨w, hwn, hwm⟩ := hwh m' hm'
      exact h4 m' w hm' hwn hwm (Or.inl hm')
    · exact absurd (nI_le (Nat.le_refl m) (by omega)) c1
  | succ f ih =>
    intro m hm u1 hI
    have h9 : u1 9 0 = nI M := by rw [hI.1 9 (by decide)]; exact hms
    refine g_iload (pc := 170) hX dX0_runTest_170 rfl ?_
    refine g_aload_n (pc := 172) (i := 0) hX dX0_runTest_172 rfl rfl ?_
    refine x0_g9 (pc := 173) hX dX0_runTest_173 h9 ?_
    refine g_icmp_ge (pc := 176) (tgt := 206) hX dX0_runTest_176 (by decide) (fun c1 => ?_) (fun c1 => ?_)
    · exact absurd c1 (nI_ge (by omega) (by omega))
    · obtain ⟨w, hwn, hwm⟩ := hwh m (by omega)
      have h10 : u1 10 m = nI w := by rw [hI.1 10 (by decide)]; exact hwm
      refine g_iload_n (pc := 179) (i := 2) hX dX0_runTest_179 rfl rfl ?_
      refine g_aload_n (pc := 180) (i := 0) hX dX0_runTest_180 rfl rfl ?_
      refine x0_g10 (pc := 181) hX dX0_runTest_181 ?_
      refine g_iload (pc := 184) hX dX0_runTest_184 rfl ?_
      refine x0_l10 (pc := 186) hX dX0_runTest_186 rfl (by omega) h10 ?_
      refine g_ishr (pc := 187) hX dX0_runTest_187 ?_
      refine g_iconst (pc := 188) (v := 1) hX dX0_runTest_188 ci_1 ?_
      refine g_iand (pc := 189) hX dX0_runTest_189 ?_
      refine G.topi (bn_bit (Nat.lt_trans hb (by decide)) (by omega)) ?_
      refine g_if_ne (pc := 190) (tgt := 200) hX dX0_runTest_190 (by decide) (fun c2 => ?_) (fun c2 => ?_)
      · first | refine g_inc5N (pc := 200) hX dX0_runTest_200 (by decide) ?_ | refine g_inc5 (pc := 200) hX dX0_runTest_200 (by decide) ?_
        refine g_goto (pc := 203) (tgt := 170) hX dX0_runTest_203 (by decide) ?_
        refine ih (m + 1) (by omega) u1 ?_
        obtain ⟨h1, h2, h3, h4, h5, h6⟩ := hI
        refine ⟨h1, h2, h3, fun m' w' hm' hw' hwm' hor => ?_, h5, h6⟩
        by_cases e : m' = m
        · subst e
          exact h4 m' w hm' hwn hwm (Or.inr (tn_1 c2))
        · refine h4 m' w' hm' hw' hwm' ?_
          rcases hor with q | q
          · exact Or.inl (by omega)
          · exact Or.inr q
      · refine g_aload_n (pc := 193) (i := 0) hX dX0_runTest_193 rfl rfl ?_
        refine g_iload_n (pc := 194) (i := 1) hX dX0_runTest_194 rfl rfl ?_
        refine g_iload (pc := 195) hX dX0_runTest_195 rfl ?_
        have hz : u1 14 t = 0 ∨ u1 14 t = 1 := by rw [hI.2.2.1.1]; exact eI_01 _ _
        refine g_callv0 (pc := 197) hX (m0_share E ad u1 t m ht (by omega) hz) (x0_wf E ad) Y0_share q181 dX0_runTest_197 rfl rfl (Nat.le_of_ble_eq_true rfl) (by decide) (fun u2 hs => ?_)
        first | refine g_inc5N (pc := 200) hX dX0_runTest_200 (by decide) ?_ | refine g_inc5 (pc := 200) hX dX0_runTest_200 (by decide) ?_
        refine g_goto (pc := 203) (tgt := 170) hX dX0_runTest_203 (by decide) ?_
        exact ih (m + 1) (by omega) u2 (hs ▸ sh_step hM hI (by omega) hwm hwn (hun m w (by omega) hwn hwm (tn_0 c2)))
theorem m0_runTest (E : gE) (ad : Nat → Nat) (u : GU) (n T M t : Nat) (hw : wf u n T M) (ht : t < 6) : gV E yX0_runTest cX0_runTest 6 (rmX 4 97) (x0W E ad) [.ref (ad 0), .int (nI t)] u (rtQ u t M) := by
  refine gV_of (by decide) (Nat.le_of_ble_eq_true rfl) rfl (fun X hX hE => ?_)
  have hw0 := hw
  obtain ⟨hsz, hn, -, -, hms, hM, hrg, hwh, -⟩ := hw
  refine g_aload_n (pc := 0) (i := 0) hX dX0_runTest_0 rfl rfl ?_
  refine x0_g20 (pc := 1) hX dX0_runTest_1 ?_
  refine g_iconst (pc := 4) (v := 0) hX dX0_runTest_4 ci_0 ?_
  refine g_aload_n (pc := 5) (i := 0) hX dX0_runTest_5 rfl rfl ?_
  refine x0_g5 (pc := 6) hX dX0_runTest_6 ?_
  refine g_iload_n (pc := 9) (i := 1) hX dX0_runTest_9 rfl rfl ?_
  refine x0_l5 (pc := 10) hX dX0_runTest_10 rfl (by first | assumption | omega) (show _ = u 5 t from rfl) ?_
  refine x0_s20 (pc := 11) hX dX0_runTest_11 (show (0 : Int32) = nI 0 from rfl) (by decide) ?_
  refine g_aload_n (pc := 12) (i := 0) hX dX0_runTest_12 rfl rfl ?_
  refine x0_g20 (pc := 13) hX dX0_runTest_13 ?_
  refine g_iconst (pc := 16) (v := 1) hX dX0_runTest_16 ci_1 ?_
  refine g_aload_n (pc := 17) (i := 0) hX dX0_runTest_17 rfl rfl ?_
  refine x0_g6 (pc := 18) hX dX0_runTest_18 ?_
  refine g_iload_n (pc := 21) (i := 1) hX dX0_runTest_21 rfl rfl ?_
  refine x0_l6 (pc := 22) hX dX0_runTest_22 rfl (by first | assumption | omega) (show _ = u 6 t from rfl) ?_
  refine x0_s20 (pc := 23) hX dX0_runTest_23 (show (1 : Int32) = nI 1 from rfl) (by decide) ?_
  refine g_aload_n (pc := 24) (i := 0) hX dX0_runTest_24 rfl rfl ?_
  refine x0_g20 (pc := 25) hX dX0_runTest_25 ?_
  refine g_iconst (pc := 28) (v := 2) hX dX0_runTest_28 ci_2 ?_
  refine g_iconst (pc := 29) (v := 0) hX dX0_runTest_29 ci_0 ?_
  refine x0_s20 (pc := 30) hX dX0_runTest_30 (show (2 : Int32) = nI 2 from rfl) (by decide) ?_
  refine g_aload_n (pc := 31) (i := 0) hX dX0_runTest_31 rfl rfl ?_
  refine x0_g20 (pc := 32) hX dX0_runTest_32 ?_
  refine g_iconst (pc := 35) (v := 3) hX dX0_runTest_35 ci_3 ?_
  refine g_iconst (pc := 36) (v := 0) hX dX0_runTest_36 ci_0 ?_
  refine x0_s20 (pc := 37) hX dX0_runTest_37 (show (3 : Int32) = nI 3 from rfl) (by decide) ?_
  refine g_iconst (pc := 38) (v := 0) hX dX0_runTest_38 ci_0 ?_
  refine g_ist2n (pc := 39) hX dX0_runTest_39 (by decide) ?_
  refine g_iconst (pc := 40) (v := 0) hX dX0_runTest_40 ci_0 ?_
  refine g_ist3n (pc := 41) hX dX0_runTest_41 (by decide) ?_
  refine g_iconst (pc := 42) (v := 0) hX dX0_runTest_42 ci_0 ?_
  refine g_ist4n (pc := 43) hX dX0_runTest_43 (by decide) ?_
  refine G.eqw (ws' := x0W E ad (va_up u 20 (upd (upd (upd (upd (u 20) 0 (u 5 t)) 1 (u 6 t)) 2 0) 3 0))) rfl ?_
  refine rt_loop hX u n T M t hw0 ht (R0 (u 5 t) (u 6 t), 0, 0) (fun u1 b p k hF => ?_) 100 0 rfl _ 0 0 ?_
  · obtain ⟨hI, hk100, hsq, hnv⟩ := hF
    have hI0 := hI
    obtain ⟨i1, i2, i3, i4, i5, i6, i7⟩ := hI
    have hcs : cs u u1 := fun q hq => i1 q (by omega)
    rw [rxy_n] at hsq
    have hsq : sEq (u1 20, p, k) (res u none t) := hsq
    have ep : p = (res u none t).2.1 := congrArg Prod.fst hsq.2
    have ek : k = (res u none t).2.2 := congrArg Prod.snd hsq.2
    have er : u1 20 0 = (res u none t).1 0 := hsq.1 0 (by decide)
    have h0 : u1 0 0 = nI n := by rw [i1 0 (by decide)]; exact hsz
    have fin : ∀ v : Int32, v = (if eI (u 0 0) p = 1 then u1 20 0 else 0) → G E X 6 0 0 (x0W E ad (va_up u1 14 (upd (u1 14) t (eI (u 0 0) p)))) 158 [.ref (ad 0), .int (nI t), .int (nI b), .int p, .int (nI k)] [.int v, .int (nI t), .ref (ad 15)] := by
      intro v hv
      refine x0_s15 (pc := 158) hX dX0_runTest_158 rfl (by first | assumption | omega) ?_
      refine g_aload_n (pc := 159) (i := 0) hX dX0_runTest_159 rfl rfl ?_
      refine x0_g16 (pc := 160) hX dX0_runTest_160 ?_
      refine g_iload_n (pc := 163) (i := 1) hX dX0_runTest_163 rfl rfl ?_
      refine g_iload (pc := 164) hX dX0_runTest_164 rfl ?_
      refine x0_s16 (pc := 166) hX dX0_runTest_166 rfl (by first | assumption | omega) ?_
      refine g_iconst (pc := 167) (v := 0) hX dX0_runTest_167 ci_0 ?_
      refine g_ist5n (pc := 168) hX dX0_runTest_168 (by decide) ?_
      refine G.eqw (ws' := x0W E ad (va_up (va_up (va_up u1 14 (upd (u1 14) t (eI (u 0 0) p))) 15 (upd (u1 15) t v)) 16 (upd (u1 16) t (nI k)))) rfl ?_
      refine rt_share hX u n T M t b hw0 ht i4 ?_ _ _ hE M 0 (by omega) _ ?_
      · intro m w hm hwn hwm hb
        have := run_till (k := 100) (S0 := (R0 (u 5 t) (u 6 t), 0, 0)) hsz hn hwm hwn (hnv w hwn hb)
        rw [rxy_n, rxy_s] at this
        exact this
      · have hcs2 : cs u1 (va_up (va_up (va_up u1 14 (upd (u1 14) t (eI (u 0 0) p))) 15 (upd (u1 15) t v)) 16 (upd (u1 16) t (nI k))) := cs_upR (cs_upR (cs_up (by decide) _) (by decide) _) (by decide) _
        refine ⟨fun q hq => ?_, fun q hq => ?_, ?_, fun m' w hm' hwn hwm hor => ?_, fun q hq => ?_, fun j hj => ?_⟩
        · rw [gu_ne _ _ (by omega), gu_ne _ _ (by omega), gu_ne _ _ (by omega)]; exact i1 q (by omega)
        · rw [gu_ne _ _ (by omega), gu_ne _ _ (by omega), gu_ne _ _ (by omega)]; exact i2 q hq
        · unfold rdP
          rw [cs_oE (cs_tr hcs hcs2), cs_oO (cs_tr hcs hcs2), cs_oN (cs_tr hcs hcs2)]
          refine ⟨(upd_same _ _ _).trans ?_, (upd_same _ _ _).trans ?_, (upd_same _ _ _).trans ?_⟩
          · unfold oE; rw [ep]
          · unfold oO oE; rw [hv, ep, er]
          · unfold oN; rw [ek]
        · rcases hor with q | q
          · exact absurd q (Nat.not_lt_zero _)
          · have g := i6 m' w hm' hwn hwm q
            rw [rxy_s] at g
            exact cs_rdM hcs2 rfl rfl rfl (en_rdM hcs g)
        · exact ⟨(upd_ne _ _ hq).trans (congrFun (i1 14 (by decide)) q), (upd_ne _ _ hq).trans (congrFun (i1 15 (by decide)) q), (upd_ne _ _ hq).trans (congrFun (i1 16 (by decide)) q)⟩
        · exact i7 j hj
    have join : ∀ bb : Int32, bb = eI (u 0 0) p → G E X 6 0 0 (x0W E ad u1) 133 [.ref (ad 0), .int (nI t), .int (nI b), .int p, .int (nI k)] [.int bb, .int (nI t), .ref (ad 14)] := by
      intro bb hb
      subst hb
      refine x0_s14 (pc := 133) hX dX0_runTest_133 rfl (by first | assumption | omega) (nz01 (eI_01 _ _)) ?_
      refine g_aload_n (pc := 134) (i := 0) hX dX0_runTest_134 rfl rfl ?_
      refine x0_g15 (pc := 135) hX dX0_runTest_135 ?_
      refine g_iload_n (pc := 138) (i := 1) hX dX0_runTest_138 rfl rfl ?_
      refine g_aload_n (pc := 139) (i := 0) hX dX0_runTest_139 rfl rfl ?_
      refine x0_g14 (pc := 140) hX dX0_runTest_140 ?_
      refine g_iload_n (pc := 143) (i := 1) hX dX0_runTest_143 rfl rfl ?_
      refine x0_l14 (pc := 144) hX dX0_runTest_144 rfl (by first | assumption | omega) (show _ = eI (u 0 0) p from upd_same _ _ _) ?_
      refine g_if_eq (pc := 145) (tgt := 157) hX dX0_runTest_145 (by decide) (fun c4 => ?_) (fun c4 => ?_)
      · refine g_iconst (pc := 157) (v := 0) hX dX0_runTest_157 ci_0 ?_
        exact fin 0 (by rw [if_neg]; rw [c4]; decide)
      · have e1 : eI (u 0 0) p = 1 := (eI_01 (u 0 0) p).resolve_left c4
        refine g_aload_n (pc := 148) (i := 0) hX dX0_runTest_148 rfl rfl ?_
        refine x0_g20 (pc := 149) hX dX0_runTest_149 ?_
        refine g_iconst (pc := 152) (v := 0) hX dX0_runTest_152 ci_0 ?_
        refine x0_l20 (pc := 153) hX dX0_runTest_153 (show (0 : Int32) = nI 0 from rfl) (by decide) (show _ = u1 20 0 from rfl) ?_
        refine g_goto (pc := 154) (tgt := 158) hX dX0_runTest_154 (by decide) ?_
        exact fin (u1 20 0) (by rw [if_pos e1])
    refine g_aload_n (pc := 111) (i := 0) hX dX0_runTest_111 rfl rfl ?_
    refine x0_g14 (pc := 112) hX dX0_runTest_112 ?_
    refine g_iload_n (pc := 115) (i := 1) hX dX0_runTest_115 rfl rfl ?_
    refine g_iload_n (pc := 116) (i := 3) hX dX0_runTest_116 rfl rfl ?_
    refine g_if_lt (pc := 117) (tgt := 128) hX dX0_runTest_117 (by decide) (fun c1 => ?_) (fun c1 => ?_)
    · refine g_iconst (pc := 128) (v := 1) hX dX0_runTest_128 ci_1 ?_
      refine g_goto (pc := 129) (tgt := 133) hX dX0_runTest_129 (by decide) ?_
      exact join 1 (eI_join (Or.inl ⟨Or.inl c1, rfl⟩))
    · refine g_iload_n (pc := 120) (i := 3) hX dX0_runTest_120 rfl rfl ?_
      refine g_aload_n (pc := 121) (i := 0) hX dX0_runTest_121 rfl rfl ?_
      refine x0_g0 (pc := 122) hX dX0_runTest_122 h0 ?_
      refine g_icmp_lt (pc := 125) (tgt := 132) hX dX0_runTest_125 (by decide) (fun c2 => ?_) (fun c2 => ?_)
      · refine g_iconst (pc := 132) (v := 0) hX dX0_runTest_132 ci_0 ?_
        exact join 0 (eI_join (Or.inr ⟨⟨c1, by rw [hsz]; exact c2⟩, rfl⟩))
      · refine g_iconst (pc := 128) (v := 1) hX dX0_runTest_128 ci_1 ?_
        refine g_goto (pc := 129) (tgt := 133) hX dX0_runTest_129 (by decide) ?_
        exact join 1 (eI_join (Or.inl ⟨Or.inr (by rw [hsz]; exact c2), rfl⟩))
  · refine ⟨fun q hq => gu_ne _ _ (by omega), fun q hq => gu_ne _ _ (by omega), ⟨R0_eq (u 20) (u 5 t) (u 6 t), rfl⟩, by decide, fun w hw' => ?_, fun m w _ _ _ hb => ?_, fun j _ => ⟨rfl, rfl, rfl⟩⟩
    · rw [Nat.zero_testBit]
      exact ⟨fun h => (by cases h), fun ⟨i, hi, _⟩ => absurd hi (Nat.not_lt_zero i)⟩
    · rw [Nat.zero_testBit] at hb
      cases hb
/-! MutantLab: prepare -/
/-- the outcomes stand, nothing of the first thirteen fields nor of the search's has changed -/
def prQ (u : GU) (T M : Nat) (u' : GU) : Prop := cs u u' ∧ (∀ q, 23 < q → u' q = u q) ∧ u' 13 0 = 1 ∧ rdy u' T M
theorem prep_loop {E : gE} {X : gC} {ad : Nat → Nat} (hX : gK E X cX0_prepare 2 RX0 (rmX 5 122)) (u : GU) (n T M : Nat) (hw : wf u n T M) (hE : gRv E X cX0_prepare 2 (x0W E ad) (prQ u T M)) :
    ∀ (f t : Nat), t + f = T → ∀ u1 : GU, prQ u t M u1 → G E X 2 0 0 (x0W E ad u1) 15 [.ref (ad 0), .int (nI t)] [] := by
  have hw0 := hw
  obtain ⟨hsz, hn, hts, hT, hms, hM, hrg, hwh, -⟩ := hw
  intro f
  induction f with
  | zero =>
    intro t ht u1 hI
    have e : t = T := by omega
    subst e
    have h4 : u1 4 0 = nI t := by rw [hI.1 4 (by decide)]; exact hts
    refine g_iload_n (pc := 15) (i := 1) hX dX0_prepare_15 rfl rfl ?_
    refine g_aload_n (pc := 16) (i := 0) hX dX0_prepare_16 rfl rfl ?_
    refine x0_g4 (pc := 17) hX dX0_prepare_17 h4 ?_
    refine g_icmp_ge (pc := 20) (tgt := 34) hX dX0_prepare_20 (by decide) (fun c1 => ?_) (fun c1 => ?_)
    · exact hE _ _ _ (hI) dX0_prepare_34
    · exact absurd (nI_le (Nat.le_refl t) (by omega)) c1
  | succ f ih =>
    intro t ht u1 hI
    have h4 : u1 4 0 = nI T := by rw [hI.1 4 (by decide)]; exact hts
    refine g_iload_n (pc := 15) (i := 1) hX dX0_prepare_15 rfl rfl ?_
    refine g_aload_n (pc := 16) (i := 0) hX dX0_prepare_16 rfl rfl ?_
    refine x0_g4 (pc := 17) hX dX0_prepare_17 h4 ?_
    refine g_icmp_ge (pc := 20) (tgt := 34) hX dX0_prepare_20 (by decide) (fun c1 => ?_) (fun c1 => ?_)
    · exact absurd c1 (nI_ge (by omega) (by omega))
    · refine g_aload_n (pc := 23) (i := 0) hX dX0_prepare_23 rfl rfl ?_
      refine g_iload_n (pc := 24) (i := 1) hX dX0_prepare_24 rfl rfl ?_
      refine g_callv0 (pc := 25) hX (m0_runTest E ad u1 n T M t (cs_wf hI.1 hw0) (by omega)) (x0_wf E ad) Y0_runTest q165 dX0_prepare_25 rfl rfl (Nat.le_of_ble_eq_true rfl) (by decide) (fun u2 hs => ?_)
      first | refine g_inc1N (pc := 28) hX dX0_prepare_28 (by decide) ?_ | refine g_inc1 (pc := 28) hX dX0_prepare_28 (by decide) ?_
      refine g_goto (pc := 31) (tgt := 15) hX dX0_prepare_31 (by decide) ?_
      refine ih (t + 1) (by omega) u2 ?_
      obtain ⟨g1, g2, g3, g4⟩ := hI
      obtain ⟨s1, s2, s3, s4, s5, s6⟩ := hs
      have hc : cs u1 u2 := fun q hq => s1 q (by omega)
      refine ⟨cs_tr g1 hc, fun q hq => (s2 q hq).trans (g2 q hq), by rw [s1 13 (by decide)]; exact g3, fun t' ht' => ?_⟩
      by_cases e : t' = t
      · subst e
        exact ⟨s3, s4⟩
      · obtain ⟨q1, q2, q3⟩ := s5 t' e
        refine ⟨cs_rdP hc q1 q2 q3 (g4 t' (by omega)).1, fun m hm => ?_⟩
        obtain ⟨r1, r2, r3⟩ := s6 (t' * 24 + m) (by omega)
        exact cs_rdM hc r1 r2 r3 ((g4 t' (by omega)).2 m hm)
/-- the law's invariant on the Lab's side: ready is 0, or the outcomes stand -/
def okR (u : GU) (T M : Nat) : Prop := u 13 0 = 0 ∨ (u 13 0 = 1 ∧ rdy u T M)
theorem m0_prepare (E : gE) (ad : Nat → Nat) (u : GU) (n T M : Nat) (hw : wf u n T M) (hr : okR u T M) : gV E yX0_prepare cX0_prepare 2 (rmX 5 122) (x0W E ad) [.ref (ad 0)] u (prQ u T M) := by
  refine gV_of (by decide) (Nat.le_of_ble_eq_true rfl) rfl (fun X hX hE => ?_)
  refine g_aload_n (pc := 0) (i := 0) hX dX0_prepare_0 rfl rfl ?_
  refine x0_g13 (pc := 1) hX dX0_prepare_1 rfl ?_
  refine g_if_eq (pc := 4) (tgt := 8) hX dX0_prepare_4 (by decide) (fun c1 => ?_) (fun c1 => ?_)
  · refine g_aload_n (pc := 8) (i := 0) hX dX0_prepare_8 rfl rfl ?_
    refine g_iconst (pc := 9) (v := 1) hX dX0_prepare_9 ci_1 ?_
    refine x0_p13 (pc := 10) hX dX0_prepare_10 rfl rfl ?_
    refine g_iconst (pc := 13) (v := 0) hX dX0_prepare_13 ci_0 ?_
    refine g_ist1n (pc := 14) hX dX0_prepare_14 (by decide) ?_
    refine prep_loop hX u n T M hw hE T 0 (by omega) _ ⟨cs_up (by decide) _, fun q hq => gu_ne _ _ (by omega), rfl, fun t ht => absurd ht (Nat.not_lt_zero t)⟩
  · have h1 := hr.resolve_left c1
    exact hE _ _ _ (⟨cs_rf u, fun _ _ => rfl, h1.1, h1.2⟩) dX0_prepare_7
end
section
/-! MutantLab: questions that need no search -/
theorem m0_noMutant (E : gE) (ad : Nat → Nat) (u : GU) (i : Int32) : gM E yX0_noMutant cX0_noMutant 2 (some .boolean) (rmX 0 0) (x0W E ad) [.ref (ad 0), .int i] u (fun r u' => u' = u ∧ (noI (u 9 0) i ∧ r = 1 ∨ ¬ noI (u 9 0) i ∧ r = 0)) := by
  refine gM_of (by decide) (Nat.le_of_ble_eq_true rfl) rfl (fun r u' h => nr01 (h.2.elim (fun q => Or.inr q.2) (fun q => Or.inl q.2))) (fun X hX hE => ?_)
  refine g_iload_n (pc := 0) (i := 1) hX dX0_noMutant_0 rfl rfl ?_
  refine g_if_lt (pc := 1) (tgt := 12) hX dX0_noMutant_1 (by decide) (fun c1 => ?_) (fun c1 => ?_)
  · refine g_iconst (pc := 12) (v := 1) hX dX0_noMutant_12 ci_1 ?_
    refine g_goto (pc := 13) (tgt := 17) hX dX0_noMutant_13 (by decide) ?_
    exact hE _ _ _ _ (⟨rfl, Or.inl ⟨Or.inl c1, rfl⟩⟩) dX0_noMutant_17
  · refine g_iload_n (pc := 4) (i := 1) hX dX0_noMutant_4 rfl rfl ?_
    refine g_aload_n (pc := 5) (i := 0) hX dX0_noMutant_5 rfl rfl ?_
    refine x0_g9 (pc := 6) hX dX0_noMutant_6 rfl ?_
    refine g_icmp_lt (pc := 9) (tgt := 16) hX dX0_noMutant_9 (by decide) (fun c2 => ?_) (fun c2 => ?_)
    · refine g_iconst (pc := 16) (v := 0) hX dX0_noMutant_16 ci_0 ?_
      exact hE _ _ _ _ (⟨rfl, Or.inr ⟨noI_not c1 c2, rfl⟩⟩) dX0_noMutant_17
    · refine g_iconst (pc := 12) (v := 1) hX dX0_noMutant_12 ci_1 ?_
      refine g_goto (pc := 13) (tgt := 17) hX dX0_noMutant_13 (by decide) ?_
      exact hE _ _ _ _ (⟨rfl, Or.inl ⟨noI_ge c2, rfl⟩⟩) dX0_noMutant_17
/-- behind a question: the first thirteen fields as they were, the outcomes stand -/
def quQ (u : GU) (T M : Nat) (u' : GU) : Prop := cs u u' ∧ okR u' T M
theorem prQ_quQ {u u' : GU} {T M : Nat} (h : prQ u T M u') : quQ u T M u' := ⟨h.1, Or.inr h.2.2⟩
theorem q_passes_01 (u : GU) (i : Int32) : q_passes u i = 0 ∨ q_passes u i = 1 := by
  unfold q_passes
  by_cases h : noI (u 4 0) i
  · rw [if_pos h]; exact Or.inl rfl
  · rw [if_neg h]
    by_cases h2 : okV u none i.toNatClampNeg
    · rw [if_pos h2]; exact Or.inr rfl
    · rw [if_neg h2]; exact Or.inl rfl
theorem m0_passes (E : gE) (ad : Nat → Nat) (u : GU) (n T M : Nat) (i : Int32) (hw : wf u n T M) (hr : okR u T M) : gM E yX0_passes cX0_passes 2 (some .boolean) (rmX 6 143) (x0W E ad) [.ref (ad 0), .int i] u (fun r u' => quQ u T M u' ∧ r = q_passes u i) := by
  refine gM_of (by decide) (Nat.le_of_ble_eq_true rfl) rfl (fun r u' h => nr01 (by rw [h.2]; exact q_passes_01 u i)) (fun X hX hE => ?_)
  have hw0 := hw
  obtain ⟨hsz, hn, hts, hT, hms, hM, hrg, hwh, -⟩ := hw
  refine g_iload_n (pc := 0) (i := 1) hX dX0_passes_0 rfl rfl ?_
  refine g_if_lt (pc := 1) (tgt := 12) hX dX0_passes_1 (by decide) (fun c1 => ?_) (fun c1 => ?_)
  · refine g_iconst (pc := 12) (v := 0) hX dX0_passes_12 ci_0 ?_
    exact hE _ _ _ _ (⟨⟨cs_rf u, hr⟩, (if_pos (Or.inl c1)).symm⟩) dX0_passes_13
  · refine g_iload_n (pc := 4) (i := 1) hX dX0_passes_4 rfl rfl ?_
    refine g_aload_n (pc := 5) (i := 0) hX dX0_passes_5 rfl rfl ?_
    refine x0_g4 (pc := 6) hX dX0_passes_6 rfl ?_
    refine g_icmp_lt (pc := 9) (tgt := 14) hX dX0_passes_9 (by decide) (fun c2 => ?_) (fun c2 => ?_)
    · have hno : ¬ noI (u 4 0) i := noI_not c1 c2
      obtain ⟨t, ht, rfl⟩ := noI_of hts (by omega) hno
      have hq : q_passes u (nI t) = if okV u none t then 1 else 0 := by
        unfold q_passes
        rw [if_neg hno, nI_clamp (by omega)]
      refine g_aload_n (pc := 14) (i := 0) hX dX0_passes_14 rfl rfl ?_
      refine g_callv0 (pc := 15) hX (m0_prepare E ad u n T M hw0 hr) (x0_wf E ad) Y0_prepare q161 dX0_passes_15 rfl rfl (Nat.le_of_ble_eq_true rfl) (by decide) (fun u1 hp => ?_)
      obtain ⟨hc, hh, h13, hrd⟩ := hp
      obtain ⟨⟨r1, r2, r3⟩, -⟩ := hrd t ht
      have f14 : u1 14 t = oE u none t := by rw [r1, cs_oE hc]
      have f15 : u1 15 t = oO u none t := by rw [r2, cs_oO hc]
      have f7 : u1 7 t = u 7 t := by rw [hc 7 (by decide)]
      have f8 : u1 8 t = u 8 t := by rw [hc 8 (by decide)]
      have hQ : quQ u T M u1 := ⟨hc, Or.inr ⟨h13, hrd⟩⟩
      refine g_aload_n (pc := 18) (i := 0) hX dX0_passes_18 rfl rfl ?_
      refine x0_g14 (pc := 19) hX dX0_passes_19 ?_
      refine g_iload_n (pc := 22) (i := 1) hX dX0_passes_22 rfl rfl ?_
      refine x0_l14 (pc := 23) hX dX0_passes_23 rfl (by omega) f14 ?_
      refine g_aload_n (pc := 24) (i := 0) hX dX0_passes_24 rfl rfl ?_
      refine x0_g7 (pc := 25) hX dX0_passes_25 ?_
      refine g_iload_n (pc := 28) (i := 1) hX dX0_passes_28 rfl rfl ?_
      refine x0_l7 (pc := 29) hX dX0_passes_29 rfl (by omega) f7 ?_
      refine g_icmp_eq (pc := 30) (tgt := 35) hX dX0_passes_30 (by decide) (fun c3 => ?_) (fun c3 => ?_)
      · refine g_aload_n (pc := 35) (i := 0) hX dX0_passes_35 rfl rfl ?_
        refine x0_g14 (pc := 36) hX dX0_passes_36 ?_
        refine g_iload_n (pc := 39) (i := 1) hX dX0_passes_39 rfl rfl ?_
        refine x0_l14 (pc := 40) hX dX0_passes_40 rfl (by omega) f14 ?_
        refine g_if_eq (pc := 41) (tgt := 59) hX dX0_passes_41 (by decide) (fun c4 => ?_) (fun c4 => ?_)
        · refine g_iconst (pc := 59) (v := 1) hX dX0_passes_59 ci_1 ?_
          refine g_goto (pc := 60) (tgt := 64) hX dX0_passes_60 (by decide) ?_
          exact hE _ _ _ _ (⟨hQ, by rw [hq, if_pos ⟨c3, Or.inl c4⟩]⟩) dX0_passes_64
        · refine g_aload_n (pc := 44) (i := 0) hX dX0_passes_44 rfl rfl ?_
          refine x0_g15 (pc := 45) hX dX0_passes_45 ?_
          refine g_iload_n (pc := 48) (i := 1) hX dX0_passes_48 rfl rfl ?_
          refine x0_l15 (pc := 49) hX dX0_passes_49 rfl (by omega) f15 ?_
          refine g_aload_n (pc := 50) (i := 0) hX dX0_passes_50 rfl rfl ?_
          refine x0_g8 (pc := 51) hX dX0_passes_51 ?_
          refine g_iload_n (pc := 54) (i := 1) hX dX0_passes_54 rfl rfl ?_
          refine x0_l8 (pc := 55) hX dX0_passes_55 rfl (by omega) f8 ?_
          refine g_icmp_ne (pc := 56) (tgt := 63) hX dX0_passes_56 (by decide) (fun c5 => ?_) (fun c5 => ?_)
          · refine g_iconst (pc := 63) (v := 0) hX dX0_passes_63 ci_0 ?_
            exact hE _ _ _ _ (⟨hQ, by rw [hq, if_neg (fun q => q.2.elim c4 c5)]⟩) dX0_passes_64
          · refine g_iconst (pc := 59) (v := 1) hX dX0_passes_59 ci_1 ?_
            refine g_goto (pc := 60) (tgt := 64) hX dX0_passes_60 (by decide) ?_
            exact hE _ _ _ _ (⟨hQ, by rw [hq, if_pos ⟨c3, Or.inr c5⟩]⟩) dX0_passes_64
      · refine g_iconst (pc := 33) (v := 0) hX dX0_passes_33 ci_0 ?_
        exact hE _ _ _ _ (⟨hQ, by rw [hq, if_neg (fun q => c3 q.1)]⟩) dX0_passes_34
    · refine g_iconst (pc := 12) (v := 0) hX dX0_passes_12 ci_0 ?_
      exact hE _ _ _ _ (⟨⟨cs_rf u, hr⟩, (if_pos (noI_ge c2)).symm⟩) dX0_passes_13
theorem m0_output (E : gE) (ad : Nat → Nat) (u : GU) (n T M : Nat) (i k : Int32) (hw : wf u n T M) (hr : okR u T M) : gM E yX0_output cX0_output 3 (some .int) (rmX 6 143) (x0W E ad) [.ref (ad 0), .int i, .int k] u (fun r u' => quQ u T M u' ∧ r = q_output u i k) := by
  refine gM_of (by decide) (Nat.le_of_ble_eq_true rfl) rfl (fun _ _ _ => rfl) (fun X hX hE => ?_)
  have hw0 := hw
  obtain ⟨hsz, hn, hts, hT, hms, hM, hrg, hwh, -⟩ := hw
  refine g_aload_n (pc := 0) (i := 0) hX dX0_output_0 rfl rfl ?_
  refine g_iload_n (pc := 1) (i := 1) hX dX0_output_1 rfl rfl ?_
  refine g_calli0 (pc := 2) hX (m0_noMutant E ad u i) (x0_wf E ad) Y0_noMutant q189 dX0_output_2 rfl rfl (Nat.le_of_ble_eq_true rfl) (by decide) (fun r0 u0 h0 => ?_)
  obtain ⟨rfl, h0⟩ := h0
  refine g_if_ne (pc := 5) (tgt := 20) hX dX0_output_5 (by decide) (fun c0 => ?_) (fun c0 => ?_)
  · have h1 := (h0.resolve_right (fun q => c0 q.2)).1
    refine g_iconst (pc := 20) (v := 0) hX dX0_output_20 ci_0 ?_
    exact hE _ _ _ _ (⟨⟨cs_rf _, hr⟩, (if_pos (Or.inl h1)).symm⟩) dX0_output_21
  · have h1 := (h0.resolve_left (fun q => by rw [q.2] at c0; exact absurd c0 (by decide))).1
    refine g_iload_n (pc := 8) (i := 2) hX dX0_output_8 rfl rfl ?_
    refine g_if_lt (pc := 9) (tgt := 20) hX dX0_output_9 (by decide) (fun c1 => ?_) (fun c1 => ?_)
    · refine g_iconst (pc := 20) (v := 0) hX dX0_output_20 ci_0 ?_
      exact hE _ _ _ _ (⟨⟨cs_rf _, hr⟩, (if_pos (Or.inr (Or.inl c1))).symm⟩) dX0_output_21
    · refine g_iload_n (pc := 12) (i := 2) hX dX0_output_12 rfl rfl ?_
      refine g_aload_n (pc := 13) (i := 0) hX dX0_output_13 rfl rfl ?_
      refine x0_g4 (pc := 14) hX dX0_output_14 rfl ?_
      refine g_icmp_lt (pc := 17) (tgt := 22) hX dX0_output_17 (by decide) (fun c2 => ?_) (fun c2 => ?_)
      · have h2 := noI_not c1 c2
        obtain ⟨t, ht, rfl⟩ := noI_of hts (by omega) h2
        obtain ⟨m, hm, rfl⟩ := noI_of hms (by omega) h1
        refine g_aload_n (pc := 22) (i := 0) hX dX0_output_22 rfl rfl ?_
        refine g_callv0 (pc := 23) hX (m0_prepare E ad _ n T M hw0 hr) (x0_wf E ad) Y0_prepare q161 dX0_output_23 rfl rfl (Nat.le_of_ble_eq_true rfl) (by decide) (fun u1 hp => ?_)
        have hQ := prQ_quQ hp
        obtain ⟨hc, hh, h13, hrd⟩ := hp
        obtain ⟨r1, r2, r3⟩ := (hrd t ht).2 m hm
        rw [cs_oO hc] at r2
        have hidx : t * 24 + m < 144 := by omega
        refine g_aload_n (pc := 26) (i := 0) hX dX0_output_26 rfl rfl ?_
        refine x0_g18 (pc := 27) hX dX0_output_27 ?_
        refine g_iload_n (pc := 30) (i := 2) hX dX0_output_30 rfl rfl ?_
        refine g_bipush (pc := 31) (v := nI 24) hX dX0_output_31 cb_24 ?_
        refine g_imul (pc := 33) hX dX0_output_33 ?_
        refine g_iload_n (pc := 34) (i := 1) hX dX0_output_34 rfl rfl ?_
        refine g_iadd (pc := 35) hX dX0_output_35 ?_
        refine G.topi (at_nI t m) ?_
        refine x0_l18 (pc := 36) hX dX0_output_36 rfl (by first | assumption | omega) r2 ?_
        refine hE _ _ _ _ ⟨hQ, ?_⟩ dX0_output_37
        unfold q_output
        rw [if_neg (fun q => q.elim h1 h2), nI_clamp (by omega), nI_clamp (by omega)]
      · refine g_iconst (pc := 20) (v := 0) hX dX0_output_20 ci_0 ?_
        exact hE _ _ _ _ (⟨⟨cs_rf _, hr⟩, (if_pos (Or.inr (noI_ge c2))).symm⟩) dX0_output_21
theorem m0_length (E : gE) (ad : Nat → Nat) (u : GU) (n T M : Nat) (i k : Int32) (hw : wf u n T M) (hr : okR u T M) : gM E yX0_length cX0_length 3 (some .int) (rmX 6 143) (x0W E ad) [.ref (ad 0), .int i, .int k] u (fun r u' => quQ u T M u' ∧ r = q_length u i k) := by
  refine gM_of (by decide) (Nat.le_of_ble_eq_true rfl) rfl (fun _ _ _ => rfl) (fun X hX hE => ?_)
  have hw0 := hw
  obtain ⟨hsz, hn, hts, hT, hms, hM, hrg, hwh, -⟩ := hw
  refine g_aload_n (pc := 0) (i := 0) hX dX0_length_0 rfl rfl ?_
  refine g_iload_n (pc := 1) (i := 1) hX dX0_length_1 rfl rfl ?_
  refine g_calli0 (pc := 2) hX (m0_noMutant E ad u i) (x0_wf E ad) Y0_noMutant q189 dX0_length_2 rfl rfl (Nat.le_of_ble_eq_true rfl) (by decide) (fun r0 u0 h0 => ?_)
  obtain ⟨rfl, h0⟩ := h0
  refine g_if_eq (pc := 5) (tgt := 11) hX dX0_length_5 (by decide) (fun c0 => ?_) (fun c0 => ?_)
  · have h1 := (h0.resolve_left (fun q => by rw [q.2] at c0; exact absurd c0 (by decide))).1
    refine g_iload_n (pc := 11) (i := 2) hX dX0_length_11 rfl rfl ?_
    refine g_if_lt (pc := 12) (tgt := 23) hX dX0_length_12 (by decide) (fun c1 => ?_) (fun c1 => ?_)
    · refine g_bipush (pc := 23) (v := -5) hX dX0_length_23 cb_m5 ?_
      exact hE _ _ _ _ (⟨⟨cs_rf _, hr⟩, ((if_neg h1).trans (if_pos (Or.inl c1))).symm⟩) dX0_length_25
    · refine g_iload_n (pc := 15) (i := 2) hX dX0_length_15 rfl rfl ?_
      refine g_aload_n (pc := 16) (i := 0) hX dX0_length_16 rfl rfl ?_
      refine x0_g4 (pc := 17) hX dX0_length_17 rfl ?_
      refine g_icmp_lt (pc := 20) (tgt := 26) hX dX0_length_20 (by decide) (fun c2 => ?_) (fun c2 => ?_)
      · have h2 := noI_not c1 c2
        obtain ⟨t, ht, rfl⟩ := noI_of hts (by omega) h2
        obtain ⟨m, hm, rfl⟩ := noI_of hms (by omega) h1
        refine g_aload_n (pc := 26) (i := 0) hX dX0_length_26 rfl rfl ?_
        refine g_callv0 (pc := 27) hX (m0_prepare E ad _ n T M hw0 hr) (x0_wf E ad) Y0_prepare q161 dX0_length_27 rfl rfl (Nat.le_of_ble_eq_true rfl) (by decide) (fun u1 hp => ?_)
        have hQ := prQ_quQ hp
        obtain ⟨hc, hh, h13, hrd⟩ := hp
        obtain ⟨r1, r2, r3⟩ := (hrd t ht).2 m hm
        rw [cs_oN hc] at r3
        have hidx : t * 24 + m < 144 := by omega
        refine g_aload_n (pc := 30) (i := 0) hX dX0_length_30 rfl rfl ?_
        refine x0_g19 (pc := 31) hX dX0_length_31 ?_
        refine g_iload_n (pc := 34) (i := 2) hX dX0_length_34 rfl rfl ?_
        refine g_bipush (pc := 35) (v := nI 24) hX dX0_length_35 cb_24 ?_
        refine g_imul (pc := 37) hX dX0_length_37 ?_
        refine g_iload_n (pc := 38) (i := 1) hX dX0_length_38 rfl rfl ?_
        refine g_iadd (pc := 39) hX dX0_length_39 ?_
        refine G.topi (at_nI t m) ?_
        refine x0_l19 (pc := 40) hX dX0_length_40 rfl (by first | assumption | omega) r3 ?_
        refine hE _ _ _ _ ⟨hQ, ?_⟩ dX0_length_41
        unfold q_length
        rw [if_neg h1, if_neg h2, nI_clamp (by omega), nI_clamp (by omega)]
      · refine g_bipush (pc := 23) (v := -5) hX dX0_length_23 cb_m5 ?_
        exact hE _ _ _ _ (⟨⟨cs_rf _, hr⟩, ((if_neg h1).trans (if_pos (noI_ge c2))).symm⟩) dX0_length_25
  · have h1 := (h0.resolve_right (fun q => c0 q.2)).1
    refine g_bipush (pc := 8) (v := -4) hX dX0_length_8 cb_m4 ?_
    exact hE _ _ _ _ (⟨⟨cs_rf _, hr⟩, (if_pos h1).symm⟩) dX0_length_10
theorem alike_loop {E : gE} {X : gC} {ad : Nat → Nat} (hX : gK E X cX0_alike 4 RX0 (rmX 0 0)) (u : GU) (n T M m : Nat) (hw : wf u n T M) (hm : m < M) (hrd : rdy u T M) (hE : gRi E X cX0_alike 4 (x0W E ad) (fun r u' => u' = u ∧ r = nI (!anyB (fun t => !alk u m t) T).toNat)) :
    ∀ (f t : Nat), t + f = T → anyB (fun t => !alk u m t) t = false → G E X 4 0 0 (x0W E ad u) 2 [.ref (ad 0), .int (nI m), .int (nI t)] [] := by
  obtain ⟨hsz, hn, hts, hT, hms, hM, hrg, hwh, -⟩ := hw
  intro f
  induction f with
  | zero =>
    intro t ht hany
    have e : t = T := by omega
    subst e
    refine g_iload_n (pc := 2) (i := 2) hX dX0_alike_2 rfl rfl ?_
    refine g_aload_n (pc := 3) (i := 0) hX dX0_alike_3 rfl rfl ?_
    refine x0_g4 (pc := 4) hX dX0_alike_4 hts ?_
    refine g_icmp_ge (pc := 7) (tgt := 55) hX dX0_alike_7 (by decide) (fun c1 => ?_) (fun c1 => ?_)
    · refine g_iconst (pc := 55) (v := 1) hX dX0_alike_55 ci_1 ?_
      exact hE _ _ _ _ (⟨rfl, by rw [hany]; rfl⟩) dX0_alike_56
    · exact absurd (nI_le (Nat.le_refl t) (by omega)) c1
  | succ f ih =>
    intro t ht hany
    obtain ⟨⟨p1, p2, p3⟩, hmm⟩ := hrd t (by omega)
    obtain ⟨r1, r2, r3⟩ := hmm m hm
    have hidx : t * 24 + m < 144 := by omega
    have fin : alk u m t = false → nI 0 = nI (!anyB (fun t => !alk u m t) T).toNat := by
      intro h
      have : anyB (fun t => !alk u m t) T = true := (anyB_iff _ T).mpr ⟨t, by omega, by rw [h]; rfl⟩
      rw [this]
      rfl
    refine g_iload_n (pc := 2) (i := 2) hX dX0_alike_2 rfl rfl ?_
    refine g_aload_n (pc := 3) (i := 0) hX dX0_alike_3 rfl rfl ?_
    refine x0_g4 (pc := 4) hX dX0_alike_4 hts ?_
    refine g_icmp_ge (pc := 7) (tgt := 55) hX dX0_alike_7 (by decide) (fun c1 => ?_) (fun c1 => ?_)
    · exact absurd c1 (nI_ge (by omega) (by omega))
    · refine g_iload_n (pc := 10) (i := 2) hX dX0_alike_10 rfl rfl ?_
      refine g_bipush (pc := 11) (v := nI 24) hX dX0_alike_11 cb_24 ?_
      refine g_imul (pc := 13) hX dX0_alike_13 ?_
      refine g_iload_n (pc := 14) (i := 1) hX dX0_alike_14 rfl rfl ?_
      refine g_iadd (pc := 15) hX dX0_alike_15 ?_
      refine G.topi (at_nI t m) ?_
      refine g_ist3n (pc := 16) hX dX0_alike_16 (by decide) ?_
      refine g_aload_n (pc := 17) (i := 0) hX dX0_alike_17 rfl rfl ?_
      refine x0_g17 (pc := 18) hX dX0_alike_18 ?_
      refine g_iload_n (pc := 21) (i := 3) hX dX0_alike_21 rfl rfl ?_
      refine x0_l17 (pc := 22) hX dX0_alike_22 rfl (by first | assumption | omega) r1 ?_
      refine g_aload_n (pc := 23) (i := 0) hX dX0_alike_23 rfl rfl ?_
      refine x0_g14 (pc := 24) hX dX0_alike_24 ?_
      refine g_iload_n (pc := 27) (i := 2) hX dX0_alike_27 rfl rfl ?_
      refine x0_l14 (pc := 28) hX dX0_alike_28 rfl (by omega) p1 ?_
      refine g_icmp_ne (pc := 29) (tgt := 47) hX dX0_alike_29 (by decide) (fun c2 => ?_) (fun c2 => ?_)
      · refine g_iconst (pc := 47) (v := 0) hX dX0_alike_47 ci_0 ?_
        exact hE _ _ _ _ (⟨rfl, fin (decide_eq_false (fun q => c2 q.1))⟩) dX0_alike_48
      · refine g_aload_n (pc := 32) (i := 0) hX dX0_alike_32 rfl rfl ?_
        refine x0_g18 (pc := 33) hX dX0_alike_33 ?_
        refine g_iload_n (pc := 36) (i := 3) hX dX0_alike_36 rfl rfl ?_
        refine x0_l18 (pc := 37) hX dX0_alike_37 rfl (by first | assumption | omega) r2 ?_
        refine g_aload_n (pc := 38) (i := 0) hX dX0_alike_38 rfl rfl ?_
        refine x0_g15 (pc := 39) hX dX0_alike_39 ?_
        refine g_iload_n (pc := 42) (i := 2) hX dX0_alike_42 rfl rfl ?_
        refine x0_l15 (pc := 43) hX dX0_alike_43 rfl (by omega) p2 ?_
        refine g_icmp_eq (pc := 44) (tgt := 49) hX dX0_alike_44 (by decide) (fun c3 => ?_) (fun c3 => ?_)
        · first | refine g_inc2N (pc := 49) hX dX0_alike_49 (by decide) ?_ | refine g_inc2 (pc := 49) hX dX0_alike_49 (by decide) ?_
          refine g_goto (pc := 52) (tgt := 2) hX dX0_alike_52 (by decide) ?_
          refine G.take 3 rfl ?_
          refine ih (t + 1) (by omega) ?_
          show (anyB _ t || !alk u m t) = false
          rw [hany, show alk u m t = true from decide_eq_true ⟨c2, c3⟩]
          rfl
        · refine g_iconst (pc := 47) (v := 0) hX dX0_alike_47 ci_0 ?_
          exact hE _ _ _ _ (⟨rfl, fin (decide_eq_false (fun q => c3 q.2))⟩) dX0_alike_48
theorem nr_tn (b : Bool) : narrow .boolean (.int (nI b.toNat)) = .int (nI b.toNat) := by cases b <;> rfl
theorem m0_alike (E : gE) (ad : Nat → Nat) (u : GU) (n T M m : Nat) (hw : wf u n T M) (hm : m < M) (hrd : rdy u T M) : gM E yX0_alike cX0_alike 4 (some .boolean) (rmX 0 0) (x0W E ad) [.ref (ad 0), .int (nI m)] u (fun r u' => u' = u ∧ r = nI (!anyB (fun t => !alk u m t) T).toNat) := by
  refine gM_of (by decide) (Nat.le_of_ble_eq_true rfl) rfl (fun r u' h => by rw [h.2]; exact nr_tn _) (fun X hX hE => ?_)
  refine g_iconst (pc := 0) (v := 0) hX dX0_alike_0 ci_0 ?_
  refine g_ist2n (pc := 1) hX dX0_alike_1 (by decide) ?_
  exact alike_loop hX u n T M m hw hm hrd hE T 0 (by omega) rfl
theorem same_loop {E : gE} {X : gC} {ad : Nat → Nat} (hX : gK E X cX0_same 4 RX0 (rmX 6 143)) (u : GU) (n T M : Nat) (hw : wf u n T M) (hrd : rdy u T M) (h13 : u 13 0 = 1) (u0 : GU) (hc : cs u0 u) (hE : gRi E X cX0_same 4 (x0W E ad) (fun r u' => quQ u0 T M u' ∧ r = q_same u0 T M)) :
    ∀ (f m : Nat), m + f = M → G E X 4 0 0 (x0W E ad u) 8 [.ref (ad 0), .int (nI (ccnt (fun m => !anyB (fun t => !alk u m t) T) m)), .int (nI m)] [] := by
  have hw0 := hw
  obtain ⟨hsz, hn, hts, hT, hms, hM, hrg, hwh, -⟩ := hw
  intro f
  induction f with
  | zero =>
    intro m hm
    have e : m = M := by omega
    subst e
    refine g_iload_n (pc := 8) (i := 2) hX dX0_same_8 rfl rfl ?_
    refine g_aload_n (pc := 9) (i := 0) hX dX0_same_9 rfl rfl ?_
    refine x0_g9 (pc := 10) hX dX0_same_10 hms ?_
    refine g_icmp_ge (pc := 13) (tgt := 35) hX dX0_same_13 (by decide) (fun c1 => ?_) (fun c1 => ?_)
    · refine g_iload_n (pc := 35) (i := 1) hX dX0_same_35 rfl rfl ?_
      refine hE _ _ _ _ ⟨⟨hc, Or.inr ⟨h13, hrd⟩⟩, ?_⟩ dX0_same_36
      unfold q_same
      rw [ccnt_cong (g := fun m => !anyB (fun t => !alk u0 m t) T) m (fun i _ => by rw [anyB_cong (g := fun t => !alk u0 i t) T (fun t _ => by rw [cs_alk hc])])]
    · exact absurd (nI_le (Nat.le_refl m) (by omega)) c1
  | succ f ih =>
    intro m hm
    refine g_iload_n (pc := 8) (i := 2) hX dX0_same_8 rfl rfl ?_
    refine g_aload_n (pc := 9) (i := 0) hX dX0_same_9 rfl rfl ?_
    refine x0_g9 (pc := 10) hX dX0_same_10 hms ?_
    refine g_icmp_ge (pc := 13) (tgt := 35) hX dX0_same_13 (by decide) (fun c1 => ?_) (fun c1 => ?_)
    · exact absurd c1 (nI_ge (by omega) (by omega))
    · refine g_aload_n (pc := 16) (i := 0) hX dX0_same_16 rfl rfl ?_
      refine g_iload_n (pc := 17) (i := 2) hX dX0_same_17 rfl rfl ?_
      refine g_calli0 (pc := 18) hX (m0_alike E ad u n T M m hw0 (by omega) hrd) (x0_wf E ad) Y0_alike q240 dX0_same_18 rfl rfl (Nat.le_of_ble_eq_true rfl) (by decide) (fun r u' hr => ?_)
      obtain ⟨rfl, rfl⟩ := hr
      have hi := ih (m + 1) (by omega)
      have e1 : ccnt (fun m => !anyB (fun t => !alk u' m t) T) (m + 1) = ccnt (fun m => !anyB (fun t => !alk u' m t) T) m + (!anyB (fun t => !alk u' m t) T).toNat := rfl
      rw [e1] at hi
      generalize (!anyB (fun t => !alk u' m t) T) = b at hi ⊢
      refine g_ist3n (pc := 21) hX dX0_same_21 (by decide) ?_
      refine g_iload_n (pc := 22) (i := 3) hX dX0_same_22 rfl rfl ?_
      refine g_if_eq (pc := 23) (tgt := 29) hX dX0_same_23 (by decide) (fun c2 => ?_) (fun c2 => ?_)
      · have hb := tn_0 c2
        subst hb
        first | refine g_inc2N (pc := 29) hX dX0_same_29 (by decide) ?_ | refine g_inc2 (pc := 29) hX dX0_same_29 (by decide) ?_
        refine g_goto (pc := 32) (tgt := 8) hX dX0_same_32 (by decide) ?_
        exact G.take 3 rfl hi
      · have hb := tn_1 c2
        subst hb
        first | refine g_inc1N (pc := 26) hX dX0_same_26 (by decide) ?_ | refine g_inc1 (pc := 26) hX dX0_same_26 (by decide) ?_
        first | refine g_inc2N (pc := 29) hX dX0_same_29 (by decide) ?_ | refine g_inc2 (pc := 29) hX dX0_same_29 (by decide) ?_
        refine g_goto (pc := 32) (tgt := 8) hX dX0_same_32 (by decide) ?_
        exact G.take 3 rfl hi
theorem m0_same (E : gE) (ad : Nat → Nat) (u : GU) (n T M : Nat) (hw : wf u n T M) (hr : okR u T M) : gM E yX0_same cX0_same 4 (some .int) (rmX 6 143) (x0W E ad) [.ref (ad 0)] u (fun r u' => quQ u T M u' ∧ r = q_same u T M) := by
  refine gM_of (by decide) (Nat.le_of_ble_eq_true rfl) rfl (fun _ _ _ => rfl) (fun X hX hE => ?_)
  refine g_aload_n (pc := 0) (i := 0) hX dX0_same_0 rfl rfl ?_
  refine g_callv0 (pc := 1) hX (m0_prepare E ad u n T M hw hr) (x0_wf E ad) Y0_prepare q161 dX0_same_1 rfl rfl (Nat.le_of_ble_eq_true rfl) (by decide) (fun u1 hp => ?_)
  refine g_iconst (pc := 4) (v := 0) hX dX0_same_4 ci_0 ?_
  refine g_ist1n (pc := 5) hX dX0_same_5 (by decide) ?_
  refine g_iconst (pc := 6) (v := 0) hX dX0_same_6 ci_0 ?_
  refine g_ist2n (pc := 7) hX dX0_same_7 (by decide) ?_
  exact same_loop hX u1 n T M (cs_wf hp.1 hw) hp.2.2.2 hp.2.2.1 u hp.1 hE M 0 (by omega)
end
section
/-! MutantLab: kills -/
def kf (u : GU) (T t : Nat) : Nat → Bool := fun m => decide (t < T) && kl u t m
def km (u : GU) (T M t : Nat) : Nat := bset (kf u T t) M
theorem km_lt (u : GU) (T : Nat) {M : Nat} (hM : M ≤ 24) (t : Nat) : km u T M t < 2 ^ 24 := Nat.lt_of_lt_of_le (bset_lt _ M) (Nat.pow_le_pow_right (by decide) hM)
theorem km_bit (u : GU) (T M t m : Nat) : (km u T M t).testBit m = (decide (m < M) && (decide (t < T) && kl u t m)) := bset_bit _ m M
theorem m0_killsIt (E : gE) (ad : Nat → Nat) (u : GU) (T M t m : Nat) (ht : t < T) (hT : T ≤ 6) (hm : m < M) (hM : M ≤ 24) (hrd : rdy u T M) : gM E yX0_killsIt cX0_killsIt 4 (some .boolean) (rmX 0 0) (x0W E ad) [.ref (ad 0), .int (nI t), .int (nI m)] u (fun r u' => u' = u ∧ r = nI (kl u t m).toNat) := by
  refine gM_of (by decide) (Nat.le_of_ble_eq_true rfl) rfl (fun r u' h => by rw [h.2]; exact nr_tn _) (fun X hX hE => ?_)
  obtain ⟨r1, r2, r3⟩ := (hrd t ht).2 m hm
  have hidx : t * 24 + m < 144 := by omega
  have k1 : ¬ okV u (some m) t → nI 1 = nI (kl u t m).toNat := fun h => by unfold kl; rw [decide_eq_false h]; rfl
  have k0 : okV u (some m) t → nI 0 = nI (kl u t m).toNat := fun h => by unfold kl; rw [decide_eq_true h]; rfl
  refine g_iload_n (pc := 0) (i := 1) hX dX0_killsIt_0 rfl rfl ?_
  refine g_bipush (pc := 1) (v := nI 24) hX dX0_killsIt_1 cb_24 ?_
  refine g_imul (pc := 3) hX dX0_killsIt_3 ?_
  refine g_iload_n (pc := 4) (i := 2) hX dX0_killsIt_4 rfl rfl ?_
  refine g_iadd (pc := 5) hX dX0_killsIt_5 ?_
  refine G.topi (at_nI t m) ?_
  refine g_ist3n (pc := 6) hX dX0_killsIt_6 (by decide) ?_
  refine g_aload_n (pc := 7) (i := 0) hX dX0_killsIt_7 rfl rfl ?_
  refine x0_g17 (pc := 8) hX dX0_killsIt_8 ?_
  refine g_iload_n (pc := 11) (i := 3) hX dX0_killsIt_11 rfl rfl ?_
  refine x0_l17 (pc := 12) hX dX0_killsIt_12 rfl (by first | assumption | omega) r1 ?_
  refine g_aload_n (pc := 13) (i := 0) hX dX0_killsIt_13 rfl rfl ?_
  refine x0_g7 (pc := 14) hX dX0_killsIt_14 ?_
  refine g_iload_n (pc := 17) (i := 1) hX dX0_killsIt_17 rfl rfl ?_
  refine x0_l7 (pc := 18) hX dX0_killsIt_18 rfl (by omega) (show _ = u 7 t from rfl) ?_
  refine g_icmp_eq (pc := 19) (tgt := 24) hX dX0_killsIt_19 (by decide) (fun c1 => ?_) (fun c1 => ?_)
  · refine g_aload_n (pc := 24) (i := 0) hX dX0_killsIt_24 rfl rfl ?_
    refine x0_g17 (pc := 25) hX dX0_killsIt_25 ?_
    refine g_iload_n (pc := 28) (i := 3) hX dX0_killsIt_28 rfl rfl ?_
    refine x0_l17 (pc := 29) hX dX0_killsIt_29 rfl (by first | assumption | omega) r1 ?_
    refine g_if_eq (pc := 30) (tgt := 52) hX dX0_killsIt_30 (by decide) (fun c2 => ?_) (fun c2 => ?_)
    · refine g_iconst (pc := 52) (v := 0) hX dX0_killsIt_52 ci_0 ?_
      exact hE _ _ _ _ (⟨rfl, k0 ⟨c1, Or.inl c2⟩⟩) dX0_killsIt_53
    · refine g_aload_n (pc := 33) (i := 0) hX dX0_killsIt_33 rfl rfl ?_
      refine x0_g18 (pc := 34) hX dX0_killsIt_34 ?_
      refine g_iload_n (pc := 37) (i := 3) hX dX0_killsIt_37 rfl rfl ?_
      refine x0_l18 (pc := 38) hX dX0_killsIt_38 rfl (by first | assumption | omega) r2 ?_
      refine g_aload_n (pc := 39) (i := 0) hX dX0_killsIt_39 rfl rfl ?_
      refine x0_g8 (pc := 40) hX dX0_killsIt_40 ?_
      refine g_iload_n (pc := 43) (i := 1) hX dX0_killsIt_43 rfl rfl ?_
      refine x0_l8 (pc := 44) hX dX0_killsIt_44 rfl (by omega) (show _ = u 8 t from rfl) ?_
      refine g_icmp_eq (pc := 45) (tgt := 52) hX dX0_killsIt_45 (by decide) (fun c3 => ?_) (fun c3 => ?_)
      · refine g_iconst (pc := 52) (v := 0) hX dX0_killsIt_52 ci_0 ?_
        exact hE _ _ _ _ (⟨rfl, k0 ⟨c1, Or.inr c3⟩⟩) dX0_killsIt_53
      · refine g_iconst (pc := 48) (v := 1) hX dX0_killsIt_48 ci_1 ?_
        refine g_goto (pc := 49) (tgt := 53) hX dX0_killsIt_49 (by decide) ?_
        exact hE _ _ _ _ (⟨rfl, k1 (fun q => q.2.elim c2 c3)⟩) dX0_killsIt_53
  · refine g_iconst (pc := 22) (v := 1) hX dX0_killsIt_22 ci_1 ?_
    exact hE _ _ _ _ (⟨rfl, k1 (fun q => c1 q.1)⟩) dX0_killsIt_23
theorem kl_up24 (u : GU) (K : Nat → Int32) (t m : Nat) : kl (va_up u 24 K) t m = kl u t m := cs_kl (cs_up (by decide) K) t m
theorem rdy_up24 {u : GU} {T M : Nat} (K : Nat → Int32) (h : rdy u T M) : rdy (va_up u 24 K) T M := cs_rdy (cs_up (by decide) K) (fun k _ hk => gu_ne _ _ (by omega)) h
theorem gk_inner {E : gE} {X : gC} {ad : Nat → Nat} (hX : gK E X cX0_gatherKills 4 RX0 (rmX 6 143)) (u : GU) (n T M t : Nat) (hw : wf u n T M) (hrd : rdy u T M) (ht : t < 6) (K0 : Nat → Int32)
    (hk : ∀ (K : Nat → Int32) (q : Value), K t = nI (km u T M t) → (∀ t', t' ≠ t → K t' = K0 t') → G E X 4 0 0 (x0W E ad (va_up u 24 K)) 66 [.ref (ad 0), .int (nI t), q] []) :
    ∀ (f m : Nat), m + f = M → ∀ K : Nat → Int32, K t = nI (bset (kf u T t) m) → (∀ t', t' ≠ t → K t' = K0 t') → G E X 4 0 0 (x0W E ad (va_up u 24 K)) 21 [.ref (ad 0), .int (nI t), .int (nI m)] [] := by
  obtain ⟨hsz, hn, hts, hT, hms, hM, hrg, hwh, -⟩ := hw
  intro f
  induction f with
  | zero =>
    intro m hm K hK1 hK2
    have e : m = M := by omega
    subst e
    refine g_iload_n (pc := 21) (i := 2) hX dX0_gatherKills_21 rfl rfl ?_
    refine g_aload_n (pc := 22) (i := 0) hX dX0_gatherKills_22 rfl rfl ?_
    refine x0_g9 (pc := 23) hX dX0_gatherKills_23 (show _ = nI m from hms) ?_
    refine g_icmp_ge (pc := 26) (tgt := 66) hX dX0_gatherKills_26 (by decide) (fun c1 => ?_) (fun c1 => ?_)
    · exact hk K _ hK1 hK2
    · exact absurd (nI_le (Nat.le_refl m) (by omega)) c1
  | succ f ih =>
    intro m hm K hK1 hK2
    refine g_iload_n (pc := 21) (i := 2) hX dX0_gatherKills_21 rfl rfl ?_
    refine g_aload_n (pc := 22) (i := 0) hX dX0_gatherKills_22 rfl rfl ?_
    refine x0_g9 (pc := 23) hX dX0_gatherKills_23 (show _ = nI M from hms) ?_
    refine g_icmp_ge (pc := 26) (tgt := 66) hX dX0_gatherKills_26 (by decide) (fun c1 => ?_) (fun c1 => ?_)
    · exact absurd c1 (nI_ge (by omega) (by omega))
    · refine g_iload_n (pc := 29) (i := 1) hX dX0_gatherKills_29 rfl rfl ?_
      refine g_aload_n (pc := 30) (i := 0) hX dX0_gatherKills_30 rfl rfl ?_
      refine x0_g4 (pc := 31) hX dX0_gatherKills_31 (show _ = nI T from hts) ?_
      refine g_icmp_ge (pc := 34) (tgt := 66) hX dX0_gatherKills_34 (by decide) (fun c2 => ?_) (fun c2 => ?_)
      · have hTt : T ≤ t := le_of_nI c2 (by omega) (by omega)
        have e0 : ∀ x, bset (kf u T t) x = 0 := fun x => by
          rw [bset_cong (g := fun _ => false) x (fun i _ => by unfold kf; rw [decide_eq_false (by omega)]; rfl), bset_false]
        refine hk K _ ?_ hK2
        rw [hK1]
        unfold km
        rw [e0, e0]
      · have hTt : t < T := gt_of_nI c2 (by omega) (by omega)
        refine g_aload_n (pc := 37) (i := 0) hX dX0_gatherKills_37 rfl rfl ?_
        refine g_iload_n (pc := 38) (i := 1) hX dX0_gatherKills_38 rfl rfl ?_
        refine g_iload_n (pc := 39) (i := 2) hX dX0_gatherKills_39 rfl rfl ?_
        refine g_calli0 (pc := 40) hX (m0_killsIt E ad (va_up u 24 K) T M t m hTt hT (by omega) hM (rdy_up24 K hrd)) (x0_wf E ad) Y0_killsIt q197 dX0_gatherKills_40 rfl rfl (Nat.le_of_ble_eq_true rfl) (by decide) (fun r u' hq => ?_)
        obtain ⟨rfl, rfl⟩ := hq
        rw [kl_up24]
        have hkf : kf u T t m = kl u t m := by unfold kf; rw [decide_eq_true hTt, Bool.true_and]
        have hlt : bset (kf u T t) m < 2 ^ 24 := Nat.lt_of_lt_of_le (bset_lt _ m) (Nat.pow_le_pow_right (by decide) (by omega))
        have hb1 : bset (kf u T t) (m + 1) = bset (kf u T t) m ||| (kl u t m).toNat * 2 ^ m := by rw [← hkf]; rfl
        generalize kl u t m = b at hb1 ⊢
        refine g_ist3n (pc := 43) hX dX0_gatherKills_43 (by decide) ?_
        refine g_iload_n (pc := 44) (i := 3) hX dX0_gatherKills_44 rfl rfl ?_
        refine g_if_eq (pc := 45) (tgt := 60) hX dX0_gatherKills_45 (by decide) (fun c3 => ?_) (fun c3 => ?_)
        · have hb := tn_0 c3
          subst hb
          first | refine g_inc2N (pc := 60) hX dX0_gatherKills_60 (by decide) ?_ | refine g_inc2 (pc := 60) hX dX0_gatherKills_60 (by decide) ?_
          refine g_goto (pc := 63) (tgt := 21) hX dX0_gatherKills_63 (by decide) ?_
          refine G.take 3 rfl ?_
          refine ih (m + 1) (by omega) K ?_ hK2
          rw [hK1, hb1]
          show _ = nI (_ ||| 0 * 2 ^ m)
          rw [Nat.zero_mul, Nat.or_zero]
        · have hb := tn_1 c3
          subst hb
          refine g_aload_n (pc := 48) (i := 0) hX dX0_gatherKills_48 rfl rfl ?_
          refine x0_g24 (pc := 49) hX dX0_gatherKills_49 ?_
          refine g_iload_n (pc := 52) (i := 1) hX dX0_gatherKills_52 rfl rfl ?_
          refine g_dup2 (pc := 53) hX dX0_gatherKills_53 ?_
          refine x0_l24 (pc := 54) hX dX0_gatherKills_54 rfl (by first | assumption | omega) (show _ = nI (bset (kf u T t) m) from hK1) ?_
          refine g_iconst (pc := 55) (v := 1) hX dX0_gatherKills_55 ci_1 ?_
          refine g_iload_n (pc := 56) (i := 2) hX dX0_gatherKills_56 rfl rfl ?_
          refine g_ishl (pc := 57) hX dX0_gatherKills_57 ?_
          refine g_ior (pc := 58) hX dX0_gatherKills_58 ?_
          refine G.topi (bn_set (by omega)) ?_
          refine x0_s24 (pc := 59) hX dX0_gatherKills_59 rfl (by omega) ?_
          first | refine g_inc2N (pc := 60) hX dX0_gatherKills_60 (by decide) ?_ | refine g_inc2 (pc := 60) hX dX0_gatherKills_60 (by decide) ?_
          refine g_goto (pc := 63) (tgt := 21) hX dX0_gatherKills_63 (by decide) ?_
          refine G.take 3 rfl ?_
          refine G.eqw (ws' := x0W E ad (va_up u 24 (upd K t (nI (bset (kf u T t) m ||| 2 ^ m))))) ?_ ?_
          · show x0W E ad (va_up (va_up u 24 K) 24 (upd (va_up u 24 K 24) t _)) = _
            rw [gu_same, bx_uu]
          refine ih (m + 1) (by omega) _ ?_ (fun t' ht' => by rw [upd_ne _ _ ht']; exact hK2 t' ht')
          rw [upd_same, hb1]
          show _ = nI (_ ||| 1 * 2 ^ m)
          rw [Nat.one_mul]
/-- behind gatherKills -/
def gkQ (u : GU) (T M : Nat) (u' : GU) : Prop := cs u u' ∧ u' 13 0 = 1 ∧ rdy u' T M ∧ ∀ t, t < 6 → u' 24 t = nI (km u T M t)
theorem gk_outer {E : gE} {X : gC} {ad : Nat → Nat} (hX : gK E X cX0_gatherKills 4 RX0 (rmX 6 143)) (u : GU) (n T M : Nat) (hw : wf u n T M) (hrd : rdy u T M) (hE : ∀ (K : Nat → Int32) (L : List Value), (∀ t, t < 6 → K t = nI (km u T M t)) → G E X 4 0 0 (x0W E ad (va_up u 24 K)) 72 L []) :
    ∀ (f t : Nat), t + f = 6 → ∀ K : Nat → Int32, (∀ t', t' < t → K t' = nI (km u T M t')) → G E X 4 0 0 (x0W E ad (va_up u 24 K)) 6 [.ref (ad 0), .int (nI t)] [] := by
  have hw0 := hw
  obtain ⟨hsz, hn, hts, hT, hms, hM, hrg, hwh, -⟩ := hw
  intro f
  induction f with
  | zero =>
    intro t ht K hK
    have e : t = 6 := by omega
    subst e
    refine g_iload_n (pc := 6) (i := 1) hX dX0_gatherKills_6 rfl rfl ?_
    refine g_bipush (pc := 7) (v := nI 6) hX dX0_gatherKills_7 cb_6 ?_
    refine g_icmp_ge (pc := 9) (tgt := 72) hX dX0_gatherKills_9 (by decide) (fun c1 => ?_) (fun c1 => ?_)
    · exact hE K _ hK
    · exact absurd (nI_le (Nat.le_refl 6) (by decide)) c1
  | succ f ih =>
    intro t ht K hK
    refine g_iload_n (pc := 6) (i := 1) hX dX0_gatherKills_6 rfl rfl ?_
    refine g_bipush (pc := 7) (v := nI 6) hX dX0_gatherKills_7 cb_6 ?_
    refine g_icmp_ge (pc := 9) (tgt := 72) hX dX0_gatherKills_9 (by decide) (fun c1 => ?_) (fun c1 => ?_)
    · exact absurd c1 (nI_ge (by omega) (by decide))
    · refine g_aload_n (pc := 12) (i := 0) hX dX0_gatherKills_12 rfl rfl ?_
      refine x0_g24 (pc := 13) hX dX0_gatherKills_13 ?_
      refine g_iload_n (pc := 16) (i := 1) hX dX0_gatherKills_16 rfl rfl ?_
      refine g_iconst (pc := 17) (v := 0) hX dX0_gatherKills_17 ci_0 ?_
      refine x0_s24 (pc := 18) hX dX0_gatherKills_18 rfl (by omega) ?_
      refine g_iconst (pc := 19) (v := 0) hX dX0_gatherKills_19 ci_0 ?_
      refine g_ist2n (pc := 20) hX dX0_gatherKills_20 (by decide) ?_
      refine G.eqw (ws' := x0W E ad (va_up u 24 (upd K t 0))) ?_ ?_
      · show x0W E ad (va_up (va_up u 24 K) 24 (upd (va_up u 24 K 24) t 0)) = _
        rw [gu_same, bx_uu]
      refine gk_inner hX u n T M t hw0 hrd (by omega) K (fun K' q h1 h2 => ?_) M 0 (by omega) (upd K t 0) (by rw [upd_same]; rfl) (fun t' ht' => upd_ne _ _ ht')
      first | refine g_inc1N (pc := 66) hX dX0_gatherKills_66 (by decide) ?_ | refine g_inc1 (pc := 66) hX dX0_gatherKills_66 (by decide) ?_
      refine g_goto (pc := 69) (tgt := 6) hX dX0_gatherKills_69 (by decide) ?_
      refine G.take 2 rfl ?_
      refine ih (t + 1) (by omega) K' (fun t' ht' => ?_)
      by_cases e : t' = t
      · subst e; exact h1
      · rw [h2 t' e]; exact hK t' (by omega)
theorem km_cs {u u' : GU} (h : cs u u') (T M t : Nat) : km u' T M t = km u T M t := by
  unfold km
  exact bset_cong M (fun i _ => by unfold kf; rw [cs_kl h])
theorem m0_gatherKills (E : gE) (ad : Nat → Nat) (u : GU) (n T M : Nat) (hw : wf u n T M) (hr : okR u T M) : gV E yX0_gatherKills cX0_gatherKills 4 (rmX 6 143) (x0W E ad) [.ref (ad 0)] u (gkQ u T M) := by
  refine gV_of (by decide) (Nat.le_of_ble_eq_true rfl) rfl (fun X hX hE => ?_)
  refine g_aload_n (pc := 0) (i := 0) hX dX0_gatherKills_0 rfl rfl ?_
  refine g_callv0 (pc := 1) hX (m0_prepare E ad u n T M hw hr) (x0_wf E ad) Y0_prepare q161 dX0_gatherKills_1 rfl rfl (Nat.le_of_ble_eq_true rfl) (by decide) (fun u1 hp => ?_)
  obtain ⟨hc, hh, h13, hrd⟩ := hp
  refine g_iconst (pc := 4) (v := 0) hX dX0_gatherKills_4 ci_0 ?_
  refine g_ist1n (pc := 5) hX dX0_gatherKills_5 (by decide) ?_
  refine G.eqw (ws' := x0W E ad (va_up u1 24 (u1 24))) (by rw [gu_self]) ?_
  refine gk_outer hX u1 n T M (cs_wf hc hw) hrd (fun K L hK => ?_) 6 0 rfl (u1 24) (fun t' ht' => absurd ht' (Nat.not_lt_zero t'))
  refine hE _ _ _ ?_ dX0_gatherKills_72
  exact ⟨cs_upR hc (by decide) K, h13, rdy_up24 K hrd, fun t ht => (hK t ht).trans (by rw [km_cs hc])⟩
theorem ones_loop {E : gE} {X : gC} (hX : gK E X cX0_ones 3 RX0 (rmX 0 0)) (s : Nat) (hs : s < 2 ^ 31) (u : GU) (hE : gRi E X cX0_ones 3 (fun _ => []) (fun r _ => r = nI (ccnt s.testBit 24))) :
    ∀ (f i : Nat), i + f = 24 → G E X 3 0 0 [] 4 [.int (nI s), .int (nI (ccnt s.testBit i)), .int (nI i)] [] := by
  intro f
  induction f with
  | zero =>
    intro i hi
    have e : i = 24 := by omega
    subst e
    refine g_iload_n (pc := 4) (i := 2) hX dX0_ones_4 rfl rfl ?_
    refine g_bipush (pc := 5) (v := nI 24) hX dX0_ones_5 cb_24 ?_
    refine g_icmp_ge (pc := 7) (tgt := 24) hX dX0_ones_7 (by decide) (fun c1 => ?_) (fun c1 => ?_)
    · refine g_iload_n (pc := 24) (i := 1) hX dX0_ones_24 rfl rfl ?_
      exact hE _ u _ _ rfl dX0_ones_25
    · exact absurd (nI_le (Nat.le_refl 24) (by decide)) c1
  | succ f ih =>
    intro i hi
    refine g_iload_n (pc := 4) (i := 2) hX dX0_ones_4 rfl rfl ?_
    refine g_bipush (pc := 5) (v := nI 24) hX dX0_ones_5 cb_24 ?_
    refine g_icmp_ge (pc := 7) (tgt := 24) hX dX0_ones_7 (by decide) (fun c1 => ?_) (fun c1 => ?_)
    · exact absurd c1 (nI_ge (by omega) (by decide))
    · refine g_iload_n (pc := 10) (i := 1) hX dX0_ones_10 rfl rfl ?_
      refine g_iload_n (pc := 11) (i := 0) hX dX0_ones_11 rfl rfl ?_
      refine g_iload_n (pc := 12) (i := 2) hX dX0_ones_12 rfl rfl ?_
      refine g_ishr (pc := 13) hX dX0_ones_13 ?_
      refine g_iconst (pc := 14) (v := 1) hX dX0_ones_14 ci_1 ?_
      refine g_iand (pc := 15) hX dX0_ones_15 ?_
      refine G.topi (bn_bit hs (by omega)) ?_
      refine g_iadd (pc := 16) hX dX0_ones_16 ?_
      refine G.topi (nI_add _ _) ?_
      refine g_ist1s (pc := 17) hX dX0_ones_17 (by decide) ?_
      first | refine g_inc2N (pc := 18) hX dX0_ones_18 (by decide) ?_ | refine g_inc2 (pc := 18) hX dX0_ones_18 (by decide) ?_
      refine g_goto (pc := 21) (tgt := 4) hX dX0_ones_21 (by decide) ?_
      exact ih (i + 1) (by omega)
theorem m0_ones (E : gE) (u : GU) (s : Nat) (hs : s < 2 ^ 31) : gM E yX0_ones cX0_ones 3 (some .int) (rmX 0 0) (fun _ => []) [.int (nI s)] u (fun r _ => r = nI (ccnt s.testBit 24)) := by
  refine gM_of (by decide) (Nat.le_of_ble_eq_true rfl) rfl (fun _ _ _ => rfl) (fun X hX hE => ?_)
  refine g_iconst (pc := 0) (v := 0) hX dX0_ones_0 ci_0 ?_
  refine g_ist1n (pc := 1) hX dX0_ones_1 (by decide) ?_
  refine g_iconst (pc := 2) (v := 0) hX dX0_ones_2 ci_0 ?_
  refine g_ist2n (pc := 3) hX dX0_ones_3 (by decide) ?_
  exact ones_loop hX s hs u hE 24 0 rfl
theorem kof_loop {E : gE} {X : gC} {ad : Nat → Nat} (hX : gK E X cX0_killersOf 4 RX0 (rmX 0 0)) (u w : GU) (T M m : Nat) (hts : u 4 0 = nI T) (hT : T ≤ 6) (hM : M ≤ 24) (hm : m < M) (hkm : ∀ t, t < T → u 24 t = nI (km w T M t)) (hE : gRi E X cX0_killersOf 4 (x0W E ad) (fun r u' => u' = u ∧ r = nI (bset (fun t => kl w t m) T))) :
    ∀ (f t : Nat), t + f = T → G E X 4 0 0 (x0W E ad u) 4 [.ref (ad 0), .int (nI m), .int (nI (bset (fun t => kl w t m) t)), .int (nI t)] [] := by
  intro f
  induction f with
  | zero =>
    intro t ht
    have e : t = T := by omega
    subst e
    refine g_iload_n (pc := 4) (i := 3) hX dX0_killersOf_4 rfl rfl ?_
    refine g_aload_n (pc := 5) (i := 0) hX dX0_killersOf_5 rfl rfl ?_
    refine x0_g4 (pc := 6) hX dX0_killersOf_6 hts ?_
    refine g_icmp_ge (pc := 9) (tgt := 33) hX dX0_killersOf_9 (by decide) (fun c1 => ?_) (fun c1 => ?_)
    · refine g_iload_n (pc := 33) (i := 2) hX dX0_killersOf_33 rfl rfl ?_
      exact hE _ _ _ _ (⟨rfl, rfl⟩) dX0_killersOf_34
    · exact absurd (nI_le (Nat.le_refl t) (by omega)) c1
  | succ f ih =>
    intro t ht
    have hb : (km w T M t).testBit m = kl w t m := by rw [km_bit, decide_eq_true hm, decide_eq_true (show t < T by omega), Bool.true_and, Bool.true_and]
    refine g_iload_n (pc := 4) (i := 3) hX dX0_killersOf_4 rfl rfl ?_
    refine g_aload_n (pc := 5) (i := 0) hX dX0_killersOf_5 rfl rfl ?_
    refine x0_g4 (pc := 6) hX dX0_killersOf_6 hts ?_
    refine g_icmp_ge (pc := 9) (tgt := 33) hX dX0_killersOf_9 (by decide) (fun c1 => ?_) (fun c1 => ?_)
    · exact absurd c1 (nI_ge (by omega) (by omega))
    · refine g_iload_n (pc := 12) (i := 2) hX dX0_killersOf_12 rfl rfl ?_
      refine g_aload_n (pc := 13) (i := 0) hX dX0_killersOf_13 rfl rfl ?_
      refine x0_g24 (pc := 14) hX dX0_killersOf_14 ?_
      refine g_iload_n (pc := 17) (i := 3) hX dX0_killersOf_17 rfl rfl ?_
      refine x0_l24 (pc := 18) hX dX0_killersOf_18 rfl (by omega) (hkm t (by omega)) ?_
      refine g_iload_n (pc := 19) (i := 1) hX dX0_killersOf_19 rfl rfl ?_
      refine g_ishr (pc := 20) hX dX0_killersOf_20 ?_
      refine g_iconst (pc := 21) (v := 1) hX dX0_killersOf_21 ci_1 ?_
      refine g_iand (pc := 22) hX dX0_killersOf_22 ?_
      refine G.topi (bn_bit (Nat.lt_trans (km_lt w T hM t) (by decide)) (by omega)) ?_
      rw [hb]
      have hlt : (kl w t m).toNat * 2 ^ t < 2 ^ 32 := by
        have h1 : (kl w t m).toNat ≤ 1 := by cases kl w t m <;> decide
        have h2 : (2 : Nat) ^ t < 2 ^ 32 := Nat.pow_lt_pow_right (by decide) (by omega)
        exact Nat.lt_of_le_of_lt (Nat.mul_le_mul_right _ h1) (by rw [Nat.one_mul]; exact h2)
      refine g_iload_n (pc := 23) (i := 3) hX dX0_killersOf_23 rfl rfl ?_
      refine g_ishl (pc := 24) hX dX0_killersOf_24 ?_
      refine G.topi (bn_shl (by omega) hlt) ?_
      refine g_ior (pc := 25) hX dX0_killersOf_25 ?_
      refine G.topi (bn_or _ _) ?_
      refine g_ist2s (pc := 26) hX dX0_killersOf_26 (by decide) ?_
      first | refine g_inc3N (pc := 27) hX dX0_killersOf_27 (by decide) ?_ | refine g_inc3 (pc := 27) hX dX0_killersOf_27 (by decide) ?_
      refine g_goto (pc := 30) (tgt := 4) hX dX0_killersOf_30 (by decide) ?_
      exact ih (t + 1) (by omega)
theorem m0_killersOf (E : gE) (ad : Nat → Nat) (u w : GU) (T M m : Nat) (hts : u 4 0 = nI T) (hT : T ≤ 6) (hM : M ≤ 24) (hm : m < M) (hkm : ∀ t, t < T → u 24 t = nI (km w T M t)) : gM E yX0_killersOf cX0_killersOf 4 (some .int) (rmX 0 0) (x0W E ad) [.ref (ad 0), .int (nI m)] u (fun r u' => u' = u ∧ r = nI (bset (fun t => kl w t m) T)) := by
  refine gM_of (by decide) (Nat.le_of_ble_eq_true rfl) rfl (fun _ _ _ => rfl) (fun X hX hE => ?_)
  refine g_iconst (pc := 0) (v := 0) hX dX0_killersOf_0 ci_0 ?_
  refine g_ist2n (pc := 1) hX dX0_killersOf_1 (by decide) ?_
  refine g_iconst (pc := 2) (v := 0) hX dX0_killersOf_2 ci_0 ?_
  refine g_ist3n (pc := 3) hX dX0_killersOf_3 (by decide) ?_
  exact kof_loop hX u w T M m hts hT hM hm hkm hE T 0 (by omega)
theorem m0_killers (E : gE) (ad : Nat → Nat) (u : GU) (n T M : Nat) (i : Int32) (hw : wf u n T M) (hr : okR u T M) : gM E yX0_killers cX0_killers 2 (some .int) (rmX 7 166) (x0W E ad) [.ref (ad 0), .int i] u (fun r u' => quQ u T M u' ∧ r = q_killers u T i) := by
  refine gM_of (by decide) (Nat.le_of_ble_eq_true rfl) rfl (fun _ _ _ => rfl) (fun X hX hE => ?_)
  have hw0 := hw
  obtain ⟨hsz, hn, hts, hT, hms, hM, hrg, hwh, -⟩ := hw
  refine g_aload_n (pc := 0) (i := 0) hX dX0_killers_0 rfl rfl ?_
  refine g_iload_n (pc := 1) (i := 1) hX dX0_killers_1 rfl rfl ?_
  refine g_calli0 (pc := 2) hX (m0_noMutant E ad u i) (x0_wf E ad) Y0_noMutant q189 dX0_killers_2 rfl rfl (Nat.le_of_ble_eq_true rfl) (by decide) (fun r0 u0 h0 => ?_)
  obtain ⟨rfl, h0⟩ := h0
  refine g_if_eq (pc := 5) (tgt := 11) hX dX0_killers_5 (by decide) (fun c0 => ?_) (fun c0 => ?_)
  · have h1 := (h0.resolve_left (fun q => by rw [q.2] at c0; exact absurd c0 (by decide))).1
    obtain ⟨m, hm, rfl⟩ := noI_of hms (by omega) h1
    refine g_aload_n (pc := 11) (i := 0) hX dX0_killers_11 rfl rfl ?_
    refine g_callv0 (pc := 12) hX (m0_gatherKills E ad _ n T M hw0 hr) (x0_wf E ad) Y0_gatherKills q193 dX0_killers_12 rfl rfl (Nat.le_of_ble_eq_true rfl) (by decide) (fun u1 hg => ?_)
    obtain ⟨hc, h13, hrd, hkm⟩ := hg
    refine g_aload_n (pc := 15) (i := 0) hX dX0_killers_15 rfl rfl ?_
    refine g_iload_n (pc := 16) (i := 1) hX dX0_killers_16 rfl rfl ?_
    refine g_calli0 (pc := 17) hX (m0_killersOf E ad u1 u0 T M m (by rw [hc 4 (by decide)]; exact hts) hT hM hm (fun t ht => hkm t (by omega))) (x0_wf E ad) Y0_killersOf q201 dX0_killers_17 rfl rfl (Nat.le_of_ble_eq_true rfl) (by decide) (fun r u2 h2 => ?_)
    obtain ⟨rfl, rfl⟩ := h2
    refine hE _ _ _ _ ⟨⟨hc, Or.inr ⟨h13, hrd⟩⟩, ?_⟩ dX0_killers_20
    unfold q_killers
    rw [if_neg h1, nI_clamp (by omega)]
  · have h1 := (h0.resolve_right (fun q => c0 q.2)).1
    refine g_bipush (pc := 8) (v := -4) hX dX0_killers_8 cb_m4 ?_
    exact hE _ _ _ _ (⟨⟨cs_rf _, hr⟩, (if_pos h1).symm⟩) dX0_killers_10
/-- the union of some tests' kills -/
def orK (K : Nat → Nat) (f : Nat → Bool) : Nat → Nat
  | 0 => 0
  | k + 1 => if f k then orK K f k ||| K k else orK K f k
theorem orK_lt {K : Nat → Nat} {f : Nat → Bool} {n : Nat} (h : ∀ t, K t < 2 ^ n) : ∀ k, orK K f k < 2 ^ n
  | 0 => Nat.two_pow_pos n
  | k + 1 => by
    show (if f k then orK K f k ||| K k else orK K f k) < 2 ^ n
    split
    · exact Nat.or_lt_two_pow (orK_lt h k) (h k)
    · exact orK_lt h k
theorem orK_bit (K : Nat → Nat) (f : Nat → Bool) (i : Nat) : ∀ k, (orK K f k).testBit i = anyB (fun t => f t && (K t).testBit i) k
  | 0 => Nat.zero_testBit i
  | k + 1 => by
    show (if f k then orK K f k ||| K k else orK K f k).testBit i = (anyB _ k || (f k && (K k).testBit i))
    rw [← orK_bit K f i k]
    cases f k
    · rw [if_neg (by decide), Bool.false_and, Bool.or_false]
    · rw [if_pos rfl, Nat.testBit_or, Bool.true_and]
theorem kd_loop {E : gE} {X : gC} {ad : Nat → Nat} (hX : gK E X cX0_killed 4 RX0 (rmX 7 166)) (u : GU) (x : Int32) (K : Nat → Nat) (hK : ∀ t, K t < 2 ^ 24) (h24 : ∀ t, t < 6 → u 24 t = nI (K t))
    (hk : ∀ L : List Value, G E X 4 0 0 (x0W E ad u) 38 [.ref (ad 0), .int x, .int (nI (orK K (bt x) 6)), .int (nI 6)] []) :
    ∀ (f t : Nat), t + f = 6 → G E X 4 0 0 (x0W E ad u) 8 [.ref (ad 0), .int x, .int (nI (orK K (bt x) t)), .int (nI t)] [] := by
  intro f
  induction f with
  | zero =>
    intro t ht
    have e : t = 6 := by omega
    subst e
    refine g_iload_n (pc := 8) (i := 3) hX dX0_killed_8 rfl rfl ?_
    refine g_bipush (pc := 9) (v := nI 6) hX dX0_killed_9 cb_6 ?_
    refine g_icmp_ge (pc := 11) (tgt := 38) hX dX0_killed_11 (by decide) (fun c1 => ?_) (fun c1 => ?_)
    · exact hk []
    · exact absurd (nI_le (Nat.le_refl 6) (by decide)) c1
  | succ f ih =>
    intro t ht
    have hi := ih (t + 1) (by omega)
    have e1 : orK K (bt x) (t + 1) = if bt x t then orK K (bt x) t ||| K t else orK K (bt x) t := rfl
    rw [e1] at hi
    refine g_iload_n (pc := 8) (i := 3) hX dX0_killed_8 rfl rfl ?_
    refine g_bipush (pc := 9) (v := nI 6) hX dX0_killed_9 cb_6 ?_
    refine g_icmp_ge (pc := 11) (tgt := 38) hX dX0_killed_11 (by decide) (fun c1 => ?_) (fun c1 => ?_)
    · exact absurd c1 (nI_ge (by omega) (by decide))
    · refine g_iload_n (pc := 14) (i := 1) hX dX0_killed_14 rfl rfl ?_
      refine g_iload_n (pc := 15) (i := 3) hX dX0_killed_15 rfl rfl ?_
      refine g_ishr (pc := 16) hX dX0_killed_16 ?_
      refine g_iconst (pc := 17) (v := 1) hX dX0_killed_17 ci_1 ?_
      refine g_iand (pc := 18) hX dX0_killed_18 ?_
      refine G.topi (bt_bit x (by omega)) ?_
      refine g_iconst (pc := 19) (v := 1) hX dX0_killed_19 ci_1 ?_
      refine g_icmp_ne (pc := 20) (tgt := 32) hX dX0_killed_20 (by decide) (fun c2 => ?_) (fun c2 => ?_)
      · rw [if_neg (by rw [tn_0' c2]; decide)] at hi
        first | refine g_inc3N (pc := 32) hX dX0_killed_32 (by decide) ?_ | refine g_inc3 (pc := 32) hX dX0_killed_32 (by decide) ?_
        refine g_goto (pc := 35) (tgt := 8) hX dX0_killed_35 (by decide) ?_
        exact hi
      · rw [if_pos (tn_1' c2)] at hi
        refine g_iload_n (pc := 23) (i := 2) hX dX0_killed_23 rfl rfl ?_
        refine g_aload_n (pc := 24) (i := 0) hX dX0_killed_24 rfl rfl ?_
        refine x0_g24 (pc := 25) hX dX0_killed_25 ?_
        refine g_iload_n (pc := 28) (i := 3) hX dX0_killed_28 rfl rfl ?_
        refine x0_l24 (pc := 29) hX dX0_killed_29 rfl (by omega) (h24 t (by omega)) ?_
        refine g_ior (pc := 30) hX dX0_killed_30 ?_
        refine G.topi (bn_or _ _) ?_
        refine g_ist2s (pc := 31) hX dX0_killed_31 (by decide) ?_
        first | refine g_inc3N (pc := 32) hX dX0_killed_32 (by decide) ?_ | refine g_inc3 (pc := 32) hX dX0_killed_32 (by decide) ?_
        refine g_goto (pc := 35) (tgt := 8) hX dX0_killed_35 (by decide) ?_
        exact hi
theorem m0_killed (E : gE) (ad : Nat → Nat) (u : GU) (n T M : Nat) (x : Int32) (hw : wf u n T M) (hr : okR u T M) : gM E yX0_killed cX0_killed 4 (some .int) (rmX 7 166) (x0W E ad) [.ref (ad 0), .int x] u (fun r u' => quQ u T M u' ∧ r = q_killed u T M x) := by
  refine gM_of (by decide) (Nat.le_of_ble_eq_true rfl) rfl (fun _ _ _ => rfl) (fun X hX hE => ?_)
  have hw0 := hw
  obtain ⟨hsz, hn, hts, hT, hms, hM, hrg, hwh, -⟩ := hw
  refine g_aload_n (pc := 0) (i := 0) hX dX0_killed_0 rfl rfl ?_
  refine g_callv0 (pc := 1) hX (m0_gatherKills E ad u n T M hw0 hr) (x0_wf E ad) Y0_gatherKills q193 dX0_killed_1 rfl rfl (Nat.le_of_ble_eq_true rfl) (by decide) (fun u1 hg => ?_)
  obtain ⟨hc, h13, hrd, hkm⟩ := hg
  refine g_iconst (pc := 4) (v := 0) hX dX0_killed_4 ci_0 ?_
  refine g_ist2n (pc := 5) hX dX0_killed_5 (by decide) ?_
  refine g_iconst (pc := 6) (v := 0) hX dX0_killed_6 ci_0 ?_
  refine g_ist3n (pc := 7) hX dX0_killed_7 (by decide) ?_
  refine kd_loop hX u1 x (km u T M) (km_lt u T hM) hkm (fun _ => ?_) 6 0 rfl
  have hlt : orK (km u T M) (bt x) 6 < 2 ^ 24 := orK_lt (km_lt u T hM) 6
  refine g_iload_n (pc := 38) (i := 2) hX dX0_killed_38 rfl rfl ?_
  refine g_calls (pc := 39) hX (m0_ones E u1 (orK (km u T M) (bt x) 6) (Nat.lt_trans hlt (by decide))) Y0_ones q209 dX0_killed_39 rfl rfl (Nat.le_of_ble_eq_true rfl) (by decide) (fun r u2 h2 => ?_)
  refine hE _ _ _ _ ⟨⟨hc, Or.inr ⟨h13, hrd⟩⟩, ?_⟩ dX0_killed_42
  rw [h2]
  unfold q_killed
  congr 1
  have hbit : ∀ m, (orK (km u T M) (bt x) 6).testBit m = (decide (m < M) && anyB (fun t => bt x t && kl u t m) T) := by
    intro m
    rw [orK_bit]
    by_cases hm : m < M
    · rw [decide_eq_true hm, Bool.true_and]
      rw [Bool.eq_iff_iff, anyB_iff, anyB_iff]
      constructor
      · rintro ⟨t, ht, h⟩
        rw [km_bit, decide_eq_true hm, Bool.true_and, Bool.and_eq_true, Bool.and_eq_true, decide_eq_true_iff] at h
        exact ⟨t, h.2.1, by rw [Bool.and_eq_true]; exact ⟨h.1, h.2.2⟩⟩
      · rintro ⟨t, ht, h⟩
        rw [Bool.and_eq_true] at h
        exact ⟨t, by omega, by rw [km_bit, decide_eq_true hm, decide_eq_true ht, Bool.true_and, Bool.true_and, Bool.and_eq_true]; exact h⟩
    · rw [decide_eq_false hm, Bool.false_and, Bool.eq_false_iff]
      intro h
      obtain ⟨t, ht, h⟩ := (anyB_iff _ _).mp h
      rw [km_bit, decide_eq_false hm, Bool.false_and, Bool.and_false] at h
      cases h
  have e1 := ccnt_more (f := (orK (km u T M) (bt x) 6).testBit) (k := M) (24 - M) (fun i hi => by rw [hbit, decide_eq_false (by omega), Bool.false_and])
  rw [show M + (24 - M) = 24 by omega] at e1
  rw [e1]
  exact ccnt_cong M (fun i hi => by rw [hbit, decide_eq_true hi, Bool.true_and])
end
section
/-! MutantLab: the search -/
def ks (u : GU) (T m : Nat) : Nat := bset (fun t => kl u t m) T
theorem ks_ok (u : GU) {T M : Nat} (hT : T ≤ 6) : ∀ m, m < M → ks u T m < 64 ∧ ∀ t, t < 6 → (ks u T m).testBit t = (km u T M t).testBit m := by
  intro m hm
  refine ⟨Nat.lt_of_lt_of_le (bset_lt _ T) (Nat.pow_le_pow_right (n := 2) (by decide) hT), fun t _ => ?_⟩
  unfold ks
  rw [bset_bit, km_bit, decide_eq_true hm, Bool.true_and]
theorem ks_cnt (u : GU) {T : Nat} (hT : T ≤ 6) (m : Nat) : ccnt (ks u T m).testBit 24 ≤ 6 := by
  have e := ccnt_more (f := (ks u T m).testBit) (k := 6) 18 (fun i hi => by
    unfold ks
    rw [bset_bit, decide_eq_false (by omega), Bool.false_and])
  rw [show 6 + 18 = 24 from rfl] at e
  rw [e]
  exact ccnt_le _ 6
def chI (kk : Nat → Nat) (l m bs le : Nat) : Prop := (le ≤ 6 ∧ ∃ m', m' < m ∧ l.testBit m' = true ∧ bs = kk m') ∨ (le = 7 ∧ bs = 0 ∧ ∀ m', m' < m → l.testBit m' = false)
theorem ch_loop {E : gE} {X : gC} {ad : Nat → Nat} (hX : gK E X cX0_choices 7 RX0 (rmX 1 23)) (u w : GU) (T M l : Nat) (hts : u 4 0 = nI T) (hms : u 9 0 = nI M) (hT : T ≤ 6) (hM : M ≤ 24) (hl : l < 2 ^ 24) (hkm : ∀ t, t < T → u 24 t = nI (km w T M t)) (hE : gRi E X cX0_choices 7 (x0W E ad) (fun r u' => u' = u ∧ ∃ r', r = nI r' ∧ chQ (ks w T) M l r')) :
    ∀ (f m : Nat), m + f = M → ∀ bs le : Nat, chI (ks w T) l m bs le → G E X 7 0 0 (x0W E ad u) 8 [.ref (ad 0), .int (nI l), .int (nI bs), .int (nI le), .int (nI m)] [] := by
  intro f
  induction f with
  | zero =>
    intro m hm bs le hI
    have e : m = M := by omega
    subst e
    refine g_iload (pc := 8) hX dX0_choices_8 rfl ?_
    refine g_aload_n (pc := 10) (i := 0) hX dX0_choices_10 rfl rfl ?_
    refine x0_g9 (pc := 11) hX dX0_choices_11 hms ?_
    refine g_icmp_ge (pc := 14) (tgt := 60) hX dX0_choices_14 (by decide) (fun c1 => ?_) (fun c1 => ?_)
    · refine g_iload_n (pc := 60) (i := 2) hX dX0_choices_60 rfl rfl ?_
      refine hE _ _ _ _ ⟨rfl, bs, rfl, ?_⟩ dX0_choices_61
      rcases hI with ⟨-, m', h1, h2, h3⟩ | ⟨-, h1, h2⟩
      · exact Or.inl ⟨m', h1, h2, h3⟩
      · exact Or.inr ⟨h2, h1⟩
    · exact absurd (nI_le (Nat.le_refl m) (by omega)) c1
  | succ f ih =>
    intro m hm bs le hI
    have hle : le ≤ 7 := by rcases hI with ⟨q, -⟩ | ⟨q, -⟩ <;> omega
    refine g_iload (pc := 8) hX dX0_choices_8 rfl ?_
    refine g_aload_n (pc := 10) (i := 0) hX dX0_choices_10 rfl rfl ?_
    refine x0_g9 (pc := 11) hX dX0_choices_11 hms ?_
    refine g_icmp_ge (pc := 14) (tgt := 60) hX dX0_choices_14 (by decide) (fun c1 => ?_) (fun c1 => ?_)
    · exact absurd c1 (nI_ge (by omega) (by omega))
    · refine g_iload_n (pc := 17) (i := 1) hX dX0_choices_17 rfl rfl ?_
      refine g_iload (pc := 18) hX dX0_choices_18 rfl ?_
      refine g_ishr (pc := 20) hX dX0_choices_20 ?_
      refine g_iconst (pc := 21) (v := 1) hX dX0_choices_21 ci_1 ?_
      refine g_iand (pc := 22) hX dX0_choices_22 ?_
      refine G.topi (bn_bit (Nat.lt_trans hl (by decide)) (by omega)) ?_
      refine g_iconst (pc := 23) (v := 1) hX dX0_choices_23 ci_1 ?_
      refine g_icmp_ne (pc := 24) (tgt := 54) hX dX0_choices_24 (by decide) (fun c2 => ?_) (fun c2 => ?_)
      · have hb := tn_0' c2
        first | refine g_inc4N (pc := 54) hX dX0_choices_54 (by decide) ?_ | refine g_inc4 (pc := 54) hX dX0_choices_54 (by decide) ?_
        refine g_goto (pc := 57) (tgt := 8) hX dX0_choices_57 (by decide) ?_
        refine ih (m + 1) (by omega) bs le ?_
        rcases hI with ⟨q, m', h1, h2, h3⟩ | ⟨q, h1, h2⟩
        · exact Or.inl ⟨q, m', by omega, h2, h3⟩
        · refine Or.inr ⟨q, h1, fun m' hm' => ?_⟩
          by_cases e : m' = m
          · subst e; exact hb
          · exact h2 m' (by omega)
      · have hb := tn_1' c2
        refine g_aload_n (pc := 27) (i := 0) hX dX0_choices_27 rfl rfl ?_
        refine g_iload (pc := 28) hX dX0_choices_28 rfl ?_
        refine g_calli0 (pc := 30) hX (m0_killersOf E ad u w T M m hts hT hM (by omega) hkm) (x0_wf E ad) Y0_killersOf q201 dX0_choices_30 rfl rfl (Nat.le_of_ble_eq_true rfl) (by decide) (fun r u1 h1 => ?_)
        obtain ⟨rfl, rfl⟩ := h1
        have hks : bset (fun t => kl w t m) T = ks w T m := rfl
        rw [hks]
        have hk64 := (ks_ok w (M := M) hT m (by omega)).1
        have hc6 := ks_cnt w hT m
        refine g_ist5n (pc := 33) hX dX0_choices_33 (by decide) ?_
        refine g_iload (pc := 35) hX dX0_choices_35 rfl ?_
        refine g_calls (pc := 37) hX (m0_ones E u1 (ks w T m) (Nat.lt_trans hk64 (by decide))) Y0_ones q209 dX0_choices_37 rfl rfl (Nat.le_of_ble_eq_true rfl) (by decide) (fun r2 u2 h2 => ?_)
        subst h2
        refine g_ist6n (pc := 40) hX dX0_choices_40 (by decide) ?_
        refine g_iload (pc := 42) hX dX0_choices_42 rfl ?_
        refine g_iload_n (pc := 44) (i := 3) hX dX0_choices_44 rfl rfl ?_
        refine g_icmp_ge (pc := 45) (tgt := 54) hX dX0_choices_45 (by decide) (fun c3 => ?_) (fun c3 => ?_)
        · have hge : le ≤ ccnt (ks w T m).testBit 24 := le_of_nI c3 (by omega) (by omega)
          first | refine g_inc4N (pc := 54) hX dX0_choices_54 (by decide) ?_ | refine g_inc4 (pc := 54) hX dX0_choices_54 (by decide) ?_
          refine g_goto (pc := 57) (tgt := 8) hX dX0_choices_57 (by decide) ?_
          refine G.take 5 rfl ?_
          refine ih (m + 1) (by omega) bs le ?_
          rcases hI with ⟨q, m', h1, h2, h3⟩ | ⟨q, h1, h2⟩
          · exact Or.inl ⟨q, m', by omega, h2, h3⟩
          · omega
        · refine g_iload (pc := 48) hX dX0_choices_48 rfl ?_
          refine g_ist3s (pc := 50) hX dX0_choices_50 (by decide) ?_
          refine g_iload (pc := 51) hX dX0_choices_51 rfl ?_
          refine g_ist2s (pc := 53) hX dX0_choices_53 (by decide) ?_
          first | refine g_inc4N (pc := 54) hX dX0_choices_54 (by decide) ?_ | refine g_inc4 (pc := 54) hX dX0_choices_54 (by decide) ?_
          refine g_goto (pc := 57) (tgt := 8) hX dX0_choices_57 (by decide) ?_
          refine G.take 5 rfl ?_
          exact ih (m + 1) (by omega) _ _ (Or.inl ⟨hc6, m, by omega, hb, rfl⟩)
theorem m0_choices (E : gE) (ad : Nat → Nat) (u w : GU) (T M l : Nat) (hts : u 4 0 = nI T) (hms : u 9 0 = nI M) (hT : T ≤ 6) (hM : M ≤ 24) (hl : l < 2 ^ 24) (hkm : ∀ t, t < T → u 24 t = nI (km w T M t)) : gM E yX0_choices cX0_choices 7 (some .int) (rmX 1 23) (x0W E ad) [.ref (ad 0), .int (nI l)] u (fun r u' => u' = u ∧ ∃ r', r = nI r' ∧ chQ (ks w T) M l r') := by
  refine gM_of (by decide) (Nat.le_of_ble_eq_true rfl) rfl (fun _ _ _ => rfl) (fun X hX hE => ?_)
  refine g_iconst (pc := 0) (v := 0) hX dX0_choices_0 ci_0 ?_
  refine g_ist2n (pc := 1) hX dX0_choices_1 (by decide) ?_
  refine g_bipush (pc := 2) (v := nI 7) hX dX0_choices_2 cb_7 ?_
  refine g_ist3n (pc := 4) hX dX0_choices_4 (by decide) ?_
  refine g_iconst (pc := 5) (v := 0) hX dX0_choices_5 ci_0 ?_
  refine g_ist4n (pc := 6) hX dX0_choices_6 (by decide) ?_
  exact ch_loop hX u w T M l hts hms hT hM hl hkm hE M 0 (by omega) 0 7 (Or.inr ⟨rfl, rfl, fun m' h => absurd h (Nat.not_lt_zero m')⟩)
theorem kso_loop {E : gE} {X : gC} {ad : Nat → Nat} (hX : gK E X cX0_killsOf 3 RX0 (rmX 0 0)) (u : GU) (t : Nat) (ht : t < 6) (hE : gRi E X cX0_killsOf 3 (x0W E ad) (fun r u' => u' = u ∧ r = u 24 t)) :
    ∀ (f i : Nat), i + f = t → G E X 3 0 0 (x0W E ad u) 2 [.ref (ad 0), .int (nI (2 ^ t)), .int (nI i)] [] := by
  have h2t : (2 : Nat) ^ t < 2 ^ 31 := Nat.pow_lt_pow_right (by decide) (by omega)
  intro f
  induction f with
  | zero =>
    intro i hi
    have e : i = t := by omega
    subst e
    refine g_iload_n (pc := 2) (i := 2) hX dX0_killsOf_2 rfl rfl ?_
    refine g_bipush (pc := 3) (v := nI 6) hX dX0_killsOf_3 cb_6 ?_
    refine g_icmp_ge (pc := 5) (tgt := 28) hX dX0_killsOf_5 (by decide) (fun c1 => ?_) (fun c1 => ?_)
    · exact absurd c1 (nI_ge (by omega) (by decide))
    · refine g_iload_n (pc := 8) (i := 1) hX dX0_killsOf_8 rfl rfl ?_
      refine g_iconst (pc := 9) (v := 1) hX dX0_killsOf_9 ci_1 ?_
      refine g_iload_n (pc := 10) (i := 2) hX dX0_killsOf_10 rfl rfl ?_
      refine g_ishl (pc := 11) hX dX0_killsOf_11 ?_
      refine G.topi (show (1 : Int32) <<< (nI i &&& 31) = nI (2 ^ i) from by rw [show (1 : Int32) = nI 1 from rfl, bn_shl (by omega) (by omega), Nat.one_mul]) ?_
      refine g_icmp_ne (pc := 12) (tgt := 22) hX dX0_killsOf_12 (by decide) (fun c2 => ?_) (fun c2 => ?_)
      · exact absurd rfl c2
      · refine g_aload_n (pc := 15) (i := 0) hX dX0_killsOf_15 rfl rfl ?_
        refine x0_g24 (pc := 16) hX dX0_killsOf_16 ?_
        refine g_iload_n (pc := 19) (i := 2) hX dX0_killsOf_19 rfl rfl ?_
        refine x0_l24 (pc := 20) hX dX0_killsOf_20 rfl (by omega) rfl ?_
        exact hE _ _ _ _ (⟨rfl, rfl⟩) dX0_killsOf_21
  | succ f ih =>
    intro i hi
    have h2i : (2 : Nat) ^ i < 2 ^ t := Nat.pow_lt_pow_right (by decide) (by omega)
    refine g_iload_n (pc := 2) (i := 2) hX dX0_killsOf_2 rfl rfl ?_
    refine g_bipush (pc := 3) (v := nI 6) hX dX0_killsOf_3 cb_6 ?_
    refine g_icmp_ge (pc := 5) (tgt := 28) hX dX0_killsOf_5 (by decide) (fun c1 => ?_) (fun c1 => ?_)
    · exact absurd c1 (nI_ge (by omega) (by decide))
    · refine g_iload_n (pc := 8) (i := 1) hX dX0_killsOf_8 rfl rfl ?_
      refine g_iconst (pc := 9) (v := 1) hX dX0_killsOf_9 ci_1 ?_
      refine g_iload_n (pc := 10) (i := 2) hX dX0_killsOf_10 rfl rfl ?_
      refine g_ishl (pc := 11) hX dX0_killsOf_11 ?_
      refine G.topi (show (1 : Int32) <<< (nI i &&& 31) = nI (2 ^ i) from by rw [show (1 : Int32) = nI 1 from rfl, bn_shl (by omega) (by omega), Nat.one_mul]) ?_
      refine g_icmp_ne (pc := 12) (tgt := 22) hX dX0_killsOf_12 (by decide) (fun c2 => ?_) (fun c2 => ?_)
      · first | refine g_inc2N (pc := 22) hX dX0_killsOf_22 (by decide) ?_ | refine g_inc2 (pc := 22) hX dX0_killsOf_22 (by decide) ?_
        refine g_goto (pc := 25) (tgt := 2) hX dX0_killsOf_25 (by decide) ?_
        exact ih (i + 1) (by omega)
      · have := (nI_eq h2t (by omega)).mp c2
        omega
theorem m0_killsOf (E : gE) (ad : Nat → Nat) (u : GU) (t : Nat) (ht : t < 6) : gM E yX0_killsOf cX0_killsOf 3 (some .int) (rmX 0 0) (x0W E ad) [.ref (ad 0), .int (nI (2 ^ t))] u (fun r u' => u' = u ∧ r = u 24 t) := by
  refine gM_of (by decide) (Nat.le_of_ble_eq_true rfl) rfl (fun _ _ _ => rfl) (fun X hX hE => ?_)
  refine g_iconst (pc := 0) (v := 0) hX dX0_killsOf_0 ci_0 ?_
  refine g_ist2n (pc := 1) hX dX0_killsOf_1 (by decide) ?_
  exact kso_loop hX u t ht hE t 0 (by omega)
theorem bt_m1 : ∀ i, i < 32 → bt (-1) i = true := by decide +kernel
theorem bt_xor (x y : Int32) (i : Nat) : bt (x ^^^ y) i = (bt x i ^^ bt y i) := by unfold bt; rw [Int32.toBitVec_xor, BitVec.getLsbD_xor]
theorem bn_dif (l k : Nat) : nI l &&& (nI k ^^^ (-1)) = nI (dif l k) := by
  refine bt_ext (fun i hi => ?_)
  rw [bt_and, bt_xor, bt_nI hi, bt_nI hi, bt_nI hi, bt_m1 i hi, dif_bit]
  cases l.testBit i <;> cases k.testBit i <;> rfl
theorem dv_m1 (x : Int32) : x + Int32.ofInt (-1) = x - 1 := by
  rw [show Int32.ofInt (-1) = (-1 : Int32) from by decide, Int32.sub_eq_add_neg]
/-- the state in the search -/
def smS (u : GU) (lI oI : Nat → Int32) : GU := va_up (va_up u 25 lI) 26 oI
theorem smS_25 (u : GU) (lI oI f : Nat → Int32) : va_up (smS u lI oI) 25 f = smS u f oI := by
  funext k
  unfold smS
  by_cases h : k = 25
  · subst h
    rw [gu_same, gu_ne _ _ (by decide), gu_same]
  · rw [gu_ne _ _ h]
    by_cases h2 : k = 26
    · subst h2; rw [gu_same, gu_same]
    · rw [gu_ne _ _ h2, gu_ne _ _ h2, gu_ne _ _ h, gu_ne _ _ h]
theorem smS_26 (u : GU) (lI oI f : Nat → Int32) : va_up (smS u lI oI) 26 f = smS u lI f := by
  unfold smS
  rw [bx_uu]
theorem sm_loop {E : gE} {X : gC} {ad : Nat → Nat} (hX : gK E X cX0_smallest 7 RX0 (rmX 2 49)) (u w : GU) (T M al A : Nat) (hts : u 4 0 = nI T) (hms : u 9 0 = nI M) (hT : T ≤ 6) (hM : M ≤ 24) (hkm : ∀ t, t < 6 → u 24 t = nI (km w T M t)) (hA : isA (km w T M) al A) (hA6 : A ≤ 6) (x1 : Value)
    (hE : ∀ (lI oI : Nat → Int32) (L : List Value), G E X 7 0 0 (x0W E ad (smS u lI oI)) 159 L [.int (nI A)]) :
    ∀ (f s : Nat), s + f = 16000 → ∀ (D b : Nat) (l O : Nat → Nat) (lI oI : Nat → Int32), smI (km w T M) al M A l O D b s → (∀ i, i < D → lI i = nI (l i)) → (∀ i, i < D → oI i = nI (O i)) → G E X 7 0 0 (x0W E ad (smS u lI oI)) 26 [.ref (ad 0), x1, .int (nI b), .int (nI D - 1), .int (nI s)] [] := by
  have hks := ks_ok w (M := M) hT
  have hM24 : 2 ^ M ≤ 2 ^ 24 := Nat.pow_le_pow_right (by decide) hM
  intro f
  induction f with
  | zero =>
    intro s hs D b l O lI oI hI h1 h2
    have e : s = 16000 := by omega
    subst e
    have hD : D = 0 := by
      cases D with
      | zero => rfl
      | succ D =>
        have h6 := hI.2.2.2.2.2
        have : phi O (D + 1) = phi O D + (1 + ccnt (O D).testBit 6 * (1 + F6 (5 - D))) := rfl
        omega
    subst hD
    have hb := sm_done hA hA6 hI
    subst hb
    refine g_iload (pc := 26) hX dX0_smallest_26 rfl ?_
    refine g_sipush (pc := 28) (v := nI 16000) hX dX0_smallest_28 cs_16000 ?_
    refine g_icmp_ge (pc := 31) (tgt := 158) hX dX0_smallest_31 (by decide) (fun c1 => ?_) (fun c1 => ?_)
    · refine g_iload_n (pc := 158) (i := 2) hX dX0_smallest_158 rfl rfl ?_
      exact hE lI oI _
    · exact absurd (nI_le (Nat.le_refl 16000) (by decide)) c1
  | succ f ih =>
    intro s hs D b l O lI oI hI h1 h2
    refine g_iload (pc := 26) hX dX0_smallest_26 rfl ?_
    refine g_sipush (pc := 28) (v := nI 16000) hX dX0_smallest_28 cs_16000 ?_
    refine g_icmp_ge (pc := 31) (tgt := 158) hX dX0_smallest_31 (by decide) (fun c1 => ?_) (fun c1 => ?_)
    · exact absurd c1 (nI_ge (by omega) (by decide))
    · cases D with
      | zero =>
        have hb := sm_done hA hA6 hI
        subst hb
        refine g_iload_n (pc := 34) (i := 3) hX dX0_smallest_34 rfl rfl ?_
        refine g_if_lt (pc := 35) (tgt := 158) hX dX0_smallest_35 (by decide) (fun c2 => ?_) (fun c2 => ?_)
        · refine g_iload_n (pc := 158) (i := 2) hX dX0_smallest_158 rfl rfl ?_
          exact hE lI oI _
        · exact absurd (show nI 0 - 1 < 0 from by decide) c2
      | succ D =>
        have hF := hI.2.2.2.1 D (by omega)
        have hD7 : D + 1 ≤ 7 := hI.2.1
        have hb7 : b ≤ 7 := hI.1
        have hlD : l D < 2 ^ 24 := Nat.lt_of_lt_of_le hF.1 hM24
        have hOD : O D < 64 := hF.2.1
        have e25 : lI D = nI (l D) := h1 D (by omega)
        have e26 : oI D = nI (O D) := h2 D (by omega)
        rw [nI_pred]
        have join : ∀ b' : Nat, ((l D = 0 ∧ D < b ∧ b' = D) ∨ ((l D ≠ 0 ∨ b ≤ D) ∧ b' = b)) → G E X 7 0 0 (x0W E ad (smS u lI oI)) 54 [.ref (ad 0), x1, .int (nI b'), .int (nI D), .int (nI s)] [] := by
          intro b' hb'
          have hb'7 : b' ≤ 7 := by rcases hb' with ⟨-, q, e⟩ | ⟨-, e⟩ <;> omega
          have pop : (l D = 0 ∨ b' ≤ D + 1 ∨ O D = 0) → G E X 7 0 0 (x0W E ad (smS u lI oI)) 79 [.ref (ad 0), x1, .int (nI b'), .int (nI D), .int (nI s)] [] := by
            intro hc
            refine g_iincG (pc := 79) (v := nI D - 1) (L' := [.ref (ad 0), x1, .int (nI b'), .int (nI D - 1), .int (nI s)]) hX dX0_smallest_79 rfl (dv_m1 _) (by decide) rfl ?_
            refine g_goto (pc := 82) (tgt := 152) hX dX0_smallest_82 (by decide) ?_
            first | refine g_inc4N (pc := 152) hX dX0_smallest_152 (by decide) ?_ | refine g_inc4 (pc := 152) hX dX0_smallest_152 (by decide) ?_
            refine g_goto (pc := 155) (tgt := 26) hX dX0_smallest_155 (by decide) ?_
            exact ih (s + 1) (by omega) D b' l O lI oI (sm_pop hI hb' hc) (fun i hi => h1 i (by omega)) (fun i hi => h2 i (by omega))
          refine g_aload_n (pc := 54) (i := 0) hX dX0_smallest_54 rfl rfl ?_
          refine x0_g25 (pc := 55) hX dX0_smallest_55 ?_
          refine g_iload_n (pc := 58) (i := 3) hX dX0_smallest_58 rfl rfl ?_
          refine x0_l25 (pc := 59) hX dX0_smallest_59 rfl (by omega) (show _ = nI (l D) from e25) ?_
          refine g_if_eq (pc := 60) (tgt := 79) hX dX0_smallest_60 (by decide) (fun c3 => ?_) (fun c3 => ?_)
          · exact pop (Or.inl ((nI_eq (by omega) (by decide)).mp c3))
          · have hl0 : l D ≠ 0 := fun q => c3 (by rw [q]; rfl)
            refine g_iload_n (pc := 63) (i := 3) hX dX0_smallest_63 rfl rfl ?_
            refine g_iconst (pc := 64) (v := 1) hX dX0_smallest_64 ci_1 ?_
            refine g_iadd (pc := 65) hX dX0_smallest_65 ?_
            refine G.topi (nI_1 D) ?_
            refine g_iload_n (pc := 66) (i := 2) hX dX0_smallest_66 rfl rfl ?_
            refine g_icmp_ge (pc := 67) (tgt := 79) hX dX0_smallest_67 (by decide) (fun c4 => ?_) (fun c4 => ?_)
            · exact pop (Or.inr (Or.inl (le_of_nI c4 (by omega) (by omega))))
            · have hDb : D + 1 < b' := gt_of_nI c4 (by omega) (by omega)
              refine g_aload_n (pc := 70) (i := 0) hX dX0_smallest_70 rfl rfl ?_
              refine x0_g26 (pc := 71) hX dX0_smallest_71 ?_
              refine g_iload_n (pc := 74) (i := 3) hX dX0_smallest_74 rfl rfl ?_
              refine x0_l26 (pc := 75) hX dX0_smallest_75 rfl (by omega) (show _ = nI (O D) from e26) ?_
              refine g_if_ne (pc := 76) (tgt := 85) hX dX0_smallest_76 (by decide) (fun c5 => ?_) (fun c5 => ?_)
              · have hO0 : O D ≠ 0 := fun q => c5 (by rw [q]; rfl)
                obtain ⟨t, ht, htO, hlow, hsub, hsub64⟩ := low_bit (O D) hOD hO0
                have hIb : smI (km w T M) al M A l O (D + 1) b' s := by
                  rcases hb' with ⟨q, -⟩ | ⟨-, e⟩
                  · exact absurd q hl0
                  · rw [e]; exact hI
                refine g_aload_n (pc := 85) (i := 0) hX dX0_smallest_85 rfl rfl ?_
                refine x0_g26 (pc := 86) hX dX0_smallest_86 ?_
                refine g_iload_n (pc := 89) (i := 3) hX dX0_smallest_89 rfl rfl ?_
                refine x0_l26 (pc := 90) hX dX0_smallest_90 rfl (by omega) (show _ = nI (O D) from e26) ?_
                refine g_aload_n (pc := 91) (i := 0) hX dX0_smallest_91 rfl rfl ?_
                refine x0_g26 (pc := 92) hX dX0_smallest_92 ?_
                refine g_iload_n (pc := 95) (i := 3) hX dX0_smallest_95 rfl rfl ?_
                refine x0_l26 (pc := 96) hX dX0_smallest_96 rfl (by omega) (show _ = nI (O D) from e26) ?_
                refine g_ineg (pc := 97) hX dX0_smallest_97 ?_
                refine g_iand (pc := 98) hX dX0_smallest_98 ?_
                refine G.topi hlow ?_
                refine g_ist5n (pc := 99) hX dX0_smallest_99 (by decide) ?_
                refine g_aload_n (pc := 101) (i := 0) hX dX0_smallest_101 rfl rfl ?_
                refine x0_g26 (pc := 102) hX dX0_smallest_102 ?_
                refine g_iload_n (pc := 105) (i := 3) hX dX0_smallest_105 rfl rfl ?_
                refine g_dup2 (pc := 106) hX dX0_smallest_106 ?_
                refine x0_l26 (pc := 107) hX dX0_smallest_107 rfl (by omega) (show _ = nI (O D) from e26) ?_
                refine g_iload (pc := 108) hX dX0_smallest_108 rfl ?_
                refine g_isub (pc := 110) hX dX0_smallest_110 ?_
                refine G.topi hsub ?_
                refine x0_s26 (pc := 111) hX dX0_smallest_111 rfl (by omega) ?_
                refine g_aload_n (pc := 112) (i := 0) hX dX0_smallest_112 rfl rfl ?_
                refine x0_g25 (pc := 113) hX dX0_smallest_113 ?_
                refine g_iload_n (pc := 116) (i := 3) hX dX0_smallest_116 rfl rfl ?_
                refine x0_l25 (pc := 117) hX dX0_smallest_117 rfl (by omega) (show _ = nI (l D) from e25) ?_
                refine g_aload_n (pc := 118) (i := 0) hX dX0_smallest_118 rfl rfl ?_
                refine g_iload (pc := 119) hX dX0_smallest_119 rfl ?_
                refine G.eqw (ws' := x0W E ad (smS u lI (upd oI D (nI (O D - 2 ^ t))))) ?_ ?_
                · show x0W E ad (va_up (smS u lI oI) 26 (upd (smS u lI oI 26) D (nI (O D - 2 ^ t)))) = _
                  rw [smS_26]
                  rfl
                refine g_calli0 (pc := 121) hX (m0_killsOf E ad (smS u lI (upd oI D (nI (O D - 2 ^ t)))) t ht) (x0_wf E ad) Y0_killsOf q232 dX0_smallest_121 rfl rfl (Nat.le_of_ble_eq_true rfl) (by decide) (fun r u1 hr => ?_)
                obtain ⟨rfl, rfl⟩ := hr
                refine G.topi (show _ = nI (km w T M t) from hkm t ht) ?_
                refine g_iconst (pc := 124) (v := (-1)) hX dX0_smallest_124 ci_m1 ?_
                refine g_ixor (pc := 125) hX dX0_smallest_125 ?_
                refine g_iand (pc := 126) hX dX0_smallest_126 ?_
                refine G.topi (bn_dif (l D) (km w T M t)) ?_
                have hdl : dif (l D) (km w T M t) < 2 ^ 24 := dif_lt _ hlD
                refine g_ist6n (pc := 127) hX dX0_smallest_127 (by decide) ?_
                first | refine g_inc3N (pc := 129) hX dX0_smallest_129 (by decide) ?_ | refine g_inc3 (pc := 129) hX dX0_smallest_129 (by decide) ?_
                refine g_aload_n (pc := 132) (i := 0) hX dX0_smallest_132 rfl rfl ?_
                refine x0_g25 (pc := 133) hX dX0_smallest_133 ?_
                refine g_iload_n (pc := 136) (i := 3) hX dX0_smallest_136 rfl rfl ?_
                refine g_iload (pc := 137) hX dX0_smallest_137 rfl ?_
                refine x0_s25 (pc := 139) hX dX0_smallest_139 rfl (by omega) ?_
                refine g_aload_n (pc := 140) (i := 0) hX dX0_smallest_140 rfl rfl ?_
                refine x0_g26 (pc := 141) hX dX0_smallest_141 ?_
                refine g_iload_n (pc := 144) (i := 3) hX dX0_smallest_144 rfl rfl ?_
                refine g_aload_n (pc := 145) (i := 0) hX dX0_smallest_145 rfl rfl ?_
                refine g_iload (pc := 146) hX dX0_smallest_146 rfl ?_
                refine G.eqw (ws' := x0W E ad (smS u (upd lI (D + 1) (nI (dif (l D) (km w T M t)))) (upd oI D (nI (O D - 2 ^ t))))) ?_ ?_
                · show x0W E ad (va_up (smS u lI (upd oI D (nI (O D - 2 ^ t)))) 25 (upd (smS u lI (upd oI D (nI (O D - 2 ^ t))) 25) (D + 1) (nI (dif (l D) (km w T M t))))) = _
                  rw [smS_25]
                  rfl
                refine g_calli0 (pc := 148) hX (m0_choices E ad (smS u (upd lI (D + 1) (nI (dif (l D) (km w T M t)))) (upd oI D (nI (O D - 2 ^ t)))) w T M (dif (l D) (km w T M t)) hts hms hT hM hdl (fun t' ht' => hkm t' (by omega))) (x0_wf E ad) Y0_choices q228 dX0_smallest_148 rfl rfl (Nat.le_of_ble_eq_true rfl) (by decide) (fun r u1 hr => ?_)
                obtain ⟨rfl, o, rfl, hch⟩ := hr
                refine x0_s26 (pc := 151) hX dX0_smallest_151 rfl (by omega) ?_
                first | refine g_inc4N (pc := 152) hX dX0_smallest_152 (by decide) ?_ | refine g_inc4 (pc := 152) hX dX0_smallest_152 (by decide) ?_
                refine g_goto (pc := 155) (tgt := 26) hX dX0_smallest_155 (by decide) ?_
                refine G.take 5 rfl ?_
                refine G.eqw (ws' := x0W E ad (smS u (upd lI (D + 1) (nI (dif (l D) (km w T M t)))) (upd (upd oI D (nI (O D - 2 ^ t))) (D + 1) (nI o)))) ?_ ?_
                · show x0W E ad (va_up (smS u (upd lI (D + 1) (nI (dif (l D) (km w T M t)))) (upd oI D (nI (O D - 2 ^ t)))) 26 (upd (smS u (upd lI (D + 1) (nI (dif (l D) (km w T M t)))) (upd oI D (nI (O D - 2 ^ t))) 26) (D + 1) (nI o))) = _
                  rw [smS_26]
                  rfl
                refine G.eqL (L' := [.ref (ad 0), x1, .int (nI b'), .int (nI (D + 2) - 1), .int (nI (s + 1))]) (by rw [nI_pred]; rfl) ?_
                refine ih (s + 1) (by omega) (D + 2) b' (va_up l (D + 1) (dif (l D) (km w T M t))) (va_up (va_up O D (O D - 2 ^ t)) (D + 1) o) _ _ (sm_push hks hIb hl0 hDb ht htO hch (fun i hi => gu_ne _ _ (by omega)) (gu_same _ _ _) (fun i hi => by rw [gu_ne _ _ (by omega), gu_ne _ _ (by omega)]) (by rw [gu_ne _ _ (by omega), gu_same]) (gu_same _ _ _)) (fun i hi => ?_) (fun i hi => ?_)
                · by_cases e : i = D + 1
                  · subst e; rw [upd_same, gu_same]
                  · rw [upd_ne _ _ e, gu_ne _ _ e]; exact h1 i (by omega)
                · by_cases e : i = D + 1
                  · subst e; rw [upd_same, gu_same]
                  · rw [upd_ne _ _ e, gu_ne _ _ e]
                    by_cases e2 : i = D
                    · subst e2; rw [upd_same, gu_same]
                    · rw [upd_ne _ _ e2, gu_ne _ _ e2]; exact h2 i (by omega)
              · exact pop (Or.inr (Or.inr ((nI_eq (by omega) (by decide)).mp c5)))
        refine g_iload_n (pc := 34) (i := 3) hX dX0_smallest_34 rfl rfl ?_
        refine g_if_lt (pc := 35) (tgt := 158) hX dX0_smallest_35 (by decide) (fun c2 => ?_) (fun c2 => ?_)
        · exact absurd c2 (nI_pos (by omega))
        · refine g_aload_n (pc := 38) (i := 0) hX dX0_smallest_38 rfl rfl ?_
          refine x0_g25 (pc := 39) hX dX0_smallest_39 ?_
          refine g_iload_n (pc := 42) (i := 3) hX dX0_smallest_42 rfl rfl ?_
          refine x0_l25 (pc := 43) hX dX0_smallest_43 rfl (by omega) (show _ = nI (l D) from e25) ?_
          refine g_if_ne (pc := 44) (tgt := 54) hX dX0_smallest_44 (by decide) (fun c3 => ?_) (fun c3 => ?_)
          · exact join b (Or.inr ⟨Or.inl (fun q => c3 (by rw [q]; rfl)), rfl⟩)
          · have hl0 : l D = 0 := (nI_eq (by omega) (by decide)).mp c3
            refine g_iload_n (pc := 47) (i := 3) hX dX0_smallest_47 rfl rfl ?_
            refine g_iload_n (pc := 48) (i := 2) hX dX0_smallest_48 rfl rfl ?_
            refine g_icmp_ge (pc := 49) (tgt := 54) hX dX0_smallest_49 (by decide) (fun c4 => ?_) (fun c4 => ?_)
            · exact join b (Or.inr ⟨Or.inr (le_of_nI c4 (by omega) (by omega)), rfl⟩)
            · refine g_iload_n (pc := 52) (i := 3) hX dX0_smallest_52 rfl rfl ?_
              refine g_ist2s (pc := 53) hX dX0_smallest_53 (by decide) ?_
              exact join D (Or.inl ⟨hl0, gt_of_nI c4 (by omega) (by omega), rfl⟩)
theorem m0_smallest (E : gE) (ad : Nat → Nat) (u w : GU) (T M al A : Nat) (hts : u 4 0 = nI T) (hms : u 9 0 = nI M) (hT : T ≤ 6) (hM : M ≤ 24) (hkm : ∀ t, t < 6 → u 24 t = nI (km w T M t)) (hal : al < 2 ^ M) (hA : isA (km w T M) al A) (hA6 : A ≤ 6) : gM E yX0_smallest cX0_smallest 7 (some .int) (rmX 2 49) (x0W E ad) [.ref (ad 0), .int (nI al)] u (fun r u' => (∀ k, k < 25 → u' k = u k) ∧ r = nI A) := by
  refine gM_of (by decide) (Nat.le_of_ble_eq_true rfl) rfl (fun _ _ _ => rfl) (fun X hX hE => ?_)
  have hM24 : 2 ^ M ≤ 2 ^ 24 := Nat.pow_le_pow_right (by decide) hM
  refine g_bipush (pc := 0) (v := nI 7) hX dX0_smallest_0 cb_7 ?_
  refine g_ist2n (pc := 2) hX dX0_smallest_2 (by decide) ?_
  refine g_iconst (pc := 3) (v := 0) hX dX0_smallest_3 ci_0 ?_
  refine g_ist3n (pc := 4) hX dX0_smallest_4 (by decide) ?_
  refine g_aload_n (pc := 5) (i := 0) hX dX0_smallest_5 rfl rfl ?_
  refine x0_g25 (pc := 6) hX dX0_smallest_6 ?_
  refine g_iconst (pc := 9) (v := 0) hX dX0_smallest_9 ci_0 ?_
  refine g_iload_n (pc := 10) (i := 1) hX dX0_smallest_10 rfl rfl ?_
  refine x0_s25 (pc := 11) hX dX0_smallest_11 (show (0 : Int32) = nI 0 from rfl) (by decide) ?_
  refine g_aload_n (pc := 12) (i := 0) hX dX0_smallest_12 rfl rfl ?_
  refine x0_g26 (pc := 13) hX dX0_smallest_13 ?_
  refine g_iconst (pc := 16) (v := 0) hX dX0_smallest_16 ci_0 ?_
  refine g_aload_n (pc := 17) (i := 0) hX dX0_smallest_17 rfl rfl ?_
  refine g_iload_n (pc := 18) (i := 1) hX dX0_smallest_18 rfl rfl ?_
  refine g_calli0 (pc := 19) hX (m0_choices E ad (va_up u 25 (upd (u 25) 0 (nI al))) w T M al hts hms hT hM (Nat.lt_of_lt_of_le hal hM24) (fun t ht => hkm t (by omega))) (x0_wf E ad) Y0_choices q228 dX0_smallest_19 rfl rfl (Nat.le_of_ble_eq_true rfl) (by decide) (fun r u1 hr => ?_)
  obtain ⟨rfl, o, rfl, hch⟩ := hr
  refine x0_s26 (pc := 22) hX dX0_smallest_22 (show (0 : Int32) = nI 0 from rfl) (by decide) ?_
  refine g_iconst (pc := 23) (v := 0) hX dX0_smallest_23 ci_0 ?_
  refine g_ist4n (pc := 24) hX dX0_smallest_24 (by decide) ?_
  refine G.eqw (ws' := x0W E ad (smS u (upd (u 25) 0 (nI al)) (upd (u 26) 0 (nI o)))) rfl ?_
  refine sm_loop hX u w T M al A hts hms hT hM hkm hA hA6 _ (fun lI oI L => ?_) 16000 0 rfl 1 7 (fun _ => al) (fun _ => o) _ _ (sm_start (ks_ok w hT) hal hA.1 hch rfl rfl) (fun i hi => ?_) (fun i hi => ?_)
  · refine hE _ _ _ _ ⟨fun k hk => ?_, rfl⟩ dX0_smallest_159
    unfold smS
    rw [gu_ne _ _ (by omega), gu_ne _ _ (by omega)]
  · have e : i = 0 := by omega
    subst e
    exact upd_same _ _ _
  · have e : i = 0 := by omega
    subst e
    exact upd_same _ _ _
def alK (K : Nat → Nat) (T : Nat) : Nat := orK K (fun _ => true) T
theorem en_loop {E : gE} {X : gC} {ad : Nat → Nat} (hX : gK E X cX0_enough 3 RX0 (rmX 7 166)) (u : GU) (K : Nat → Nat) (T : Nat) (hts : u 4 0 = nI T) (hT : T ≤ 6) (h24 : ∀ t, t < 6 → u 24 t = nI (K t))
    (hk : G E X 3 0 0 (x0W E ad u) 31 [.ref (ad 0), .int (nI (alK K T)), .int (nI T)] []) :
    ∀ (f t : Nat), t + f = T → G E X 3 0 0 (x0W E ad u) 8 [.ref (ad 0), .int (nI (alK K t)), .int (nI t)] [] := by
  intro f
  induction f with
  | zero =>
    intro t ht
    have e : t = T := by omega
    subst e
    refine g_iload_n (pc := 8) (i := 2) hX dX0_enough_8 rfl rfl ?_
    refine g_aload_n (pc := 9) (i := 0) hX dX0_enough_9 rfl rfl ?_
    refine x0_g4 (pc := 10) hX dX0_enough_10 hts ?_
    refine g_icmp_ge (pc := 13) (tgt := 31) hX dX0_enough_13 (by decide) (fun c1 => ?_) (fun c1 => ?_)
    · exact hk
    · exact absurd (nI_le (Nat.le_refl t) (by omega)) c1
  | succ f ih =>
    intro t ht
    refine g_iload_n (pc := 8) (i := 2) hX dX0_enough_8 rfl rfl ?_
    refine g_aload_n (pc := 9) (i := 0) hX dX0_enough_9 rfl rfl ?_
    refine x0_g4 (pc := 10) hX dX0_enough_10 hts ?_
    refine g_icmp_ge (pc := 13) (tgt := 31) hX dX0_enough_13 (by decide) (fun c1 => ?_) (fun c1 => ?_)
    · exact absurd c1 (nI_ge (by omega) (by omega))
    · refine g_iload_n (pc := 16) (i := 1) hX dX0_enough_16 rfl rfl ?_
      refine g_aload_n (pc := 17) (i := 0) hX dX0_enough_17 rfl rfl ?_
      refine x0_g24 (pc := 18) hX dX0_enough_18 ?_
      refine g_iload_n (pc := 21) (i := 2) hX dX0_enough_21 rfl rfl ?_
      refine x0_l24 (pc := 22) hX dX0_enough_22 rfl (by omega) (h24 t (by omega)) ?_
      refine g_ior (pc := 23) hX dX0_enough_23 ?_
      refine G.topi (bn_or _ _) ?_
      refine g_ist1s (pc := 24) hX dX0_enough_24 (by decide) ?_
      first | refine g_inc2N (pc := 25) hX dX0_enough_25 (by decide) ?_ | refine g_inc2 (pc := 25) hX dX0_enough_25 (by decide) ?_
      refine g_goto (pc := 28) (tgt := 8) hX dX0_enough_28 (by decide) ?_
      exact ih (t + 1) (by omega)
theorem m0_enough (E : gE) (ad : Nat → Nat) (u : GU) (n T M A : Nat) (hw : wf u n T M) (hr : okR u T M) (hA : isA (km u T M) (alK (km u T M) T) A) (hA6 : A ≤ 6) : gM E yX0_enough cX0_enough 3 (some .int) (rmX 7 166) (x0W E ad) [.ref (ad 0)] u (fun r u' => quQ u T M u' ∧ r = nI A) := by
  refine gM_of (by decide) (Nat.le_of_ble_eq_true rfl) rfl (fun _ _ _ => rfl) (fun X hX hE => ?_)
  have hw0 := hw
  obtain ⟨hsz, hn, hts, hT, hms, hM, hrg, hwh, -⟩ := hw
  refine g_aload_n (pc := 0) (i := 0) hX dX0_enough_0 rfl rfl ?_
  refine g_callv0 (pc := 1) hX (m0_gatherKills E ad u n T M hw0 hr) (x0_wf E ad) Y0_gatherKills q193 dX0_enough_1 rfl rfl (Nat.le_of_ble_eq_true rfl) (by decide) (fun u1 hg => ?_)
  obtain ⟨hc, h13, hrd, hkm⟩ := hg
  have h4 : u1 4 0 = nI T := by rw [hc 4 (by decide)]; exact hts
  have h9 : u1 9 0 = nI M := by rw [hc 9 (by decide)]; exact hms
  refine g_iconst (pc := 4) (v := 0) hX dX0_enough_4 ci_0 ?_
  refine g_ist1n (pc := 5) hX dX0_enough_5 (by decide) ?_
  refine g_iconst (pc := 6) (v := 0) hX dX0_enough_6 ci_0 ?_
  refine g_ist2n (pc := 7) hX dX0_enough_7 (by decide) ?_
  refine en_loop hX u1 (km u T M) T h4 hT hkm ?_ T 0 (by omega)
  refine g_aload_n (pc := 31) (i := 0) hX dX0_enough_31 rfl rfl ?_
  refine g_iload_n (pc := 32) (i := 1) hX dX0_enough_32 rfl rfl ?_
  refine g_calli0 (pc := 33) hX (m0_smallest E ad u1 u T M (alK (km u T M) T) A h4 h9 hT hM hkm (orK_lt (fun t => bset_lt _ M) T) hA hA6) (x0_wf E ad) Y0_smallest q224 dX0_enough_33 rfl rfl (Nat.le_of_ble_eq_true rfl) (by decide) (fun r u2 h2 => ?_)
  obtain ⟨h2, rfl⟩ := h2
  refine hE _ _ _ _ ⟨⟨fun k hk => (h2 k (by omega)).trans (hc k hk), Or.inr ⟨by rw [h2 13 (by decide)]; exact h13, ?_⟩⟩, rfl⟩ dX0_enough_36
  exact cs_rdy (fun k hk => h2 k (by omega)) (fun k _ hk => h2 k (by omega)) hrd
end
section
section
variable {E : gE} {X : gC} {cc : ByteArray} {nL : Nat} {own : String} {rm : Room} {ce sl : Nat} {ws : va_W} {pc : Nat} {L st : List Value}
theorem g_ist7s (hX : gK E X cc nL own rm) {v0 v1 v2 v3 v4 v5 v6 w : Value} {t : List Value} {x : Int32} (hd : decode cc pc = .ok (.istore 7, 2)) (hn : 7 < nL) (k : G E X nL ce sl ws (pc + 2) (v0 :: v1 :: v2 :: v3 :: v4 :: v5 :: v6 :: .int x :: t) st) : G E X nL ce sl ws pc (v0 :: v1 :: v2 :: v3 :: v4 :: v5 :: v6 :: w :: t) (.int x :: st) :=
  g_istore hX hd (by simp) hn (by simp [gset]) k
theorem g_ist7n (hX : gK E X cc nL own rm) {v0 v1 v2 v3 v4 v5 v6 : Value} {x : Int32} (hd : decode cc pc = .ok (.istore 7, 2)) (hn : 7 < nL) (k : G E X nL ce sl ws (pc + 2) (v0 :: v1 :: v2 :: v3 :: v4 :: v5 :: v6 :: .int x :: []) st) : G E X nL ce sl ws pc [v0, v1, v2, v3, v4, v5, v6] (.int x :: st) :=
  g_istore hX hd (by simp) hn (by simp [gset]) k
end
end
section
/-! MutantLabModel: emit, tests, mutants, clear -/
def e1_emit (v : GU) (n : Nat) (o rg c : Int32) : Int32 × GU :=
  if o < 0 ∨ nI 7 < o then (-1, v) else if n < 12 then (nI n, gput (va_up (va_up (va_up (va_up v 1 (upd (v 1) n o)) 2 (upd (v 2) n (rg &&& 3))) 3 (upd (v 3) n ((rg >>> ((2 : Int32) &&& 31)) &&& 3))) 4 (upd (v 4) n c)) 0 (nI (n + 1))) else (-2, v)
theorem m1_emit (E : gE) (ad : Nat → Nat) (v : GU) (n : Nat) (o rg c : Int32) (hsz : v 0 0 = nI n) (hn : n ≤ 12) : gM E yX1_emit cX1_emit 4 (some .int) (rmX 0 0) (x1W E ad) [.ref (ad 0), .int o, .int rg, .int c] v (fun r v' => e1_emit v n o rg c = (r, v')) := by
  refine gM_of (by decide) (Nat.le_of_ble_eq_true rfl) rfl (fun _ _ _ => rfl) (fun X hX hE => ?_)
  refine g_iload_n (pc := 0) (i := 1) hX dX1_emit_0 rfl rfl ?_
  refine g_if_lt (pc := 1) (tgt := 10) hX dX1_emit_1 (by decide) (fun c1 => ?_) (fun c1 => ?_)
  · refine g_iconst (pc := 10) (v := (-1)) hX dX1_emit_10 ci_m1 ?_
    exact hE _ _ _ _ (if_pos (Or.inl c1)) dX1_emit_11
  · refine g_iload_n (pc := 4) (i := 1) hX dX1_emit_4 rfl rfl ?_
    refine g_bipush (pc := 5) (v := nI 7) hX dX1_emit_5 cb_7 ?_
    refine g_icmp_le (pc := 7) (tgt := 12) hX dX1_emit_7 (by decide) (fun c2 => ?_) (fun c2 => ?_)
    · have h0 : ¬ (o < 0 ∨ nI 7 < o) := by
        rintro (h | h)
        · exact c1 h
        · rw [Int32.lt_iff_toInt_lt] at h
          rw [Int32.le_iff_toInt_le] at c2
          omega
      refine g_aload_n (pc := 12) (i := 0) hX dX1_emit_12 rfl rfl ?_
      refine x1_g0 (pc := 13) hX dX1_emit_13 hsz ?_
      refine g_bipush (pc := 16) (v := nI 12) hX dX1_emit_16 cb_12 ?_
      refine g_icmp_ne (pc := 18) (tgt := 24) hX dX1_emit_18 (by decide) (fun c3 => ?_) (fun c3 => ?_)
      · have hn' : n < 12 := by
          rcases Nat.lt_or_ge n 12 with q | q
          · exact q
          · exact absurd (show nI n = nI 12 by rw [show n = 12 by omega]) c3
        refine g_aload_n (pc := 24) (i := 0) hX dX1_emit_24 rfl rfl ?_
        refine x1_g1 (pc := 25) hX dX1_emit_25 ?_
        refine g_aload_n (pc := 28) (i := 0) hX dX1_emit_28 rfl rfl ?_
        refine x1_g0 (pc := 29) hX dX1_emit_29 hsz ?_
        refine g_iload_n (pc := 32) (i := 1) hX dX1_emit_32 rfl rfl ?_
        refine x1_s1 (pc := 33) hX dX1_emit_33 rfl (by first | assumption | omega) ?_
        refine g_aload_n (pc := 34) (i := 0) hX dX1_emit_34 rfl rfl ?_
        refine x1_g2 (pc := 35) hX dX1_emit_35 ?_
        refine g_aload_n (pc := 38) (i := 0) hX dX1_emit_38 rfl rfl ?_
        refine x1_g0 (pc := 39) hX dX1_emit_39 hsz ?_
        refine g_iload_n (pc := 42) (i := 2) hX dX1_emit_42 rfl rfl ?_
        refine g_iconst (pc := 43) (v := 3) hX dX1_emit_43 ci_3 ?_
        refine g_iand (pc := 44) hX dX1_emit_44 ?_
        refine x1_s2 (pc := 45) hX dX1_emit_45 rfl (by first | assumption | omega) ?_
        refine g_aload_n (pc := 46) (i := 0) hX dX1_emit_46 rfl rfl ?_
        refine x1_g3 (pc := 47) hX dX1_emit_47 ?_
        refine g_aload_n (pc := 50) (i := 0) hX dX1_emit_50 rfl rfl ?_
        refine x1_g0 (pc := 51) hX dX1_emit_51 hsz ?_
        refine g_iload_n (pc := 54) (i := 2) hX dX1_emit_54 rfl rfl ?_
        refine g_iconst (pc := 55) (v := 2) hX dX1_emit_55 ci_2 ?_
        refine g_ishr (pc := 56) hX dX1_emit_56 ?_
        refine g_iconst (pc := 57) (v := 3) hX dX1_emit_57 ci_3 ?_
        refine g_iand (pc := 58) hX dX1_emit_58 ?_
        refine x1_s3 (pc := 59) hX dX1_emit_59 rfl (by first | assumption | omega) ?_
        refine g_aload_n (pc := 60) (i := 0) hX dX1_emit_60 rfl rfl ?_
        refine x1_g4 (pc := 61) hX dX1_emit_61 ?_
        refine g_aload_n (pc := 64) (i := 0) hX dX1_emit_64 rfl rfl ?_
        refine x1_g0 (pc := 65) hX dX1_emit_65 hsz ?_
        refine g_iload_n (pc := 68) (i := 3) hX dX1_emit_68 rfl rfl ?_
        refine x1_s4 (pc := 69) hX dX1_emit_69 rfl (by first | assumption | omega) ?_
        refine g_aload_n (pc := 70) (i := 0) hX dX1_emit_70 rfl rfl ?_
        refine g_aload_n (pc := 71) (i := 0) hX dX1_emit_71 rfl rfl ?_
        refine x1_g0 (pc := 72) hX dX1_emit_72 hsz ?_
        refine g_iconst (pc := 75) (v := 1) hX dX1_emit_75 ci_1 ?_
        refine g_iadd (pc := 76) hX dX1_emit_76 ?_
        refine G.topi (nI_1 n) ?_
        refine x1_p0 (pc := 77) hX dX1_emit_77 ?_
        refine g_aload_n (pc := 80) (i := 0) hX dX1_emit_80 rfl rfl ?_
        refine x1_g0 (pc := 81) hX dX1_emit_81 (show _ = nI (n + 1) from rfl) ?_
        refine g_iconst (pc := 84) (v := 1) hX dX1_emit_84 ci_1 ?_
        refine g_isub (pc := 85) hX dX1_emit_85 ?_
        refine G.topi (nI_pred n) ?_
        exact hE _ _ _ _ ((if_neg h0).trans ((if_pos hn').trans rfl)) dX1_emit_86
      · have hn' : ¬ n < 12 := fun q => by have := (nI_eq (by omega) (by decide)).mp c3; omega
        refine g_bipush (pc := 21) (v := -2) hX dX1_emit_21 cb_m2 ?_
        exact hE _ _ _ _ ((if_neg h0).trans ((if_neg hn').trans rfl)) dX1_emit_23
    · have h0 : o < 0 ∨ nI 7 < o := by
        right
        rw [Int32.le_iff_toInt_le] at c2
        rw [Int32.lt_iff_toInt_lt]
        omega
      refine g_iconst (pc := 10) (v := (-1)) hX dX1_emit_10 ci_m1 ?_
      exact hE _ _ _ _ (if_pos h0) dX1_emit_11
def e1_add (v : GU) (t : Nat) (x y z w : Int32) : GU := gput (va_up (va_up (va_up (va_up v 6 (upd (v 6) t x)) 7 (upd (v 7) t y)) 8 (upd (v 8) t z)) 9 (upd (v 9) t w)) 5 (nI (t + 1))
theorem m1_add (E : gE) (ad : Nat → Nat) (v : GU) (t : Nat) (x y z w : Int32) (hts : v 5 0 = nI t) (ht : t < 6) (hz : z = 0 ∨ z = 1) : gM E yX1_add cX1_add 5 (some .int) (rmX 0 0) (x1W E ad) [.ref (ad 0), .int x, .int y, .int z, .int w] v (fun r v' => r = nI t ∧ v' = e1_add v t x y z w) := by
  refine gM_of (by decide) (Nat.le_of_ble_eq_true rfl) rfl (fun _ _ _ => rfl) (fun X hX hE => ?_)
  refine g_aload_n (pc := 0) (i := 0) hX dX1_add_0 rfl rfl ?_
  refine x1_g6 (pc := 1) hX dX1_add_1 ?_
  refine g_aload_n (pc := 4) (i := 0) hX dX1_add_4 rfl rfl ?_
  refine x1_g5 (pc := 5) hX dX1_add_5 hts ?_
  refine g_iload_n (pc := 8) (i := 1) hX dX1_add_8 rfl rfl ?_
  refine x1_s6 (pc := 9) hX dX1_add_9 rfl (by first | assumption | omega) ?_
  refine g_aload_n (pc := 10) (i := 0) hX dX1_add_10 rfl rfl ?_
  refine x1_g7 (pc := 11) hX dX1_add_11 ?_
  refine g_aload_n (pc := 14) (i := 0) hX dX1_add_14 rfl rfl ?_
  refine x1_g5 (pc := 15) hX dX1_add_15 hts ?_
  refine g_iload_n (pc := 18) (i := 2) hX dX1_add_18 rfl rfl ?_
  refine x1_s7 (pc := 19) hX dX1_add_19 rfl (by first | assumption | omega) ?_
  refine g_aload_n (pc := 20) (i := 0) hX dX1_add_20 rfl rfl ?_
  refine x1_g8 (pc := 21) hX dX1_add_21 ?_
  refine g_aload_n (pc := 24) (i := 0) hX dX1_add_24 rfl rfl ?_
  refine x1_g5 (pc := 25) hX dX1_add_25 hts ?_
  refine g_iload_n (pc := 28) (i := 3) hX dX1_add_28 rfl rfl ?_
  refine x1_s8 (pc := 29) hX dX1_add_29 rfl (by first | assumption | omega) (nz01 hz) ?_
  refine g_aload_n (pc := 30) (i := 0) hX dX1_add_30 rfl rfl ?_
  refine x1_g9 (pc := 31) hX dX1_add_31 ?_
  refine g_aload_n (pc := 34) (i := 0) hX dX1_add_34 rfl rfl ?_
  refine x1_g5 (pc := 35) hX dX1_add_35 hts ?_
  refine g_iload (pc := 38) hX dX1_add_38 rfl ?_
  refine x1_s9 (pc := 40) hX dX1_add_40 rfl (by first | assumption | omega) ?_
  refine g_aload_n (pc := 41) (i := 0) hX dX1_add_41 rfl rfl ?_
  refine g_aload_n (pc := 42) (i := 0) hX dX1_add_42 rfl rfl ?_
  refine x1_g5 (pc := 43) hX dX1_add_43 hts ?_
  refine g_iconst (pc := 46) (v := 1) hX dX1_add_46 ci_1 ?_
  refine g_iadd (pc := 47) hX dX1_add_47 ?_
  refine G.topi (nI_1 t) ?_
  refine x1_p5 (pc := 48) hX dX1_add_48 ?_
  refine g_aload_n (pc := 51) (i := 0) hX dX1_add_51 rfl rfl ?_
  refine x1_g5 (pc := 52) hX dX1_add_52 (show _ = nI (t + 1) from rfl) ?_
  refine g_iconst (pc := 55) (v := 1) hX dX1_add_55 ci_1 ?_
  refine g_isub (pc := 56) hX dX1_add_56 ?_
  refine G.topi (nI_pred t) ?_
  exact hE _ _ _ _ (⟨rfl, rfl⟩) dX1_add_57
theorem m1_test (E : gE) (ad : Nat → Nat) (v : GU) (t : Nat) (x y w : Int32) (hts : v 5 0 = nI t) (ht : t ≤ 6) : gM E yX1_test cX1_test 4 (some .int) (rmX 1 24) (x1W E ad) [.ref (ad 0), .int x, .int y, .int w] v (fun r v' => if t < 6 then (r = nI t ∧ v' = e1_add v t x y 1 w) else (r = -2 ∧ v' = v)) := by
  refine gM_of (by decide) (Nat.le_of_ble_eq_true rfl) rfl (fun _ _ _ => rfl) (fun X hX hE => ?_)
  refine g_aload_n (pc := 0) (i := 0) hX dX1_test_0 rfl rfl ?_
  refine x1_g5 (pc := 1) hX dX1_test_1 hts ?_
  refine g_bipush (pc := 4) (v := nI 6) hX dX1_test_4 cb_6 ?_
  refine g_icmp_ne (pc := 6) (tgt := 12) hX dX1_test_6 (by decide) (fun c1 => ?_) (fun c1 => ?_)
  · have ht' : t < 6 := by
      rcases Nat.lt_or_ge t 6 with q | q
      · exact q
      · exact absurd (show nI t = nI 6 by rw [show t = 6 by omega]) c1
    refine g_aload_n (pc := 12) (i := 0) hX dX1_test_12 rfl rfl ?_
    refine g_iload_n (pc := 13) (i := 1) hX dX1_test_13 rfl rfl ?_
    refine g_iload_n (pc := 14) (i := 2) hX dX1_test_14 rfl rfl ?_
    refine g_iconst (pc := 15) (v := 1) hX dX1_test_15 ci_1 ?_
    refine g_iload_n (pc := 16) (i := 3) hX dX1_test_16 rfl rfl ?_
    refine g_calli0 (pc := 17) hX (m1_add E ad v t x y 1 w hts ht' (Or.inr rfl)) (x1_wf E ad) Y1_add q310 dX1_test_17 rfl rfl (Nat.le_of_ble_eq_true rfl) (by decide) (fun r v' hp => ?_)
    exact hE _ _ _ _ (by show if t < 6 then _ else _; rw [if_pos ht']; exact hp) dX1_test_20
  · have ht' : ¬ t < 6 := fun q => by have := (nI_eq (by omega) (by decide)).mp c1; omega
    refine g_bipush (pc := 9) (v := -2) hX dX1_test_9 cb_m2 ?_
    exact hE _ _ _ _ (by show if t < 6 then _ else _; rw [if_neg ht']; exact ⟨rfl, rfl⟩) dX1_test_11
def e1_mutate (v : GU) (m : Nat) (p z c : Int32) : Int32 × GU :=
  if m < 24 then (nI m, gput (va_up (va_up (va_up v 11 (upd (v 11) m p)) 12 (upd (v 12) m z)) 13 (upd (v 13) m c)) 10 (nI (m + 1))) else (-2, v)
theorem m1_mutate (E : gE) (ad : Nat → Nat) (v : GU) (m : Nat) (p z c : Int32) (hms : v 10 0 = nI m) (hm : m ≤ 24) (hz : z = 0 ∨ z = 1) : gM E yX1_mutate cX1_mutate 4 (some .int) (rmX 0 0) (x1W E ad) [.ref (ad 0), .int p, .int z, .int c] v (fun r v' => e1_mutate v m p z c = (r, v')) := by
  refine gM_of (by decide) (Nat.le_of_ble_eq_true rfl) rfl (fun _ _ _ => rfl) (fun X hX hE => ?_)
  refine g_aload_n (pc := 0) (i := 0) hX dX1_mutate_0 rfl rfl ?_
  refine x1_g10 (pc := 1) hX dX1_mutate_1 hms ?_
  refine g_bipush (pc := 4) (v := nI 24) hX dX1_mutate_4 cb_24 ?_
  refine g_icmp_ne (pc := 6) (tgt := 12) hX dX1_mutate_6 (by decide) (fun c3 => ?_) (fun c3 => ?_)
  · have hm' : m < 24 := by
      rcases Nat.lt_or_ge m 24 with q | q
      · exact q
      · exact absurd (show nI m = nI 24 by rw [show m = 24 by omega]) c3
    refine g_aload_n (pc := 12) (i := 0) hX dX1_mutate_12 rfl rfl ?_
    refine x1_g11 (pc := 13) hX dX1_mutate_13 ?_
    refine g_aload_n (pc := 16) (i := 0) hX dX1_mutate_16 rfl rfl ?_
    refine x1_g10 (pc := 17) hX dX1_mutate_17 hms ?_
    refine g_iload_n (pc := 20) (i := 1) hX dX1_mutate_20 rfl rfl ?_
    refine x1_s11 (pc := 21) hX dX1_mutate_21 rfl (by first | assumption | omega) ?_
    refine g_aload_n (pc := 22) (i := 0) hX dX1_mutate_22 rfl rfl ?_
    refine x1_g12 (pc := 23) hX dX1_mutate_23 ?_
    refine g_aload_n (pc := 26) (i := 0) hX dX1_mutate_26 rfl rfl ?_
    refine x1_g10 (pc := 27) hX dX1_mutate_27 hms ?_
    refine g_iload_n (pc := 30) (i := 2) hX dX1_mutate_30 rfl rfl ?_
    refine x1_s12 (pc := 31) hX dX1_mutate_31 rfl (by first | assumption | omega) (nz01 hz) ?_
    refine g_aload_n (pc := 32) (i := 0) hX dX1_mutate_32 rfl rfl ?_
    refine x1_g13 (pc := 33) hX dX1_mutate_33 ?_
    refine g_aload_n (pc := 36) (i := 0) hX dX1_mutate_36 rfl rfl ?_
    refine x1_g10 (pc := 37) hX dX1_mutate_37 hms ?_
    refine g_iload_n (pc := 40) (i := 3) hX dX1_mutate_40 rfl rfl ?_
    refine x1_s13 (pc := 41) hX dX1_mutate_41 rfl (by first | assumption | omega) ?_
    refine g_aload_n (pc := 42) (i := 0) hX dX1_mutate_42 rfl rfl ?_
    refine g_aload_n (pc := 43) (i := 0) hX dX1_mutate_43 rfl rfl ?_
    refine x1_g10 (pc := 44) hX dX1_mutate_44 hms ?_
    refine g_iconst (pc := 47) (v := 1) hX dX1_mutate_47 ci_1 ?_
    refine g_iadd (pc := 48) hX dX1_mutate_48 ?_
    refine G.topi (nI_1 m) ?_
    refine x1_p10 (pc := 49) hX dX1_mutate_49 ?_
    refine g_aload_n (pc := 52) (i := 0) hX dX1_mutate_52 rfl rfl ?_
    refine x1_g10 (pc := 53) hX dX1_mutate_53 (show _ = nI (m + 1) from rfl) ?_
    refine g_iconst (pc := 56) (v := 1) hX dX1_mutate_56 ci_1 ?_
    refine g_isub (pc := 57) hX dX1_mutate_57 ?_
    refine G.topi (nI_pred m) ?_
    exact hE _ _ _ _ ((if_pos hm').trans rfl) dX1_mutate_58
  · have hm' : ¬ m < 24 := fun q => by have := (nI_eq (by omega) (by decide)).mp c3; omega
    refine g_bipush (pc := 9) (v := -2) hX dX1_mutate_9 cb_m2 ?_
    exact hE _ _ _ _ ((if_neg hm').trans rfl) dX1_mutate_11
def e1_mutateOp (v : GU) (m : Nat) (p o : Int32) : Int32 × GU :=
  if p < 0 ∨ v 0 0 ≤ p then (-3, v) else if o < 0 ∨ nI 7 < o then (-1, v) else e1_mutate v m p 1 o
def e1_mutateC (v : GU) (m : Nat) (p c : Int32) : Int32 × GU :=
  if p < 0 ∨ v 0 0 ≤ p then (-3, v) else e1_mutate v m p 0 c
theorem m1_mutateOp (E : gE) (ad : Nat → Nat) (v : GU) (m : Nat) (p o : Int32) (hms : v 10 0 = nI m) (hm : m ≤ 24) : gM E yX1_mutateOp cX1_mutateOp 3 (some .int) (rmX 1 23) (x1W E ad) [.ref (ad 0), .int p, .int o] v (fun r v' => e1_mutateOp v m p o = (r, v')) := by
  refine gM_of (by decide) (Nat.le_of_ble_eq_true rfl) rfl (fun _ _ _ => rfl) (fun X hX hE => ?_)
  refine g_iload_n (pc := 0) (i := 1) hX dX1_mutateOp_0 rfl rfl ?_
  refine g_if_lt (pc := 1) (tgt := 12) hX dX1_mutateOp_1 (by decide) (fun c1 => ?_) (fun c1 => ?_)
  · refine g_bipush (pc := 12) (v := -3) hX dX1_mutateOp_12 cb_m3 ?_
    exact hE _ _ _ _ (if_pos (Or.inl c1)) dX1_mutateOp_14
  · refine g_iload_n (pc := 4) (i := 1) hX dX1_mutateOp_4 rfl rfl ?_
    refine g_aload_n (pc := 5) (i := 0) hX dX1_mutateOp_5 rfl rfl ?_
    refine x1_g0 (pc := 6) hX dX1_mutateOp_6 rfl ?_
    refine g_icmp_lt (pc := 9) (tgt := 15) hX dX1_mutateOp_9 (by decide) (fun c2 => ?_) (fun c2 => ?_)
    · have h0 : ¬ (p < 0 ∨ v 0 0 ≤ p) := noI_not c1 c2
      refine g_iload_n (pc := 15) (i := 2) hX dX1_mutateOp_15 rfl rfl ?_
      refine g_if_lt (pc := 16) (tgt := 25) hX dX1_mutateOp_16 (by decide) (fun c3 => ?_) (fun c3 => ?_)
      · refine g_iconst (pc := 25) (v := (-1)) hX dX1_mutateOp_25 ci_m1 ?_
        exact hE _ _ _ _ ((if_neg h0).trans (if_pos (Or.inl c3))) dX1_mutateOp_26
      · refine g_iload_n (pc := 19) (i := 2) hX dX1_mutateOp_19 rfl rfl ?_
        refine g_bipush (pc := 20) (v := nI 7) hX dX1_mutateOp_20 cb_7 ?_
        refine g_icmp_le (pc := 22) (tgt := 27) hX dX1_mutateOp_22 (by decide) (fun c4 => ?_) (fun c4 => ?_)
        · have h1 : ¬ (o < 0 ∨ nI 7 < o) := by
            rintro (h | h)
            · exact c3 h
            · rw [Int32.lt_iff_toInt_lt] at h
              rw [Int32.le_iff_toInt_le] at c4
              omega
          refine g_aload_n (pc := 27) (i := 0) hX dX1_mutateOp_27 rfl rfl ?_
          refine g_iload_n (pc := 28) (i := 1) hX dX1_mutateOp_28 rfl rfl ?_
          refine g_iconst (pc := 29) (v := 1) hX dX1_mutateOp_29 ci_1 ?_
          refine g_iload_n (pc := 30) (i := 2) hX dX1_mutateOp_30 rfl rfl ?_
          refine g_calli0 (pc := 31) hX (m1_mutate E ad v m p 1 o hms hm (Or.inr rfl)) (x1_wf E ad) Y1_mutate q330 dX1_mutateOp_31 rfl rfl (Nat.le_of_ble_eq_true rfl) (by decide) (fun r v' hp => ?_)
          exact hE _ _ _ _ ((if_neg h0).trans ((if_neg h1).trans hp)) dX1_mutateOp_34
        · have h1 : o < 0 ∨ nI 7 < o := by
            right
            rw [Int32.le_iff_toInt_le] at c4
            rw [Int32.lt_iff_toInt_lt]
            omega
          refine g_iconst (pc := 25) (v := (-1)) hX dX1_mutateOp_25 ci_m1 ?_
          exact hE _ _ _ _ ((if_neg h0).trans (if_pos h1)) dX1_mutateOp_26
    · refine g_bipush (pc := 12) (v := -3) hX dX1_mutateOp_12 cb_m3 ?_
      exact hE _ _ _ _ (if_pos (noI_ge c2)) dX1_mutateOp_14
theorem m1_mutateC (E : gE) (ad : Nat → Nat) (v : GU) (m : Nat) (p c : Int32) (hms : v 10 0 = nI m) (hm : m ≤ 24) : gM E yX1_mutateC cX1_mutateC 3 (some .int) (rmX 1 23) (x1W E ad) [.ref (ad 0), .int p, .int c] v (fun r v' => e1_mutateC v m p c = (r, v')) := by
  refine gM_of (by decide) (Nat.le_of_ble_eq_true rfl) rfl (fun _ _ _ => rfl) (fun X hX hE => ?_)
  refine g_iload_n (pc := 0) (i := 1) hX dX1_mutateC_0 rfl rfl ?_
  refine g_if_lt (pc := 1) (tgt := 12) hX dX1_mutateC_1 (by decide) (fun c1 => ?_) (fun c1 => ?_)
  · refine g_bipush (pc := 12) (v := -3) hX dX1_mutateC_12 cb_m3 ?_
    exact hE _ _ _ _ (if_pos (Or.inl c1)) dX1_mutateC_14
  · refine g_iload_n (pc := 4) (i := 1) hX dX1_mutateC_4 rfl rfl ?_
    refine g_aload_n (pc := 5) (i := 0) hX dX1_mutateC_5 rfl rfl ?_
    refine x1_g0 (pc := 6) hX dX1_mutateC_6 rfl ?_
    refine g_icmp_lt (pc := 9) (tgt := 15) hX dX1_mutateC_9 (by decide) (fun c2 => ?_) (fun c2 => ?_)
    · have h0 : ¬ (p < 0 ∨ v 0 0 ≤ p) := noI_not c1 c2
      refine g_aload_n (pc := 15) (i := 0) hX dX1_mutateC_15 rfl rfl ?_
      refine g_iload_n (pc := 16) (i := 1) hX dX1_mutateC_16 rfl rfl ?_
      refine g_iconst (pc := 17) (v := 0) hX dX1_mutateC_17 ci_0 ?_
      refine g_iload_n (pc := 18) (i := 2) hX dX1_mutateC_18 rfl rfl ?_
      refine g_calli0 (pc := 19) hX (m1_mutate E ad v m p 0 c hms hm (Or.inl rfl)) (x1_wf E ad) Y1_mutate q330 dX1_mutateC_19 rfl rfl (Nat.le_of_ble_eq_true rfl) (by decide) (fun r v' hp => ?_)
      exact hE _ _ _ _ ((if_neg h0).trans hp) dX1_mutateC_22
    · refine g_bipush (pc := 12) (v := -3) hX dX1_mutateC_12 cb_m3 ?_
      exact hE _ _ _ _ (if_pos (noI_ge c2)) dX1_mutateC_14
def e1_clear (v : GU) : GU := gput (gput v 5 0) 10 0
theorem m1_clear (E : gE) (ad : Nat → Nat) (v : GU) : gV E yX1_clear cX1_clear 1 (rmX 0 0) (x1W E ad) [.ref (ad 0)] v (fun v' => e1_clear v = v') := by
  refine gV_of (by decide) (Nat.le_of_ble_eq_true rfl) rfl (fun X hX hE => ?_)
  refine g_aload_n (pc := 0) (i := 0) hX dX1_clear_0 rfl rfl ?_
  refine g_iconst (pc := 1) (v := 0) hX dX1_clear_1 ci_0 ?_
  refine x1_p5 (pc := 2) hX dX1_clear_2 ?_
  refine g_aload_n (pc := 5) (i := 0) hX dX1_clear_5 rfl rfl ?_
  refine g_iconst (pc := 6) (v := 0) hX dX1_clear_6 ci_0 ?_
  refine x1_p10 (pc := 7) hX dX1_clear_7 ?_
  exact hE _ _ _ (rfl) dX1_clear_10
/-! MutantLabModel: one instruction, a run -/
theorem m1_carryOut (E : gE) (ad : Nat → Nat) (v : GU) (a b : Nat) (o c p : Int32) (ha : a < 4) (hb : b < 4) : gM E yX1_carryOut cX1_carryOut 6 (some .int) (rmX 0 0) (x1W E ad) [.ref (ad 0), .int o, .int (nI a), .int (nI b), .int c, .int p] v (fun r v' => r = sP o c a b (v 14) p ∧ v' = va_up v 14 (sR o c a b (v 14))) := by
  refine gM_of (by decide) (Nat.le_of_ble_eq_true rfl) rfl (fun _ _ _ => rfl) (fun X hX hE => ?_)
  refine g_iload_n (pc := 0) (i := 1) hX dX1_carryOut_0 rfl rfl ?_
  refine g_if_ne (pc := 1) (tgt := 15) hX dX1_carryOut_1 (by decide) (fun h0 => ?_) (fun h0 => ?_)
  · refine g_iload_n (pc := 15) (i := 1) hX dX1_carryOut_15 rfl rfl ?_
    refine g_iconst (pc := 16) (v := 1) hX dX1_carryOut_16 ci_1 ?_
    refine g_icmp_ne (pc := 17) (tgt := 42) hX dX1_carryOut_17 (by decide) (fun h1 => ?_) (fun h1 => ?_)
    · refine g_iload_n (pc := 42) (i := 1) hX dX1_carryOut_42 rfl rfl ?_
      refine g_iconst (pc := 43) (v := 2) hX dX1_carryOut_43 ci_2 ?_
      refine g_icmp_ne (pc := 44) (tgt := 69) hX dX1_carryOut_44 (by decide) (fun h2 => ?_) (fun h2 => ?_)
      · refine g_iload_n (pc := 69) (i := 1) hX dX1_carryOut_69 rfl rfl ?_
        refine g_iconst (pc := 70) (v := 3) hX dX1_carryOut_70 ci_3 ?_
        refine g_icmp_ne (pc := 71) (tgt := 96) hX dX1_carryOut_71 (by decide) (fun h3 => ?_) (fun h3 => ?_)
        · refine g_iload_n (pc := 96) (i := 1) hX dX1_carryOut_96 rfl rfl ?_
          refine g_iconst (pc := 97) (v := 4) hX dX1_carryOut_97 ci_4 ?_
          refine g_icmp_ne (pc := 98) (tgt := 140) hX dX1_carryOut_98 (by decide) (fun h4 => ?_) (fun h4 => ?_)
          · refine g_iload_n (pc := 140) (i := 1) hX dX1_carryOut_140 rfl rfl ?_
            refine g_iconst (pc := 141) (v := 5) hX dX1_carryOut_141 ci_5 ?_
            refine g_icmp_ne (pc := 142) (tgt := 170) hX dX1_carryOut_142 (by decide) (fun h5 => ?_) (fun h5 => ?_)
            · refine g_iload_n (pc := 170) (i := 1) hX dX1_carryOut_170 rfl rfl ?_
              refine g_bipush (pc := 171) (v := nI 6) hX dX1_carryOut_171 cb_6 ?_
              refine g_icmp_ne (pc := 173) (tgt := 195) hX dX1_carryOut_173 (by decide) (fun h6 => ?_) (fun h6 => ?_)
              · refine g_aload_n (pc := 195) (i := 0) hX dX1_carryOut_195 rfl rfl ?_
                refine x1_g14 (pc := 196) hX dX1_carryOut_196 ?_
                refine g_iload_n (pc := 199) (i := 2) hX dX1_carryOut_199 rfl rfl ?_
                refine g_aload_n (pc := 200) (i := 0) hX dX1_carryOut_200 rfl rfl ?_
                refine x1_g14 (pc := 201) hX dX1_carryOut_201 ?_
                refine g_iload_n (pc := 204) (i := 2) hX dX1_carryOut_204 rfl rfl ?_
                refine x1_l14 (pc := 205) hX dX1_carryOut_205 rfl (by first | assumption | omega) rfl ?_
                refine g_iload (pc := 206) hX dX1_carryOut_206 rfl ?_
                refine g_iadd (pc := 208) hX dX1_carryOut_208 ?_
                refine x1_s14 (pc := 209) hX dX1_carryOut_209 rfl (by first | assumption | omega) ?_
                refine g_iload (pc := 210) hX dX1_carryOut_210 rfl ?_
                refine g_iconst (pc := 212) (v := 1) hX dX1_carryOut_212 ci_1 ?_
                refine g_iadd (pc := 213) hX dX1_carryOut_213 ?_
                exact hE _ _ _ _ (⟨(sP_n h5 h6).symm, congrArg (va_up v 14) (sR_d h0 h1 h2 h3 h4 h5 h6).symm⟩) dX1_carryOut_214
              · have h6' : o = 6 := h6
                subst h6'
                have e : v = va_up v 14 (sR 6 c a b (v 14)) := by rw [sR_6, gu_self]
                refine g_aload_n (pc := 176) (i := 0) hX dX1_carryOut_176 rfl rfl ?_
                refine x1_g14 (pc := 177) hX dX1_carryOut_177 ?_
                refine g_iload_n (pc := 180) (i := 2) hX dX1_carryOut_180 rfl rfl ?_
                refine x1_l14 (pc := 181) hX dX1_carryOut_181 rfl (by first | assumption | omega) rfl ?_
                refine g_if_ne (pc := 182) (tgt := 190) hX dX1_carryOut_182 (by decide) (fun c1 => ?_) (fun c1 => ?_)
                · refine g_iload (pc := 190) hX dX1_carryOut_190 rfl ?_
                  refine g_iconst (pc := 192) (v := 1) hX dX1_carryOut_192 ci_1 ?_
                  refine g_iadd (pc := 193) hX dX1_carryOut_193 ?_
                  exact hE _ _ _ _ (⟨(sP_6f c1).symm, e⟩) dX1_carryOut_194
                · refine g_iload (pc := 185) hX dX1_carryOut_185 rfl ?_
                  refine g_goto (pc := 187) (tgt := 194) hX dX1_carryOut_187 (by decide) ?_
                  exact hE _ _ _ _ (⟨(sP_6t c1).symm, e⟩) dX1_carryOut_194
            · subst h5
              have e : v = va_up v 14 (sR 5 c a b (v 14)) := by rw [sR_5, gu_self]
              refine g_aload_n (pc := 145) (i := 0) hX dX1_carryOut_145 rfl rfl ?_
              refine x1_g14 (pc := 146) hX dX1_carryOut_146 ?_
              refine g_iload_n (pc := 149) (i := 2) hX dX1_carryOut_149 rfl rfl ?_
              refine x1_l14 (pc := 150) hX dX1_carryOut_150 rfl (by first | assumption | omega) rfl ?_
              refine g_aload_n (pc := 151) (i := 0) hX dX1_carryOut_151 rfl rfl ?_
              refine x1_g14 (pc := 152) hX dX1_carryOut_152 ?_
              refine g_iload_n (pc := 155) (i := 3) hX dX1_carryOut_155 rfl rfl ?_
              refine x1_l14 (pc := 156) hX dX1_carryOut_156 rfl (by first | assumption | omega) rfl ?_
              refine g_icmp_ge (pc := 157) (tgt := 165) hX dX1_carryOut_157 (by decide) (fun c1 => ?_) (fun c1 => ?_)
              · refine g_iload (pc := 165) hX dX1_carryOut_165 rfl ?_
                refine g_iconst (pc := 167) (v := 1) hX dX1_carryOut_167 ci_1 ?_
                refine g_iadd (pc := 168) hX dX1_carryOut_168 ?_
                exact hE _ _ _ _ (⟨(sP_5f (nlt_of_le c1)).symm, e⟩) dX1_carryOut_169
              · refine g_iload (pc := 160) hX dX1_carryOut_160 rfl ?_
                refine g_goto (pc := 162) (tgt := 169) hX dX1_carryOut_162 (by decide) ?_
                exact hE _ _ _ _ (⟨(sP_5t (lt_of_nle c1)).symm, e⟩) dX1_carryOut_169
          · subst h4
            refine g_aload_n (pc := 101) (i := 0) hX dX1_carryOut_101 rfl rfl ?_
            refine x1_g14 (pc := 102) hX dX1_carryOut_102 ?_
            refine g_iload_n (pc := 105) (i := 2) hX dX1_carryOut_105 rfl rfl ?_
            refine g_aload_n (pc := 106) (i := 0) hX dX1_carryOut_106 rfl rfl ?_
            refine x1_g14 (pc := 107) hX dX1_carryOut_107 ?_
            refine g_iload_n (pc := 110) (i := 3) hX dX1_carryOut_110 rfl rfl ?_
            refine x1_l14 (pc := 111) hX dX1_carryOut_111 rfl (by first | assumption | omega) rfl ?_
            refine g_aload_n (pc := 112) (i := 0) hX dX1_carryOut_112 rfl rfl ?_
            refine x1_g14 (pc := 113) hX dX1_carryOut_113 ?_
            refine g_iload_n (pc := 116) (i := 2) hX dX1_carryOut_116 rfl rfl ?_
            refine x1_l14 (pc := 117) hX dX1_carryOut_117 rfl (by first | assumption | omega) rfl ?_
            refine g_icmp_ge (pc := 118) (tgt := 130) hX dX1_carryOut_118 (by decide) (fun c1 => ?_) (fun c1 => ?_)
            · refine g_aload_n (pc := 130) (i := 0) hX dX1_carryOut_130 rfl rfl ?_
              refine x1_g14 (pc := 131) hX dX1_carryOut_131 ?_
              refine g_iload_n (pc := 134) (i := 2) hX dX1_carryOut_134 rfl rfl ?_
              refine x1_l14 (pc := 135) hX dX1_carryOut_135 rfl (by first | assumption | omega) rfl ?_
              refine x1_s14 (pc := 136) hX dX1_carryOut_136 rfl (by first | assumption | omega) ?_
              refine g_goto (pc := 137) (tgt := 210) hX dX1_carryOut_137 (by decide) ?_
              refine g_iload (pc := 210) hX dX1_carryOut_210 rfl ?_
              refine g_iconst (pc := 212) (v := 1) hX dX1_carryOut_212 ci_1 ?_
              refine g_iadd (pc := 213) hX dX1_carryOut_213 ?_
              exact hE _ _ _ _ (⟨(sP_n (by decide) (by decide)).symm, congrArg (va_up v 14) (by rw [sR_4, ← i32_min, if_neg (nlt_of_le c1)])⟩) dX1_carryOut_214
            · refine g_aload_n (pc := 121) (i := 0) hX dX1_carryOut_121 rfl rfl ?_
              refine x1_g14 (pc := 122) hX dX1_carryOut_122 ?_
              refine g_iload_n (pc := 125) (i := 3) hX dX1_carryOut_125 rfl rfl ?_
              refine x1_l14 (pc := 126) hX dX1_carryOut_126 rfl (by first | assumption | omega) rfl ?_
              refine g_goto (pc := 127) (tgt := 136) hX dX1_carryOut_127 (by decide) ?_
              refine x1_s14 (pc := 136) hX dX1_carryOut_136 rfl (by first | assumption | omega) ?_
              refine g_goto (pc := 137) (tgt := 210) hX dX1_carryOut_137 (by decide) ?_
              refine g_iload (pc := 210) hX dX1_carryOut_210 rfl ?_
              refine g_iconst (pc := 212) (v := 1) hX dX1_carryOut_212 ci_1 ?_
              refine g_iadd (pc := 213) hX dX1_carryOut_213 ?_
              exact hE _ _ _ _ (⟨(sP_n (by decide) (by decide)).symm, congrArg (va_up v 14) (by rw [sR_4, ← i32_min, if_pos (lt_of_nle c1)])⟩) dX1_carryOut_214
        · subst h3
          refine g_aload_n (pc := 74) (i := 0) hX dX1_carryOut_74 rfl rfl ?_
          refine x1_g14 (pc := 75) hX dX1_carryOut_75 ?_
          refine g_iload_n (pc := 78) (i := 2) hX dX1_carryOut_78 rfl rfl ?_
          refine g_aload_n (pc := 79) (i := 0) hX dX1_carryOut_79 rfl rfl ?_
          refine x1_g14 (pc := 80) hX dX1_carryOut_80 ?_
          refine g_iload_n (pc := 83) (i := 2) hX dX1_carryOut_83 rfl rfl ?_
          refine x1_l14 (pc := 84) hX dX1_carryOut_84 rfl (by first | assumption | omega) rfl ?_
          refine g_aload_n (pc := 85) (i := 0) hX dX1_carryOut_85 rfl rfl ?_
          refine x1_g14 (pc := 86) hX dX1_carryOut_86 ?_
          refine g_iload_n (pc := 89) (i := 3) hX dX1_carryOut_89 rfl rfl ?_
          refine x1_l14 (pc := 90) hX dX1_carryOut_90 rfl (by first | assumption | omega) rfl ?_
          refine g_imul (pc := 91) hX dX1_carryOut_91 ?_
          refine x1_s14 (pc := 92) hX dX1_carryOut_92 rfl (by first | assumption | omega) ?_
          refine g_goto (pc := 93) (tgt := 210) hX dX1_carryOut_93 (by decide) ?_
          refine g_iload (pc := 210) hX dX1_carryOut_210 rfl ?_
          refine g_iconst (pc := 212) (v := 1) hX dX1_carryOut_212 ci_1 ?_
          refine g_iadd (pc := 213) hX dX1_carryOut_213 ?_
          exact hE _ _ _ _ (⟨(sP_n (by decide) (by decide)).symm, congrArg (va_up v 14) sR_3.symm⟩) dX1_carryOut_214
      · subst h2
        refine g_aload_n (pc := 47) (i := 0) hX dX1_carryOut_47 rfl rfl ?_
        refine x1_g14 (pc := 48) hX dX1_carryOut_48 ?_
        refine g_iload_n (pc := 51) (i := 2) hX dX1_carryOut_51 rfl rfl ?_
        refine g_aload_n (pc := 52) (i := 0) hX dX1_carryOut_52 rfl rfl ?_
        refine x1_g14 (pc := 53) hX dX1_carryOut_53 ?_
        refine g_iload_n (pc := 56) (i := 2) hX dX1_carryOut_56 rfl rfl ?_
        refine x1_l14 (pc := 57) hX dX1_carryOut_57 rfl (by first | assumption | omega) rfl ?_
        refine g_aload_n (pc := 58) (i := 0) hX dX1_carryOut_58 rfl rfl ?_
        refine x1_g14 (pc := 59) hX dX1_carryOut_59 ?_
        refine g_iload_n (pc := 62) (i := 3) hX dX1_carryOut_62 rfl rfl ?_
        refine x1_l14 (pc := 63) hX dX1_carryOut_63 rfl (by first | assumption | omega) rfl ?_
        refine g_isub (pc := 64) hX dX1_carryOut_64 ?_
        refine x1_s14 (pc := 65) hX dX1_carryOut_65 rfl (by first | assumption | omega) ?_
        refine g_goto (pc := 66) (tgt := 210) hX dX1_carryOut_66 (by decide) ?_
        refine g_iload (pc := 210) hX dX1_carryOut_210 rfl ?_
        refine g_iconst (pc := 212) (v := 1) hX dX1_carryOut_212 ci_1 ?_
        refine g_iadd (pc := 213) hX dX1_carryOut_213 ?_
        exact hE _ _ _ _ (⟨(sP_n (by decide) (by decide)).symm, congrArg (va_up v 14) sR_2.symm⟩) dX1_carryOut_214
    · subst h1
      refine g_aload_n (pc := 20) (i := 0) hX dX1_carryOut_20 rfl rfl ?_
      refine x1_g14 (pc := 21) hX dX1_carryOut_21 ?_
      refine g_iload_n (pc := 24) (i := 2) hX dX1_carryOut_24 rfl rfl ?_
      refine g_aload_n (pc := 25) (i := 0) hX dX1_carryOut_25 rfl rfl ?_
      refine x1_g14 (pc := 26) hX dX1_carryOut_26 ?_
      refine g_iload_n (pc := 29) (i := 2) hX dX1_carryOut_29 rfl rfl ?_
      refine x1_l14 (pc := 30) hX dX1_carryOut_30 rfl (by first | assumption | omega) rfl ?_
      refine g_aload_n (pc := 31) (i := 0) hX dX1_carryOut_31 rfl rfl ?_
      refine x1_g14 (pc := 32) hX dX1_carryOut_32 ?_
      refine g_iload_n (pc := 35) (i := 3) hX dX1_carryOut_35 rfl rfl ?_
      refine x1_l14 (pc := 36) hX dX1_carryOut_36 rfl (by first | assumption | omega) rfl ?_
      refine g_iadd (pc := 37) hX dX1_carryOut_37 ?_
      refine x1_s14 (pc := 38) hX dX1_carryOut_38 rfl (by first | assumption | omega) ?_
      refine g_goto (pc := 39) (tgt := 210) hX dX1_carryOut_39 (by decide) ?_
      refine g_iload (pc := 210) hX dX1_carryOut_210 rfl ?_
      refine g_iconst (pc := 212) (v := 1) hX dX1_carryOut_212 ci_1 ?_
      refine g_iadd (pc := 213) hX dX1_carryOut_213 ?_
      exact hE _ _ _ _ (⟨(sP_n (by decide) (by decide)).symm, congrArg (va_up v 14) sR_1.symm⟩) dX1_carryOut_214
  · subst h0
    refine g_aload_n (pc := 4) (i := 0) hX dX1_carryOut_4 rfl rfl ?_
    refine x1_g14 (pc := 5) hX dX1_carryOut_5 ?_
    refine g_iload_n (pc := 8) (i := 2) hX dX1_carryOut_8 rfl rfl ?_
    refine g_iload (pc := 9) hX dX1_carryOut_9 rfl ?_
    refine x1_s14 (pc := 11) hX dX1_carryOut_11 rfl (by first | assumption | omega) ?_
    refine g_goto (pc := 12) (tgt := 210) hX dX1_carryOut_12 (by decide) ?_
    refine g_iload (pc := 210) hX dX1_carryOut_210 rfl ?_
    refine g_iconst (pc := 212) (v := 1) hX dX1_carryOut_212 ci_1 ?_
    refine g_iadd (pc := 213) hX dX1_carryOut_213 ?_
    exact hE _ _ _ _ (⟨(sP_n (by decide) (by decide)).symm, congrArg (va_up v 14) sR_0.symm⟩) dX1_carryOut_214
end
section
/-! MutantLabModel: a run -/
/-- the int that names the program or a mutant -/
def moI : Option Nat → Int32
  | none => -1
  | some m => nI m
def moK (M : Nat) : Option Nat → Prop
  | none => True
  | some m => m < M
def mS (v : GU) (R : Nat → Int32) (c : Nat) : GU := gput (va_up v 14 R) 16 (nI c)
theorem mS_step (v : GU) (R R' : Nat → Int32) (c : Nat) : gput (va_up (mS v R c) 14 R') 16 (nI (c + 1)) = mS v R' (c + 1) := by
  funext k
  unfold mS gput
  by_cases h : k = 16
  · subst h; rw [gu_same, gu_same]
  · rw [gu_ne _ _ h, gu_ne _ _ h]
    by_cases h2 : k = 14
    · subst h2; rw [gu_same, gu_same]
    · rw [gu_ne _ _ h2, gu_ne _ _ h2, gu_ne _ _ h, gu_ne _ _ h2]
theorem run_loop {E : gE} {X : gC} {ad : Nat → Nat} (hX : gK E X cX1_run 8 RX1 (rmX 1 25)) (u v : GU) (n T M : Nat) (hw : wf u n T M) (hv : rl u v) (mo : Option Nat) (hmo : moK M mo) (x2 x3 : Value) (S0 : Sx)
    (hk : ∀ (R : Nat → Int32) (p : Int32) (c : Nat) (q : Value), it (u 0 0) (oI u mo) 100 S0 = (R, p, c) → G E X 8 0 0 (x1W E ad (mS v R c)) 163 [.ref (ad 0), .int (moI mo), x2, x3, .int p, q] []) :
    ∀ (f k : Nat), k + f = 100 → ∀ (R : Nat → Int32) (p : Int32) (c : Nat), it (u 0 0) (oI u mo) k S0 = (R, p, c) → G E X 8 0 0 (x1W E ad (mS v R c)) 39 [.ref (ad 0), .int (moI mo), x2, x3, .int p, .int (nI k)] [] := by
  obtain ⟨hsz, hn, -, -, -, hM, hrg, hwh, -, hco⟩ := hw
  obtain ⟨v0, v1, v2, v3, v4, v5, v6, v7, v8, v9, v10, v11, v12, v13⟩ := hv
  have h0 : v 0 0 = nI n := v0.trans hsz
  intro f
  induction f with
  | zero =>
    intro k hkf R p c hit
    have e : k = 100 := by omega
    subst e
    refine g_iload (pc := 39) hX dX1_run_39 rfl ?_
    refine g_bipush (pc := 41) (v := nI 100) hX dX1_run_41 cb_100 ?_
    refine g_icmp_ge (pc := 43) (tgt := 163) hX dX1_run_43 (by decide) (fun c1 => ?_) (fun c1 => ?_)
    · exact hk R p c _ hit
    · exact absurd (nI_le (Nat.le_refl 100) (by decide)) c1
  | succ f ih =>
    intro k hkf R p c hit
    have out : ¬ ir (u 0 0) p → it (u 0 0) (oI u mo) (k + 1) S0 = (R, p, c) := fun h => by
      show sx (u 0 0) (oI u mo) (it (u 0 0) (oI u mo) k S0) = _
      rw [hit]
      exact sx_out h
    refine g_iload (pc := 39) hX dX1_run_39 rfl ?_
    refine g_bipush (pc := 41) (v := nI 100) hX dX1_run_41 cb_100 ?_
    refine g_icmp_ge (pc := 43) (tgt := 163) hX dX1_run_43 (by decide) (fun c1 => ?_) (fun c1 => ?_)
    · exact absurd c1 (nI_ge (by omega) (by decide))
    · refine g_iload (pc := 46) hX dX1_run_46 rfl ?_
      refine g_if_lt (pc := 48) (tgt := 157) hX dX1_run_48 (by decide) (fun c2 => ?_) (fun c2 => ?_)
      · first | refine g_inc5N (pc := 157) hX dX1_run_157 (by decide) ?_ | refine g_inc5 (pc := 157) hX dX1_run_157 (by decide) ?_
        refine g_goto (pc := 160) (tgt := 39) hX dX1_run_160 (by decide) ?_
        exact ih (k + 1) (by omega) R p c (out (fun h => h.1 c2))
      · refine g_iload (pc := 51) hX dX1_run_51 rfl ?_
        refine g_aload_n (pc := 53) (i := 0) hX dX1_run_53 rfl rfl ?_
        refine x1_g0 (pc := 54) hX dX1_run_54 (show _ = nI n from h0) ?_
        refine g_icmp_ge (pc := 57) (tgt := 157) hX dX1_run_57 (by decide) (fun c3 => ?_) (fun c3 => ?_)
        · first | refine g_inc5N (pc := 157) hX dX1_run_157 (by decide) ?_ | refine g_inc5 (pc := 157) hX dX1_run_157 (by decide) ?_
          refine g_goto (pc := 160) (tgt := 39) hX dX1_run_160 (by decide) ?_
          exact ih (k + 1) (by omega) R p c (out (fun h => nlt_of_le c3 (by have := h.2; rwa [hsz] at this)))
        · have hir : ir (u 0 0) p := ⟨c2, by rw [hsz]; exact lt_of_nle c3⟩
          obtain ⟨j, hj, rfl⟩ := ir_of hsz (by omega) hir
          have hstep : it (u 0 0) (oI u mo) (k + 1) S0 = (sR (oI u mo j).1 (oI u mo j).2.1 (rgN u j % 4) (rgN u j / 4) R, sP (oI u mo j).1 (oI u mo j).2.1 (rgN u j % 4) (rgN u j / 4) R (nI j), c + 1) := by
            show sx (u 0 0) (oI u mo) (it (u 0 0) (oI u mo) k S0) = _
            rw [hit, sx_in (by omega) hir]
            cases mo <;> rfl
          have hr16 := rgN_lt u j
          have join : ∀ o' c' : Int32, o' = (oI u mo j).1 → c' = (oI u mo j).2.1 → G E X 8 0 0 (x1W E ad (mS v R c)) 121 [.ref (ad 0), .int (moI mo), x2, x3, .int (nI j), .int (nI k), .int o', .int c'] [] := by
            intro o' c' ho hc
            rw [← ho, ← hc] at hstep
            refine g_aload_n (pc := 121) (i := 0) hX dX1_run_121 rfl rfl ?_
            refine g_iload (pc := 122) hX dX1_run_122 rfl ?_
            refine g_aload_n (pc := 124) (i := 0) hX dX1_run_124 rfl rfl ?_
            refine x1_g2 (pc := 125) hX dX1_run_125 ?_
            refine g_iload (pc := 128) hX dX1_run_128 rfl ?_
            refine x1_l2 (pc := 130) hX dX1_run_130 rfl (by omega) (show _ = nI (rgN u j % 4) from v2 j (by omega)) ?_
            refine g_aload_n (pc := 131) (i := 0) hX dX1_run_131 rfl rfl ?_
            refine x1_g3 (pc := 132) hX dX1_run_132 ?_
            refine g_iload (pc := 135) hX dX1_run_135 rfl ?_
            refine x1_l3 (pc := 137) hX dX1_run_137 rfl (by omega) (show _ = nI (rgN u j / 4) from v3 j (by omega)) ?_
            refine g_iload (pc := 138) hX dX1_run_138 rfl ?_
            refine g_iload (pc := 140) hX dX1_run_140 rfl ?_
            refine g_calli0 (pc := 142) hX (m1_carryOut E ad (mS v R c) (rgN u j % 4) (rgN u j / 4) o' c' (nI j) (by omega) (by omega)) (x1_wf E ad) Y1_carryOut q322 dX1_run_142 rfl rfl (Nat.le_of_ble_eq_true rfl) (by decide) (fun r w hq => ?_)
            obtain ⟨rfl, rfl⟩ := hq
            refine g_ist4s (pc := 145) hX dX1_run_145 (by decide) ?_
            refine g_aload_n (pc := 147) (i := 0) hX dX1_run_147 rfl rfl ?_
            refine g_aload_n (pc := 148) (i := 0) hX dX1_run_148 rfl rfl ?_
            refine x1_g16 (pc := 149) hX dX1_run_149 (show _ = nI c from rfl) ?_
            refine g_iconst (pc := 152) (v := 1) hX dX1_run_152 ci_1 ?_
            refine g_iadd (pc := 153) hX dX1_run_153 ?_
            refine G.topi (nI_1 c) ?_
            refine x1_p16 (pc := 154) hX dX1_run_154 ?_
            first | refine g_inc5N (pc := 157) hX dX1_run_157 (by decide) ?_ | refine g_inc5 (pc := 157) hX dX1_run_157 (by decide) ?_
            refine g_goto (pc := 160) (tgt := 39) hX dX1_run_160 (by decide) ?_
            refine G.take 6 rfl ?_
            refine G.eqw (ws' := x1W E ad (mS v (sR o' c' (rgN u j % 4) (rgN u j / 4) R) (c + 1))) (congrArg (x1W E ad) (mS_step v R _ c)) ?_
            exact ih (k + 1) (by omega) _ _ _ hstep
          refine g_aload_n (pc := 60) (i := 0) hX dX1_run_60 rfl rfl ?_
          refine x1_g1 (pc := 61) hX dX1_run_61 ?_
          refine g_iload (pc := 64) hX dX1_run_64 rfl ?_
          refine x1_l1 (pc := 66) hX dX1_run_66 rfl (by omega) (show _ = u 1 j from congrFun v1 j) ?_
          refine g_ist6n (pc := 67) hX dX1_run_67 (by decide) ?_
          refine g_aload_n (pc := 69) (i := 0) hX dX1_run_69 rfl rfl ?_
          refine x1_g4 (pc := 70) hX dX1_run_70 ?_
          refine g_iload (pc := 73) hX dX1_run_73 rfl ?_
          refine x1_l4 (pc := 75) hX dX1_run_75 rfl (by omega) (show _ = u 3 j from congrFun v4 j) ?_
          refine g_ist7n (pc := 76) hX dX1_run_76 (by decide) ?_
          refine g_iload_n (pc := 78) (i := 1) hX dX1_run_78 rfl rfl ?_
          cases mo with
          | none =>
            refine g_if_lt (pc := 79) (tgt := 121) hX dX1_run_79 (by decide) (fun c4 => ?_) (fun c4 => ?_)
            · exact join (u 1 j) (u 3 j) rfl rfl
            · exact absurd (show moI none < 0 by decide) c4
          | some m =>
            have hm : m < 24 := Nat.lt_of_lt_of_le hmo hM
            have hP : (oI u (some m) j).1 = if u 10 m = nI j then (if u 11 m = 0 then u 1 j else u 12 m) else u 1 j := rfl
            have hC : (oI u (some m) j).2.1 = if u 10 m = nI j then (if u 11 m = 0 then u 12 m else u 3 j) else u 3 j := rfl
            refine g_if_lt (pc := 79) (tgt := 121) hX dX1_run_79 (by decide) (fun c4 => ?_) (fun c4 => ?_)
            · exact absurd c4 (nI_pos (by omega))
            · refine g_aload_n (pc := 82) (i := 0) hX dX1_run_82 rfl rfl ?_
              refine x1_g11 (pc := 83) hX dX1_run_83 ?_
              refine g_iload_n (pc := 86) (i := 1) hX dX1_run_86 rfl rfl ?_
              refine x1_l11 (pc := 87) hX dX1_run_87 rfl (by first | assumption | omega) (show _ = u 10 m from congrFun v11 m) ?_
              refine g_iload (pc := 88) hX dX1_run_88 rfl ?_
              refine g_icmp_ne (pc := 90) (tgt := 121) hX dX1_run_90 (by decide) (fun c5 => ?_) (fun c5 => ?_)
              · exact join (u 1 j) (u 3 j) (by rw [hP, if_neg c5]) (by rw [hC, if_neg c5])
              · refine g_aload_n (pc := 93) (i := 0) hX dX1_run_93 rfl rfl ?_
                refine x1_g12 (pc := 94) hX dX1_run_94 ?_
                refine g_iload_n (pc := 97) (i := 1) hX dX1_run_97 rfl rfl ?_
                refine x1_l12 (pc := 98) hX dX1_run_98 rfl (by first | assumption | omega) (show _ = u 11 m from congrFun v12 m) ?_
                refine g_if_eq (pc := 99) (tgt := 113) hX dX1_run_99 (by decide) (fun c6 => ?_) (fun c6 => ?_)
                · refine g_aload_n (pc := 113) (i := 0) hX dX1_run_113 rfl rfl ?_
                  refine x1_g13 (pc := 114) hX dX1_run_114 ?_
                  refine g_iload_n (pc := 117) (i := 1) hX dX1_run_117 rfl rfl ?_
                  refine x1_l13 (pc := 118) hX dX1_run_118 rfl (by first | assumption | omega) (show _ = u 12 m from congrFun v13 m) ?_
                  refine g_ist7s (pc := 119) hX dX1_run_119 (by decide) ?_
                  exact join (u 1 j) (u 12 m) (by rw [hP, if_pos c5, if_pos c6]) (by rw [hC, if_pos c5, if_pos c6])
                · refine g_aload_n (pc := 102) (i := 0) hX dX1_run_102 rfl rfl ?_
                  refine x1_g13 (pc := 103) hX dX1_run_103 ?_
                  refine g_iload_n (pc := 106) (i := 1) hX dX1_run_106 rfl rfl ?_
                  refine x1_l13 (pc := 107) hX dX1_run_107 rfl (by first | assumption | omega) (show _ = u 12 m from congrFun v13 m) ?_
                  refine g_ist6s (pc := 108) hX dX1_run_108 (by decide) ?_
                  refine g_goto (pc := 110) (tgt := 121) hX dX1_run_110 (by decide) ?_
                  exact join (u 12 m) (u 3 j) (by rw [hP, if_pos c5, if_neg c6]) (by rw [hC, if_pos c5, if_neg c6])
/-- the reference's data as they were -/
def vs (v v' : GU) : Prop := ∀ k, k < 14 → v' k = v k
theorem vs_rf (v : GU) : vs v v := fun _ _ => rfl
theorem vs_tr {a b c : GU} (h : vs a b) (h' : vs b c) : vs a c := fun k hk => (h' k hk).trans (h k hk)
def rnQ (u v : GU) (mo : Option Nat) (x y : Int32) (v' : GU) : Prop := vs v v' ∧ v' 14 0 = (rxy u mo x y).1 0 ∧ v' 15 0 = eI (u 0 0) (rxy u mo x y).2.1 ∧ v' 16 0 = nI (rxy u mo x y).2.2
theorem m1_run (E : gE) (ad : Nat → Nat) (u v : GU) (n T M : Nat) (hw : wf u n T M) (hv : rl u v) (mo : Option Nat) (hmo : moK M mo) (x y : Int32) : gV E yX1_run cX1_run 8 (rmX 1 25) (x1W E ad) [.ref (ad 0), .int (moI mo), .int x, .int y] v (rnQ u v mo x y) := by
  refine gV_of (by decide) (Nat.le_of_ble_eq_true rfl) rfl (fun X hX hE => ?_)
  have h0 : v 0 0 = nI n := hv.1.trans hw.1
  refine g_aload_n (pc := 0) (i := 0) hX dX1_run_0 rfl rfl ?_
  refine x1_g14 (pc := 1) hX dX1_run_1 ?_
  refine g_iconst (pc := 4) (v := 0) hX dX1_run_4 ci_0 ?_
  refine g_iload_n (pc := 5) (i := 2) hX dX1_run_5 rfl rfl ?_
  refine x1_s14 (pc := 6) hX dX1_run_6 (show (0 : Int32) = nI 0 from rfl) (by decide) ?_
  refine g_aload_n (pc := 7) (i := 0) hX dX1_run_7 rfl rfl ?_
  refine x1_g14 (pc := 8) hX dX1_run_8 ?_
  refine g_iconst (pc := 11) (v := 1) hX dX1_run_11 ci_1 ?_
  refine g_iload_n (pc := 12) (i := 3) hX dX1_run_12 rfl rfl ?_
  refine x1_s14 (pc := 13) hX dX1_run_13 (show (1 : Int32) = nI 1 from rfl) (by decide) ?_
  refine g_aload_n (pc := 14) (i := 0) hX dX1_run_14 rfl rfl ?_
  refine x1_g14 (pc := 15) hX dX1_run_15 ?_
  refine g_iconst (pc := 18) (v := 2) hX dX1_run_18 ci_2 ?_
  refine g_iconst (pc := 19) (v := 0) hX dX1_run_19 ci_0 ?_
  refine x1_s14 (pc := 20) hX dX1_run_20 (show (2 : Int32) = nI 2 from rfl) (by decide) ?_
  refine g_aload_n (pc := 21) (i := 0) hX dX1_run_21 rfl rfl ?_
  refine x1_g14 (pc := 22) hX dX1_run_22 ?_
  refine g_iconst (pc := 25) (v := 3) hX dX1_run_25 ci_3 ?_
  refine g_iconst (pc := 26) (v := 0) hX dX1_run_26 ci_0 ?_
  refine x1_s14 (pc := 27) hX dX1_run_27 (show (3 : Int32) = nI 3 from rfl) (by decide) ?_
  refine g_aload_n (pc := 28) (i := 0) hX dX1_run_28 rfl rfl ?_
  refine g_iconst (pc := 29) (v := 0) hX dX1_run_29 ci_0 ?_
  refine x1_p16 (pc := 30) hX dX1_run_30 ?_
  refine g_iconst (pc := 33) (v := 0) hX dX1_run_33 ci_0 ?_
  refine g_ist4n (pc := 34) hX dX1_run_34 (by decide) ?_
  refine g_iconst (pc := 36) (v := 0) hX dX1_run_36 ci_0 ?_
  refine g_ist5n (pc := 37) hX dX1_run_37 (by decide) ?_
  refine G.eqw (ws' := x1W E ad (mS v (upd (upd (upd (upd (v 14) 0 x) 1 y) 2 0) 3 0) 0)) rfl ?_
  refine run_loop hX u v n T M hw hv mo hmo _ _ (upd (upd (upd (upd (v 14) 0 x) 1 y) 2 0) 3 0, 0, 0) (fun R p c q hres => ?_) 100 0 rfl _ 0 0 rfl
  have hsq := it_cong (z := u 0 0) (I := oI u mo) (oI_lt u mo) (x := (upd (upd (upd (upd (v 14) 0 x) 1 y) 2 0) 3 0, 0, 0)) (y := (R0 x y, 0, 0)) ⟨R0_eq (v 14) x y, rfl⟩ 100
  rw [hres] at hsq
  have hsq : sEq (R, p, c) (rxy u mo x y) := by unfold rxy; exact hsq
  have ep : p = (rxy u mo x y).2.1 := congrArg Prod.fst hsq.2
  have ec : c = (rxy u mo x y).2.2 := congrArg Prod.snd hsq.2
  have er : R 0 = (rxy u mo x y).1 0 := hsq.1 0 (by decide)
  have join : ∀ b : Int32, b = eI (u 0 0) p → G E X 8 0 0 (x1W E ad (mS v R c)) 183 [.ref (ad 0), .int (moI mo), .int x, .int y, .int p, q] [.int b, .ref (ad 0)] := by
    intro b hb
    have h01 : b = 0 ∨ b = 1 := by rw [hb]; exact eI_01 _ _
    refine x1_p15 (pc := 183) hX dX1_run_183 (nr01 h01) (fr01 h01) ?_
    refine hE _ _ _ ⟨fun k hk => ?_, er, ?_, ?_⟩ dX1_run_186
    · unfold mS gput
      rw [gu_ne _ _ (by omega), gu_ne _ _ (by omega), gu_ne _ _ (by omega)]
    · rw [← ep, ← hb]; rfl
    · rw [← ec]; rfl
  refine g_aload_n (pc := 163) (i := 0) hX dX1_run_163 rfl rfl ?_
  refine g_iload (pc := 164) hX dX1_run_164 rfl ?_
  refine g_if_lt (pc := 166) (tgt := 178) hX dX1_run_166 (by decide) (fun c1 => ?_) (fun c1 => ?_)
  · refine g_iconst (pc := 178) (v := 1) hX dX1_run_178 ci_1 ?_
    refine g_goto (pc := 179) (tgt := 183) hX dX1_run_179 (by decide) ?_
    exact join 1 (eI_join (Or.inl ⟨Or.inl c1, rfl⟩))
  · refine g_iload (pc := 169) hX dX1_run_169 rfl ?_
    refine g_aload_n (pc := 171) (i := 0) hX dX1_run_171 rfl rfl ?_
    refine x1_g0 (pc := 172) hX dX1_run_172 (show _ = nI n from h0) ?_
    refine g_icmp_lt (pc := 175) (tgt := 182) hX dX1_run_175 (by decide) (fun c2 => ?_) (fun c2 => ?_)
    · refine g_iconst (pc := 182) (v := 0) hX dX1_run_182 ci_0 ?_
      exact join 0 (eI_join (Or.inr ⟨⟨c1, by rw [hw.1]; exact c2⟩, rfl⟩))
    · refine g_iconst (pc := 178) (v := 1) hX dX1_run_178 ci_1 ?_
      refine g_goto (pc := 179) (tgt := 183) hX dX1_run_179 (by decide) ?_
      exact join 1 (eI_join (Or.inl ⟨Or.inr (by rw [hw.1]; exact c2), rfl⟩))
theorem m1_snapshotTest (E : gE) (ad : Nat → Nat) (u v : GU) (n T M : Nat) (hw : wf u n T M) (hv : rl u v) (x y : Int32) : gM E yX1_snapshotTest cX1_snapshotTest 3 (some .int) (rmX 2 52) (x1W E ad) [.ref (ad 0), .int x, .int y] v (fun r v' => if T < 6 then ∃ v1, vs v v1 ∧ r = nI T ∧ v' = e1_add v1 T x y (eI (u 0 0) (rxy u none x y).2.1) ((rxy u none x y).1 0) else (r = -2 ∧ v' = v)) := by
  refine gM_of (by decide) (Nat.le_of_ble_eq_true rfl) rfl (fun _ _ _ => rfl) (fun X hX hE => ?_)
  have hts : v 5 0 = nI T := hv.2.2.2.2.2.1.trans hw.2.2.1
  have hT : T ≤ 6 := hw.2.2.2.1
  refine g_aload_n (pc := 0) (i := 0) hX dX1_snapshotTest_0 rfl rfl ?_
  refine x1_g5 (pc := 1) hX dX1_snapshotTest_1 hts ?_
  refine g_bipush (pc := 4) (v := nI 6) hX dX1_snapshotTest_4 cb_6 ?_
  refine g_icmp_ne (pc := 6) (tgt := 12) hX dX1_snapshotTest_6 (by decide) (fun c1 => ?_) (fun c1 => ?_)
  · have ht' : T < 6 := by
      rcases Nat.lt_or_ge T 6 with q | q
      · exact q
      · exact absurd (show nI T = nI 6 by rw [show T = 6 by omega]) c1
    refine g_aload_n (pc := 12) (i := 0) hX dX1_snapshotTest_12 rfl rfl ?_
    refine g_iconst (pc := 13) (v := (-1)) hX dX1_snapshotTest_13 ci_m1 ?_
    refine g_iload_n (pc := 14) (i := 1) hX dX1_snapshotTest_14 rfl rfl ?_
    refine g_iload_n (pc := 15) (i := 2) hX dX1_snapshotTest_15 rfl rfl ?_
    refine g_callv0 (pc := 16) hX (m1_run E ad u v n T M hw hv none trivial x y) (x1_wf E ad) Y1_run q318 dX1_snapshotTest_16 rfl rfl (Nat.le_of_ble_eq_true rfl) (by decide) (fun v1 h1 => ?_)
    obtain ⟨g1, g2, g3, g4⟩ := h1
    have h5 : v1 5 0 = nI T := by rw [g1 5 (by decide)]; exact hts
    refine g_aload_n (pc := 19) (i := 0) hX dX1_snapshotTest_19 rfl rfl ?_
    refine g_iload_n (pc := 20) (i := 1) hX dX1_snapshotTest_20 rfl rfl ?_
    refine g_iload_n (pc := 21) (i := 2) hX dX1_snapshotTest_21 rfl rfl ?_
    refine g_aload_n (pc := 22) (i := 0) hX dX1_snapshotTest_22 rfl rfl ?_
    refine x1_g15 (pc := 23) hX dX1_snapshotTest_23 g3 ?_
    refine g_aload_n (pc := 26) (i := 0) hX dX1_snapshotTest_26 rfl rfl ?_
    refine x1_g14 (pc := 27) hX dX1_snapshotTest_27 ?_
    refine g_iconst (pc := 30) (v := 0) hX dX1_snapshotTest_30 ci_0 ?_
    refine x1_l14 (pc := 31) hX dX1_snapshotTest_31 (show (0 : Int32) = nI 0 from rfl) (by decide) g2 ?_
    refine g_calli0 (pc := 32) hX (m1_add E ad v1 T x y (eI (u 0 0) (rxy u none x y).2.1) ((rxy u none x y).1 0) h5 ht' (eI_01 _ _)) (x1_wf E ad) Y1_add q310 dX1_snapshotTest_32 rfl rfl (Nat.le_of_ble_eq_true rfl) (by decide) (fun r v2 h2 => ?_)
    refine hE _ _ _ _ ?_ dX1_snapshotTest_35
    show if T < 6 then _ else _
    rw [if_pos ht']
    exact ⟨v1, g1, h2.1, h2.2⟩
  · have ht' : ¬ T < 6 := fun q => by have := (nI_eq (by omega) (by decide)).mp c1; omega
    refine g_bipush (pc := 9) (v := -2) hX dX1_snapshotTest_9 cb_m2 ?_
    exact hE _ _ _ _ (by show if T < 6 then _ else _; rw [if_neg ht']; exact ⟨rfl, rfl⟩) dX1_snapshotTest_11
/-! MutantLabModel: questions -/
theorem m1_noTest (E : gE) (ad : Nat → Nat) (v : GU) (i : Int32) : gM E yX1_noTest cX1_noTest 2 (some .boolean) (rmX 0 0) (x1W E ad) [.ref (ad 0), .int i] v (fun r v' => v' = v ∧ (noI (v 5 0) i ∧ r = 1 ∨ ¬ noI (v 5 0) i ∧ r = 0)) := by
  refine gM_of (by decide) (Nat.le_of_ble_eq_true rfl) rfl (fun r u' h => nr01 (h.2.elim (fun q => Or.inr q.2) (fun q => Or.inl q.2))) (fun X hX hE => ?_)
  refine g_iload_n (pc := 0) (i := 1) hX dX1_noTest_0 rfl rfl ?_
  refine g_if_lt (pc := 1) (tgt := 12) hX dX1_noTest_1 (by decide) (fun c1 => ?_) (fun c1 => ?_)
  · refine g_iconst (pc := 12) (v := 1) hX dX1_noTest_12 ci_1 ?_
    refine g_goto (pc := 13) (tgt := 17) hX dX1_noTest_13 (by decide) ?_
    exact hE _ _ _ _ (⟨rfl, Or.inl ⟨Or.inl c1, rfl⟩⟩) dX1_noTest_17
  · refine g_iload_n (pc := 4) (i := 1) hX dX1_noTest_4 rfl rfl ?_
    refine g_aload_n (pc := 5) (i := 0) hX dX1_noTest_5 rfl rfl ?_
    refine x1_g5 (pc := 6) hX dX1_noTest_6 rfl ?_
    refine g_icmp_lt (pc := 9) (tgt := 16) hX dX1_noTest_9 (by decide) (fun c2 => ?_) (fun c2 => ?_)
    · refine g_iconst (pc := 16) (v := 0) hX dX1_noTest_16 ci_0 ?_
      exact hE _ _ _ _ (⟨rfl, Or.inr ⟨noI_not c1 c2, rfl⟩⟩) dX1_noTest_17
    · refine g_iconst (pc := 12) (v := 1) hX dX1_noTest_12 ci_1 ?_
      refine g_goto (pc := 13) (tgt := 17) hX dX1_noTest_13 (by decide) ?_
      exact hE _ _ _ _ (⟨rfl, Or.inl ⟨noI_ge c2, rfl⟩⟩) dX1_noTest_17
theorem m1_noMutant (E : gE) (ad : Nat → Nat) (v : GU) (i : Int32) : gM E yX1_noMutant cX1_noMutant 2 (some .boolean) (rmX 0 0) (x1W E ad) [.ref (ad 0), .int i] v (fun r v' => v' = v ∧ (noI (v 10 0) i ∧ r = 1 ∨ ¬ noI (v 10 0) i ∧ r = 0)) := by
  refine gM_of (by decide) (Nat.le_of_ble_eq_true rfl) rfl (fun r u' h => nr01 (h.2.elim (fun q => Or.inr q.2) (fun q => Or.inl q.2))) (fun X hX hE => ?_)
  refine g_iload_n (pc := 0) (i := 1) hX dX1_noMutant_0 rfl rfl ?_
  refine g_if_lt (pc := 1) (tgt := 12) hX dX1_noMutant_1 (by decide) (fun c1 => ?_) (fun c1 => ?_)
  · refine g_iconst (pc := 12) (v := 1) hX dX1_noMutant_12 ci_1 ?_
    refine g_goto (pc := 13) (tgt := 17) hX dX1_noMutant_13 (by decide) ?_
    exact hE _ _ _ _ (⟨rfl, Or.inl ⟨Or.inl c1, rfl⟩⟩) dX1_noMutant_17
  · refine g_iload_n (pc := 4) (i := 1) hX dX1_noMutant_4 rfl rfl ?_
    refine g_aload_n (pc := 5) (i := 0) hX dX1_noMutant_5 rfl rfl ?_
    refine x1_g10 (pc := 6) hX dX1_noMutant_6 rfl ?_
    refine g_icmp_lt (pc := 9) (tgt := 16) hX dX1_noMutant_9 (by decide) (fun c2 => ?_) (fun c2 => ?_)
    · refine g_iconst (pc := 16) (v := 0) hX dX1_noMutant_16 ci_0 ?_
      exact hE _ _ _ _ (⟨rfl, Or.inr ⟨noI_not c1 c2, rfl⟩⟩) dX1_noMutant_17
    · refine g_iconst (pc := 12) (v := 1) hX dX1_noMutant_12 ci_1 ?_
      refine g_goto (pc := 13) (tgt := 17) hX dX1_noMutant_13 (by decide) ?_
      exact hE _ _ _ _ (⟨rfl, Or.inl ⟨noI_ge c2, rfl⟩⟩) dX1_noMutant_17
theorem oE_01 (u : GU) (mo : Option Nat) (t : Nat) : oE u mo t = 0 ∨ oE u mo t = 1 := by unfold oE; exact eI_01 _ _
theorem oO_of {u : GU} {mo : Option Nat} {t : Nat} (h : ¬ oE u mo t = 0) : oO u mo t = (rxy u mo (u 5 t) (u 6 t)).1 0 := by
  unfold oO
  rw [if_pos ((oE_01 u mo t).resolve_left h), res]
theorem m1_ok (E : gE) (ad : Nat → Nat) (u v : GU) (n T M t : Nat) (hw : wf u n T M) (hv : rl u v) (mo : Option Nat) (hmo : moK M mo) (ht : t < T) : gM E yX1_ok cX1_ok 3 (some .boolean) (rmX 2 52) (x1W E ad) [.ref (ad 0), .int (moI mo), .int (nI t)] v (fun r v' => vs v v' ∧ r = nI (decide (okV u mo t)).toNat) := by
  refine gM_of (by decide) (Nat.le_of_ble_eq_true rfl) rfl (fun r u' h => by rw [h.2]; exact nr_tn _) (fun X hX hE => ?_)
  have hT : T ≤ 6 := hw.2.2.2.1
  obtain ⟨v0, v1, v2, v3, v4, v5, v6, v7, v8, v9, v10, v11, v12, v13⟩ := id hv
  refine g_aload_n (pc := 0) (i := 0) hX dX1_ok_0 rfl rfl ?_
  refine g_iload_n (pc := 1) (i := 1) hX dX1_ok_1 rfl rfl ?_
  refine g_aload_n (pc := 2) (i := 0) hX dX1_ok_2 rfl rfl ?_
  refine x1_g6 (pc := 3) hX dX1_ok_3 ?_
  refine g_iload_n (pc := 6) (i := 2) hX dX1_ok_6 rfl rfl ?_
  refine x1_l6 (pc := 7) hX dX1_ok_7 rfl (by omega) (show _ = u 5 t from congrFun v6 t) ?_
  refine g_aload_n (pc := 8) (i := 0) hX dX1_ok_8 rfl rfl ?_
  refine x1_g7 (pc := 9) hX dX1_ok_9 ?_
  refine g_iload_n (pc := 12) (i := 2) hX dX1_ok_12 rfl rfl ?_
  refine x1_l7 (pc := 13) hX dX1_ok_13 rfl (by omega) (show _ = u 6 t from congrFun v7 t) ?_
  refine g_callv0 (pc := 14) hX (m1_run E ad u v n T M hw hv mo hmo (u 5 t) (u 6 t)) (x1_wf E ad) Y1_run q318 dX1_ok_14 rfl rfl (Nat.le_of_ble_eq_true rfl) (by decide) (fun w h1 => ?_)
  obtain ⟨g1, g2, g3, g4⟩ := h1
  have f8 : w 8 t = u 7 t := by rw [g1 8 (by decide), v8]
  have f9 : w 9 t = u 8 t := by rw [g1 9 (by decide), v9]
  have g3 : w 15 0 = oE u mo t := by unfold oE res; exact g3
  have hO : oE u mo t ≠ 0 → w 14 0 = oO u mo t := fun q => g2.trans (oO_of q).symm
  refine g_aload_n (pc := 17) (i := 0) hX dX1_ok_17 rfl rfl ?_
  refine x1_g15 (pc := 18) hX dX1_ok_18 g3 ?_
  refine g_aload_n (pc := 21) (i := 0) hX dX1_ok_21 rfl rfl ?_
  refine x1_g8 (pc := 22) hX dX1_ok_22 ?_
  refine g_iload_n (pc := 25) (i := 2) hX dX1_ok_25 rfl rfl ?_
  refine x1_l8 (pc := 26) hX dX1_ok_26 rfl (by omega) f8 ?_
  refine g_icmp_ne (pc := 27) (tgt := 56) hX dX1_ok_27 (by decide) (fun c1 => ?_) (fun c1 => ?_)
  · refine g_iconst (pc := 56) (v := 0) hX dX1_ok_56 ci_0 ?_
    exact hE _ _ _ _ (⟨g1, by rw [decide_eq_false (fun q => c1 q.1)]; rfl⟩) dX1_ok_57
  · refine g_aload_n (pc := 30) (i := 0) hX dX1_ok_30 rfl rfl ?_
    refine x1_g15 (pc := 31) hX dX1_ok_31 g3 ?_
    refine g_if_eq (pc := 34) (tgt := 52) hX dX1_ok_34 (by decide) (fun c2 => ?_) (fun c2 => ?_)
    · refine g_iconst (pc := 52) (v := 1) hX dX1_ok_52 ci_1 ?_
      refine g_goto (pc := 53) (tgt := 57) hX dX1_ok_53 (by decide) ?_
      exact hE _ _ _ _ (⟨g1, by rw [decide_eq_true ⟨c1, Or.inl c2⟩]; rfl⟩) dX1_ok_57
    · refine g_aload_n (pc := 37) (i := 0) hX dX1_ok_37 rfl rfl ?_
      refine x1_g14 (pc := 38) hX dX1_ok_38 ?_
      refine g_iconst (pc := 41) (v := 0) hX dX1_ok_41 ci_0 ?_
      refine x1_l14 (pc := 42) hX dX1_ok_42 (show (0 : Int32) = nI 0 from rfl) (by decide) (hO c2) ?_
      refine g_aload_n (pc := 43) (i := 0) hX dX1_ok_43 rfl rfl ?_
      refine x1_g9 (pc := 44) hX dX1_ok_44 ?_
      refine g_iload_n (pc := 47) (i := 2) hX dX1_ok_47 rfl rfl ?_
      refine x1_l9 (pc := 48) hX dX1_ok_48 rfl (by omega) f9 ?_
      refine g_icmp_ne (pc := 49) (tgt := 56) hX dX1_ok_49 (by decide) (fun c3 => ?_) (fun c3 => ?_)
      · refine g_iconst (pc := 56) (v := 0) hX dX1_ok_56 ci_0 ?_
        exact hE _ _ _ _ (⟨g1, by rw [decide_eq_false (fun q => q.2.elim c2 c3)]; rfl⟩) dX1_ok_57
      · refine g_iconst (pc := 52) (v := 1) hX dX1_ok_52 ci_1 ?_
        refine g_goto (pc := 53) (tgt := 57) hX dX1_ok_53 (by decide) ?_
        exact hE _ _ _ _ (⟨g1, by rw [decide_eq_true ⟨c1, Or.inr c3⟩]; rfl⟩) dX1_ok_57
theorem m1_passes (E : gE) (ad : Nat → Nat) (u v : GU) (n T M : Nat) (hw : wf u n T M) (hv : rl u v) (i : Int32) : gM E yX1_passes cX1_passes 2 (some .boolean) (rmX 3 74) (x1W E ad) [.ref (ad 0), .int i] v (fun r v' => vs v v' ∧ r = q_passes u i) := by
  refine gM_of (by decide) (Nat.le_of_ble_eq_true rfl) rfl (fun r u' h => nr01 (by rw [h.2]; exact q_passes_01 u i)) (fun X hX hE => ?_)
  have hT : T ≤ 6 := hw.2.2.2.1
  have h5 : v 5 0 = u 4 0 := hv.2.2.2.2.2.1
  refine g_aload_n (pc := 0) (i := 0) hX dX1_passes_0 rfl rfl ?_
  refine g_iload_n (pc := 1) (i := 1) hX dX1_passes_1 rfl rfl ?_
  refine g_calli0 (pc := 2) hX (m1_noTest E ad v i) (x1_wf E ad) Y1_noTest q346 dX1_passes_2 rfl rfl (Nat.le_of_ble_eq_true rfl) (by decide) (fun r0 w0 h0 => ?_)
  obtain ⟨rfl, h0⟩ := h0
  rw [h5] at h0
  refine g_if_ne (pc := 5) (tgt := 21) hX dX1_passes_5 (by decide) (fun c0 => ?_) (fun c0 => ?_)
  · have h1 := (h0.resolve_right (fun q => c0 q.2)).1
    refine g_iconst (pc := 21) (v := 0) hX dX1_passes_21 ci_0 ?_
    exact hE _ _ _ _ (⟨vs_rf _, (if_pos h1).symm⟩) dX1_passes_22
  · have h1 := (h0.resolve_left (fun q => by rw [q.2] at c0; exact absurd c0 (by decide))).1
    obtain ⟨t, ht, rfl⟩ := noI_of hw.2.2.1 (by omega) h1
    have hq : q_passes u (nI t) = if okV u none t then 1 else 0 := by
      unfold q_passes
      rw [if_neg h1, nI_clamp (by omega)]
    refine g_aload_n (pc := 8) (i := 0) hX dX1_passes_8 rfl rfl ?_
    refine g_iconst (pc := 9) (v := (-1)) hX dX1_passes_9 ci_m1 ?_
    refine g_iload_n (pc := 10) (i := 1) hX dX1_passes_10 rfl rfl ?_
    refine g_calli0 (pc := 11) hX (m1_ok E ad u w0 n T M t hw hv none trivial ht) (x1_wf E ad) Y1_ok q350 dX1_passes_11 rfl rfl (Nat.le_of_ble_eq_true rfl) (by decide) (fun r w h2 => ?_)
    obtain ⟨g1, rfl⟩ := h2
    refine g_if_eq (pc := 14) (tgt := 21) hX dX1_passes_14 (by decide) (fun c1 => ?_) (fun c1 => ?_)
    · have hb := of_decide_eq_false (tn_0 c1)
      refine g_iconst (pc := 21) (v := 0) hX dX1_passes_21 ci_0 ?_
      exact hE _ _ _ _ (⟨g1, by rw [hq, if_neg hb]⟩) dX1_passes_22
    · have hb := of_decide_eq_true (tn_1 c1)
      refine g_iconst (pc := 17) (v := 1) hX dX1_passes_17 ci_1 ?_
      refine g_goto (pc := 18) (tgt := 22) hX dX1_passes_18 (by decide) ?_
      exact hE _ _ _ _ (⟨g1, by rw [hq, if_pos hb]⟩) dX1_passes_22
theorem kl_ok (u : GU) (t m : Nat) : kl u t m = !decide (okV u (some m) t) := rfl
theorem kr_loop {E : gE} {X : gC} {ad : Nat → Nat} (hX : gK E X cX1_killers 4 RX1 (rmX 3 74)) (u v : GU) (n T M m : Nat) (hw : wf u n T M) (hv : rl u v) (hm : m < M) (hE : gRi E X cX1_killers 4 (x1W E ad) (fun r v' => vs v v' ∧ r = nI (bset (fun t => kl u t m) T))) :
    ∀ (f t : Nat), t + f = T → ∀ v1 : GU, vs v v1 → G E X 4 0 0 (x1W E ad v1) 15 [.ref (ad 0), .int (nI m), .int (nI (bset (fun t => kl u t m) t)), .int (nI t)] [] := by
  have hT : T ≤ 6 := hw.2.2.2.1
  have hts : v 5 0 = nI T := hv.2.2.2.2.2.1.trans hw.2.2.1
  intro f
  induction f with
  | zero =>
    intro t ht v1 h1
    have e : t = T := by omega
    subst e
    have h5 : v1 5 0 = nI t := by rw [h1 5 (by decide)]; exact hts
    refine g_iload_n (pc := 15) (i := 3) hX dX1_killers_15 rfl rfl ?_
    refine g_aload_n (pc := 16) (i := 0) hX dX1_killers_16 rfl rfl ?_
    refine x1_g5 (pc := 17) hX dX1_killers_17 h5 ?_
    refine g_icmp_ge (pc := 20) (tgt := 44) hX dX1_killers_20 (by decide) (fun c1 => ?_) (fun c1 => ?_)
    · refine g_iload_n (pc := 44) (i := 2) hX dX1_killers_44 rfl rfl ?_
      exact hE _ _ _ _ (⟨h1, rfl⟩) dX1_killers_45
    · exact absurd (nI_le (Nat.le_refl t) (by omega)) c1
  | succ f ih =>
    intro t ht v1 h1
    have h5 : v1 5 0 = nI T := by rw [h1 5 (by decide)]; exact hts
    refine g_iload_n (pc := 15) (i := 3) hX dX1_killers_15 rfl rfl ?_
    refine g_aload_n (pc := 16) (i := 0) hX dX1_killers_16 rfl rfl ?_
    refine x1_g5 (pc := 17) hX dX1_killers_17 h5 ?_
    refine g_icmp_ge (pc := 20) (tgt := 44) hX dX1_killers_20 (by decide) (fun c1 => ?_) (fun c1 => ?_)
    · exact absurd c1 (nI_ge (by omega) (by omega))
    · refine g_aload_n (pc := 23) (i := 0) hX dX1_killers_23 rfl rfl ?_
      refine g_iload_n (pc := 24) (i := 1) hX dX1_killers_24 rfl rfl ?_
      refine g_iload_n (pc := 25) (i := 3) hX dX1_killers_25 rfl rfl ?_
      refine g_calli0 (pc := 26) hX (m1_ok E ad u v1 n T M t hw (rl_v h1 hv) (some m) hm (by omega)) (x1_wf E ad) Y1_ok q350 dX1_killers_26 rfl rfl (Nat.le_of_ble_eq_true rfl) (by decide) (fun r v2 h2 => ?_)
      obtain ⟨g1, rfl⟩ := h2
      have hi := ih (t + 1) (by omega) v2 (vs_tr h1 g1)
      have e1 : bset (fun t => kl u t m) (t + 1) = bset (fun t => kl u t m) t ||| (!decide (okV u (some m) t)).toNat * 2 ^ t := rfl
      rw [e1] at hi
      generalize decide (okV u (some m) t) = b at hi ⊢
      refine g_if_ne (pc := 29) (tgt := 38) hX dX1_killers_29 (by decide) (fun c2 => ?_) (fun c2 => ?_)
      · have hb := tn_1 c2
        subst hb
        have e2 : bset (fun t => kl u t m) t ||| (!true).toNat * 2 ^ t = bset (fun t => kl u t m) t := by
          show _ ||| 0 * 2 ^ t = _
          rw [Nat.zero_mul, Nat.or_zero]
        rw [e2] at hi
        first | refine g_inc3N (pc := 38) hX dX1_killers_38 (by decide) ?_ | refine g_inc3 (pc := 38) hX dX1_killers_38 (by decide) ?_
        refine g_goto (pc := 41) (tgt := 15) hX dX1_killers_41 (by decide) ?_
        exact hi
      · have hb := tn_0 c2
        subst hb
        have e2 : bset (fun t => kl u t m) t ||| (!false).toNat * 2 ^ t = bset (fun t => kl u t m) t ||| 2 ^ t := by
          show _ ||| 1 * 2 ^ t = _
          rw [Nat.one_mul]
        rw [e2] at hi
        refine g_iload_n (pc := 32) (i := 2) hX dX1_killers_32 rfl rfl ?_
        refine g_iconst (pc := 33) (v := 1) hX dX1_killers_33 ci_1 ?_
        refine g_iload_n (pc := 34) (i := 3) hX dX1_killers_34 rfl rfl ?_
        refine g_ishl (pc := 35) hX dX1_killers_35 ?_
        refine g_ior (pc := 36) hX dX1_killers_36 ?_
        refine G.topi (bn_set (by omega)) ?_
        refine g_ist2s (pc := 37) hX dX1_killers_37 (by decide) ?_
        first | refine g_inc3N (pc := 38) hX dX1_killers_38 (by decide) ?_ | refine g_inc3 (pc := 38) hX dX1_killers_38 (by decide) ?_
        refine g_goto (pc := 41) (tgt := 15) hX dX1_killers_41 (by decide) ?_
        exact hi
theorem m1_killers (E : gE) (ad : Nat → Nat) (u v : GU) (n T M : Nat) (hw : wf u n T M) (hv : rl u v) (i : Int32) : gM E yX1_killers cX1_killers 4 (some .int) (rmX 3 74) (x1W E ad) [.ref (ad 0), .int i] v (fun r v' => vs v v' ∧ r = q_killers u T i) := by
  refine gM_of (by decide) (Nat.le_of_ble_eq_true rfl) rfl (fun _ _ _ => rfl) (fun X hX hE => ?_)
  have hM : M ≤ 24 := hw.2.2.2.2.2.1
  have h10 : v 10 0 = u 9 0 := hv.2.2.2.2.2.2.2.2.2.2.1
  refine g_aload_n (pc := 0) (i := 0) hX dX1_killers_0 rfl rfl ?_
  refine g_iload_n (pc := 1) (i := 1) hX dX1_killers_1 rfl rfl ?_
  refine g_calli0 (pc := 2) hX (m1_noMutant E ad v i) (x1_wf E ad) Y1_noMutant q358 dX1_killers_2 rfl rfl (Nat.le_of_ble_eq_true rfl) (by decide) (fun r0 w0 h0 => ?_)
  obtain ⟨rfl, h0⟩ := h0
  rw [h10] at h0
  refine g_if_eq (pc := 5) (tgt := 11) hX dX1_killers_5 (by decide) (fun c0 => ?_) (fun c0 => ?_)
  · have h1 := (h0.resolve_left (fun q => by rw [q.2] at c0; exact absurd c0 (by decide))).1
    obtain ⟨m, hm, rfl⟩ := noI_of hw.2.2.2.2.1 (by omega) h1
    have hq : q_killers u T (nI m) = nI (bset (fun t => kl u t m) T) := by
      unfold q_killers
      rw [if_neg h1, nI_clamp (by omega)]
    refine g_iconst (pc := 11) (v := 0) hX dX1_killers_11 ci_0 ?_
    refine g_ist2n (pc := 12) hX dX1_killers_12 (by decide) ?_
    refine g_iconst (pc := 13) (v := 0) hX dX1_killers_13 ci_0 ?_
    refine g_ist3n (pc := 14) hX dX1_killers_14 (by decide) ?_
    refine kr_loop hX u w0 n T M m hw hv hm (fun r v' pc L hp hd => hE r v' pc L ⟨hp.1, hp.2.trans hq.symm⟩ hd) T 0 (by omega) w0 (vs_rf w0)
  · have h1 := (h0.resolve_right (fun q => c0 q.2)).1
    refine g_bipush (pc := 8) (v := -4) hX dX1_killers_8 cb_m4 ?_
    exact hE _ _ _ _ (⟨vs_rf _, (if_pos h1).symm⟩) dX1_killers_10
theorem q_killers_in (u : GU) {n T M m : Nat} (hw : wf u n T M) (hm : m < M) : q_killers u T (nI m) = nI (bset (fun t => kl u t m) T) := by
  have hM : M ≤ 24 := hw.2.2.2.2.2.1
  unfold q_killers
  rw [if_neg (noI_not (nI_pos (by omega)) (by rw [hw.2.2.2.2.1]; exact nI_lt hm (by omega))), nI_clamp (by omega)]
theorem and0_iff {f : Nat → Bool} {T : Nat} (hT : T ≤ 6) (x : Int32) : nI (bset f T) &&& x = 0 ↔ anyB (fun t => bt x t && f t) T = false := by
  rw [← Bool.not_eq_true, anyB_iff]
  constructor
  · rintro h ⟨t, ht, q⟩
    rw [Bool.and_eq_true] at q
    have h1 : bt (nI (bset f T) &&& x) t = true := by
      rw [bt_and, bt_nI (by omega), bset_bit, decide_eq_true ht, q.1, q.2]
      rfl
    rw [h, bt_0] at h1
    cases h1
  · intro h
    refine bt_ext (fun i hi => ?_)
    rw [bt_and, bt_nI hi, bset_bit, bt_0, Bool.eq_false_iff]
    intro q
    rw [Bool.and_eq_true, Bool.and_eq_true, decide_eq_true_iff] at q
    exact h ⟨i, q.1.1, by rw [q.1.2, q.2]; rfl⟩
theorem kd1_loop {E : gE} {X : gC} {ad : Nat → Nat} (hX : gK E X cX1_killed 5 RX1 (rmX 4 97)) (u v : GU) (n T M : Nat) (x : Int32) (hw : wf u n T M) (hv : rl u v) (hE : gRi E X cX1_killed 5 (x1W E ad) (fun r v' => vs v v' ∧ r = q_killed u T M x)) :
    ∀ (f m : Nat), m + f = M → ∀ v1 : GU, vs v v1 → G E X 5 0 0 (x1W E ad v1) 4 [.ref (ad 0), .int x, .int (nI (ccnt (fun m => anyB (fun t => bt x t && kl u t m) T) m)), .int (nI m)] [] := by
  have hT : T ≤ 6 := hw.2.2.2.1
  have hM : M ≤ 24 := hw.2.2.2.2.2.1
  have hms : v 10 0 = nI M := hv.2.2.2.2.2.2.2.2.2.2.1.trans hw.2.2.2.2.1
  intro f
  induction f with
  | zero =>
    intro m hm v1 h1
    have e : m = M := by omega
    subst e
    have h10 : v1 10 0 = nI m := by rw [h1 10 (by decide)]; exact hms
    refine g_iload_n (pc := 4) (i := 3) hX dX1_killed_4 rfl rfl ?_
    refine g_aload_n (pc := 5) (i := 0) hX dX1_killed_5 rfl rfl ?_
    refine x1_g10 (pc := 6) hX dX1_killed_6 h10 ?_
    refine g_icmp_ge (pc := 9) (tgt := 35) hX dX1_killed_9 (by decide) (fun c1 => ?_) (fun c1 => ?_)
    · refine g_iload_n (pc := 35) (i := 2) hX dX1_killed_35 rfl rfl ?_
      exact hE _ _ _ _ (⟨h1, rfl⟩) dX1_killed_36
    · exact absurd (nI_le (Nat.le_refl m) (by omega)) c1
  | succ f ih =>
    intro m hm v1 h1
    have h10 : v1 10 0 = nI M := by rw [h1 10 (by decide)]; exact hms
    refine g_iload_n (pc := 4) (i := 3) hX dX1_killed_4 rfl rfl ?_
    refine g_aload_n (pc := 5) (i := 0) hX dX1_killed_5 rfl rfl ?_
    refine x1_g10 (pc := 6) hX dX1_killed_6 h10 ?_
    refine g_icmp_ge (pc := 9) (tgt := 35) hX dX1_killed_9 (by decide) (fun c1 => ?_) (fun c1 => ?_)
    · exact absurd c1 (nI_ge (by omega) (by omega))
    · refine g_aload_n (pc := 12) (i := 0) hX dX1_killed_12 rfl rfl ?_
      refine g_iload_n (pc := 13) (i := 3) hX dX1_killed_13 rfl rfl ?_
      refine g_calli0 (pc := 14) hX (m1_killers E ad u v1 n T M hw (rl_v h1 hv) (nI m)) (x1_wf E ad) Y1_killers q366 dX1_killed_14 rfl rfl (Nat.le_of_ble_eq_true rfl) (by decide) (fun r v2 h2 => ?_)
      obtain ⟨g1, rfl⟩ := h2
      rw [q_killers_in u hw (by omega)]
      have hi := ih (m + 1) (by omega) v2 (vs_tr h1 g1)
      have e1 : ccnt (fun m => anyB (fun t => bt x t && kl u t m) T) (m + 1) = ccnt (fun m => anyB (fun t => bt x t && kl u t m) T) m + (anyB (fun t => bt x t && kl u t m) T).toNat := rfl
      rw [e1] at hi
      refine g_ist4n (pc := 17) hX dX1_killed_17 (by decide) ?_
      refine g_iload (pc := 19) hX dX1_killed_19 rfl ?_
      refine g_iload_n (pc := 21) (i := 1) hX dX1_killed_21 rfl rfl ?_
      refine g_iand (pc := 22) hX dX1_killed_22 ?_
      refine g_if_eq (pc := 23) (tgt := 29) hX dX1_killed_23 (by decide) (fun c2 => ?_) (fun c2 => ?_)
      · rw [(and0_iff hT x).mp c2] at hi
        first | refine g_inc3N (pc := 29) hX dX1_killed_29 (by decide) ?_ | refine g_inc3 (pc := 29) hX dX1_killed_29 (by decide) ?_
        refine g_goto (pc := 32) (tgt := 4) hX dX1_killed_32 (by decide) ?_
        exact G.take 4 rfl hi
      · rw [Bool.not_eq_false _ |>.mp (fun q => c2 ((and0_iff hT x).mpr q))] at hi
        first | refine g_inc2N (pc := 26) hX dX1_killed_26 (by decide) ?_ | refine g_inc2 (pc := 26) hX dX1_killed_26 (by decide) ?_
        first | refine g_inc3N (pc := 29) hX dX1_killed_29 (by decide) ?_ | refine g_inc3 (pc := 29) hX dX1_killed_29 (by decide) ?_
        refine g_goto (pc := 32) (tgt := 4) hX dX1_killed_32 (by decide) ?_
        exact G.take 4 rfl hi
theorem m1_killed (E : gE) (ad : Nat → Nat) (u v : GU) (n T M : Nat) (hw : wf u n T M) (hv : rl u v) (x : Int32) : gM E yX1_killed cX1_killed 5 (some .int) (rmX 4 97) (x1W E ad) [.ref (ad 0), .int x] v (fun r v' => vs v v' ∧ r = q_killed u T M x) := by
  refine gM_of (by decide) (Nat.le_of_ble_eq_true rfl) rfl (fun _ _ _ => rfl) (fun X hX hE => ?_)
  refine g_iconst (pc := 0) (v := 0) hX dX1_killed_0 ci_0 ?_
  refine g_ist2n (pc := 1) hX dX1_killed_1 (by decide) ?_
  refine g_iconst (pc := 2) (v := 0) hX dX1_killed_2 ci_0 ?_
  refine g_ist3n (pc := 3) hX dX1_killed_3 (by decide) ?_
  exact kd1_loop hX u v n T M x hw hv hE M 0 (by omega) v (vs_rf v)
theorem m1_output (E : gE) (ad : Nat → Nat) (u v : GU) (n T M : Nat) (hw : wf u n T M) (hv : rl u v) (i k : Int32) : gM E yX1_output cX1_output 3 (some .int) (rmX 2 52) (x1W E ad) [.ref (ad 0), .int i, .int k] v (fun r v' => vs v v' ∧ r = q_output u i k) := by
  refine gM_of (by decide) (Nat.le_of_ble_eq_true rfl) rfl (fun _ _ _ => rfl) (fun X hX hE => ?_)
  have hT : T ≤ 6 := hw.2.2.2.1
  have hM : M ≤ 24 := hw.2.2.2.2.2.1
  have h5 : v 5 0 = u 4 0 := hv.2.2.2.2.2.1
  have h10 : v 10 0 = u 9 0 := hv.2.2.2.2.2.2.2.2.2.2.1
  refine g_aload_n (pc := 0) (i := 0) hX dX1_output_0 rfl rfl ?_
  refine g_iload_n (pc := 1) (i := 1) hX dX1_output_1 rfl rfl ?_
  refine g_calli0 (pc := 2) hX (m1_noMutant E ad v i) (x1_wf E ad) Y1_noMutant q358 dX1_output_2 rfl rfl (Nat.le_of_ble_eq_true rfl) (by decide) (fun r0 w0 h0 => ?_)
  obtain ⟨rfl, h0⟩ := h0
  rw [h10] at h0
  refine g_if_ne (pc := 5) (tgt := 16) hX dX1_output_5 (by decide) (fun c0 => ?_) (fun c0 => ?_)
  · have h1 := (h0.resolve_right (fun q => c0 q.2)).1
    refine g_iconst (pc := 16) (v := 0) hX dX1_output_16 ci_0 ?_
    exact hE _ _ _ _ (⟨vs_rf _, (if_pos (Or.inl h1)).symm⟩) dX1_output_17
  · have h1 := (h0.resolve_left (fun q => by rw [q.2] at c0; exact absurd c0 (by decide))).1
    refine g_aload_n (pc := 8) (i := 0) hX dX1_output_8 rfl rfl ?_
    refine g_iload_n (pc := 9) (i := 2) hX dX1_output_9 rfl rfl ?_
    refine g_calli0 (pc := 10) hX (m1_noTest E ad w0 k) (x1_wf E ad) Y1_noTest q346 dX1_output_10 rfl rfl (Nat.le_of_ble_eq_true rfl) (by decide) (fun r1 w1 h2 => ?_)
    obtain ⟨rfl, h2⟩ := h2
    rw [h5] at h2
    refine g_if_eq (pc := 13) (tgt := 18) hX dX1_output_13 (by decide) (fun c1 => ?_) (fun c1 => ?_)
    · have h3 := (h2.resolve_left (fun q => by rw [q.2] at c1; exact absurd c1 (by decide))).1
      obtain ⟨t, ht, rfl⟩ := noI_of hw.2.2.1 (by omega) h3
      obtain ⟨m, hm, rfl⟩ := noI_of hw.2.2.2.2.1 (by omega) h1
      have hq : q_output u (nI m) (nI t) = oO u (some m) t := by
        unfold q_output
        rw [if_neg (fun q => q.elim h1 h3), nI_clamp (by omega), nI_clamp (by omega)]
      refine g_aload_n (pc := 18) (i := 0) hX dX1_output_18 rfl rfl ?_
      refine g_iload_n (pc := 19) (i := 1) hX dX1_output_19 rfl rfl ?_
      refine g_aload_n (pc := 20) (i := 0) hX dX1_output_20 rfl rfl ?_
      refine x1_g6 (pc := 21) hX dX1_output_21 ?_
      refine g_iload_n (pc := 24) (i := 2) hX dX1_output_24 rfl rfl ?_
      refine x1_l6 (pc := 25) hX dX1_output_25 rfl (by omega) (show _ = u 5 t from congrFun hv.2.2.2.2.2.2.1 t) ?_
      refine g_aload_n (pc := 26) (i := 0) hX dX1_output_26 rfl rfl ?_
      refine x1_g7 (pc := 27) hX dX1_output_27 ?_
      refine g_iload_n (pc := 30) (i := 2) hX dX1_output_30 rfl rfl ?_
      refine x1_l7 (pc := 31) hX dX1_output_31 rfl (by omega) (show _ = u 6 t from congrFun hv.2.2.2.2.2.2.2.1 t) ?_
      refine g_callv0 (pc := 32) hX (m1_run E ad u w1 n T M hw hv (some m) hm (u 5 t) (u 6 t)) (x1_wf E ad) Y1_run q318 dX1_output_32 rfl rfl (Nat.le_of_ble_eq_true rfl) (by decide) (fun w h4 => ?_)
      obtain ⟨g1, g2, g3, g4⟩ := h4
      have g3 : w 15 0 = oE u (some m) t := by unfold oE res; exact g3
      refine g_aload_n (pc := 35) (i := 0) hX dX1_output_35 rfl rfl ?_
      refine x1_g15 (pc := 36) hX dX1_output_36 g3 ?_
      refine g_if_eq (pc := 39) (tgt := 51) hX dX1_output_39 (by decide) (fun c2 => ?_) (fun c2 => ?_)
      · refine g_iconst (pc := 51) (v := 0) hX dX1_output_51 ci_0 ?_
        exact hE _ _ _ _ (⟨g1, by rw [hq]; unfold oO; rw [if_neg]; rw [c2]; decide⟩) dX1_output_52
      · refine g_aload_n (pc := 42) (i := 0) hX dX1_output_42 rfl rfl ?_
        refine x1_g14 (pc := 43) hX dX1_output_43 ?_
        refine g_iconst (pc := 46) (v := 0) hX dX1_output_46 ci_0 ?_
        refine x1_l14 (pc := 47) hX dX1_output_47 (show (0 : Int32) = nI 0 from rfl) (by decide) g2 ?_
        refine g_goto (pc := 48) (tgt := 52) hX dX1_output_48 (by decide) ?_
        exact hE _ _ _ _ (⟨g1, by rw [hq, oO_of c2]⟩) dX1_output_52
    · have h3 := (h2.resolve_right (fun q => c1 q.2)).1
      refine g_iconst (pc := 16) (v := 0) hX dX1_output_16 ci_0 ?_
      exact hE _ _ _ _ (⟨vs_rf _, (if_pos (Or.inr h3)).symm⟩) dX1_output_17
theorem m1_length (E : gE) (ad : Nat → Nat) (u v : GU) (n T M : Nat) (hw : wf u n T M) (hv : rl u v) (i k : Int32) : gM E yX1_length cX1_length 3 (some .int) (rmX 2 52) (x1W E ad) [.ref (ad 0), .int i, .int k] v (fun r v' => vs v v' ∧ r = q_length u i k) := by
  refine gM_of (by decide) (Nat.le_of_ble_eq_true rfl) rfl (fun _ _ _ => rfl) (fun X hX hE => ?_)
  have hT : T ≤ 6 := hw.2.2.2.1
  have hM : M ≤ 24 := hw.2.2.2.2.2.1
  have h5 : v 5 0 = u 4 0 := hv.2.2.2.2.2.1
  have h10 : v 10 0 = u 9 0 := hv.2.2.2.2.2.2.2.2.2.2.1
  refine g_aload_n (pc := 0) (i := 0) hX dX1_length_0 rfl rfl ?_
  refine g_iload_n (pc := 1) (i := 1) hX dX1_length_1 rfl rfl ?_
  refine g_calli0 (pc := 2) hX (m1_noMutant E ad v i) (x1_wf E ad) Y1_noMutant q358 dX1_length_2 rfl rfl (Nat.le_of_ble_eq_true rfl) (by decide) (fun r0 w0 h0 => ?_)
  obtain ⟨rfl, h0⟩ := h0
  rw [h10] at h0
  refine g_if_eq (pc := 5) (tgt := 11) hX dX1_length_5 (by decide) (fun c0 => ?_) (fun c0 => ?_)
  · have h1 := (h0.resolve_left (fun q => by rw [q.2] at c0; exact absurd c0 (by decide))).1
    refine g_aload_n (pc := 11) (i := 0) hX dX1_length_11 rfl rfl ?_
    refine g_iload_n (pc := 12) (i := 2) hX dX1_length_12 rfl rfl ?_
    refine g_calli0 (pc := 13) hX (m1_noTest E ad w0 k) (x1_wf E ad) Y1_noTest q346 dX1_length_13 rfl rfl (Nat.le_of_ble_eq_true rfl) (by decide) (fun r1 w1 h2 => ?_)
    obtain ⟨rfl, h2⟩ := h2
    rw [h5] at h2
    refine g_if_eq (pc := 16) (tgt := 22) hX dX1_length_16 (by decide) (fun c1 => ?_) (fun c1 => ?_)
    · have h3 := (h2.resolve_left (fun q => by rw [q.2] at c1; exact absurd c1 (by decide))).1
      obtain ⟨t, ht, rfl⟩ := noI_of hw.2.2.1 (by omega) h3
      obtain ⟨m, hm, rfl⟩ := noI_of hw.2.2.2.2.1 (by omega) h1
      have hq : q_length u (nI m) (nI t) = oN u (some m) t := by
        unfold q_length
        rw [if_neg h1, if_neg h3, nI_clamp (by omega), nI_clamp (by omega)]
      refine g_aload_n (pc := 22) (i := 0) hX dX1_length_22 rfl rfl ?_
      refine g_iload_n (pc := 23) (i := 1) hX dX1_length_23 rfl rfl ?_
      refine g_aload_n (pc := 24) (i := 0) hX dX1_length_24 rfl rfl ?_
      refine x1_g6 (pc := 25) hX dX1_length_25 ?_
      refine g_iload_n (pc := 28) (i := 2) hX dX1_length_28 rfl rfl ?_
      refine x1_l6 (pc := 29) hX dX1_length_29 rfl (by omega) (show _ = u 5 t from congrFun hv.2.2.2.2.2.2.1 t) ?_
      refine g_aload_n (pc := 30) (i := 0) hX dX1_length_30 rfl rfl ?_
      refine x1_g7 (pc := 31) hX dX1_length_31 ?_
      refine g_iload_n (pc := 34) (i := 2) hX dX1_length_34 rfl rfl ?_
      refine x1_l7 (pc := 35) hX dX1_length_35 rfl (by omega) (show _ = u 6 t from congrFun hv.2.2.2.2.2.2.2.1 t) ?_
      refine g_callv0 (pc := 36) hX (m1_run E ad u w1 n T M hw hv (some m) hm (u 5 t) (u 6 t)) (x1_wf E ad) Y1_run q318 dX1_length_36 rfl rfl (Nat.le_of_ble_eq_true rfl) (by decide) (fun w h4 => ?_)
      obtain ⟨g1, g2, g3, g4⟩ := h4
      have g4 : w 16 0 = oN u (some m) t := by unfold oN res; exact g4
      refine g_aload_n (pc := 39) (i := 0) hX dX1_length_39 rfl rfl ?_
      refine x1_g16 (pc := 40) hX dX1_length_40 g4 ?_
      exact hE _ _ _ _ (⟨g1, hq.symm⟩) dX1_length_43
    · have h3 := (h2.resolve_right (fun q => c1 q.2)).1
      refine g_bipush (pc := 19) (v := -5) hX dX1_length_19 cb_m5 ?_
      exact hE _ _ _ _ (⟨vs_rf _, ((if_neg h1).trans (if_pos h3)).symm⟩) dX1_length_21
  · have h1 := (h0.resolve_right (fun q => c0 q.2)).1
    refine g_bipush (pc := 8) (v := -4) hX dX1_length_8 cb_m4 ?_
    exact hE _ _ _ _ (⟨vs_rf _, (if_pos h1).symm⟩) dX1_length_10
end
section
/-! MutantLabModel: killsAll, enough, alike, same -/
def kaB (u : GU) (T s m : Nat) : Bool := decide (ks u T m ≠ 0) && decide (ks u T m &&& s = 0)
theorem ka_loop {E : gE} {X : gC} {ad : Nat → Nat} (hX : gK E X cX1_killsAll 4 RX1 (rmX 4 97)) (u v : GU) (n T M s : Nat) (hs : s < 64) (hw : wf u n T M) (hv : rl u v) (hE : gRi E X cX1_killsAll 4 (x1W E ad) (fun r v' => vs v v' ∧ r = nI (!anyB (kaB u T s) M).toNat)) :
    ∀ (f m : Nat), m + f = M → anyB (kaB u T s) m = false → ∀ v1 : GU, vs v v1 → G E X 4 0 0 (x1W E ad v1) 2 [.ref (ad 0), .int (nI s), .int (nI m)] [] := by
  have hT : T ≤ 6 := hw.2.2.2.1
  have hM : M ≤ 24 := hw.2.2.2.2.2.1
  have hms : v 10 0 = nI M := hv.2.2.2.2.2.2.2.2.2.2.1.trans hw.2.2.2.2.1
  intro f
  induction f with
  | zero =>
    intro m hm hany v1 h1
    have e : m = M := by omega
    subst e
    have h10 : v1 10 0 = nI m := by rw [h1 10 (by decide)]; exact hms
    refine g_iload_n (pc := 2) (i := 2) hX dX1_killsAll_2 rfl rfl ?_
    refine g_aload_n (pc := 3) (i := 0) hX dX1_killsAll_3 rfl rfl ?_
    refine x1_g10 (pc := 4) hX dX1_killsAll_4 h10 ?_
    refine g_icmp_ge (pc := 7) (tgt := 34) hX dX1_killsAll_7 (by decide) (fun c1 => ?_) (fun c1 => ?_)
    · refine g_iconst (pc := 34) (v := 1) hX dX1_killsAll_34 ci_1 ?_
      exact hE _ _ _ _ (⟨h1, by rw [hany]; rfl⟩) dX1_killsAll_35
    · exact absurd (nI_le (Nat.le_refl m) (by omega)) c1
  | succ f ih =>
    intro m hm hany v1 h1
    have h10 : v1 10 0 = nI M := by rw [h1 10 (by decide)]; exact hms
    refine g_iload_n (pc := 2) (i := 2) hX dX1_killsAll_2 rfl rfl ?_
    refine g_aload_n (pc := 3) (i := 0) hX dX1_killsAll_3 rfl rfl ?_
    refine x1_g10 (pc := 4) hX dX1_killsAll_4 h10 ?_
    refine g_icmp_ge (pc := 7) (tgt := 34) hX dX1_killsAll_7 (by decide) (fun c1 => ?_) (fun c1 => ?_)
    · exact absurd c1 (nI_ge (by omega) (by omega))
    · refine g_aload_n (pc := 10) (i := 0) hX dX1_killsAll_10 rfl rfl ?_
      refine g_iload_n (pc := 11) (i := 2) hX dX1_killsAll_11 rfl rfl ?_
      refine g_calli0 (pc := 12) hX (m1_killers E ad u v1 n T M hw (rl_v h1 hv) (nI m)) (x1_wf E ad) Y1_killers q366 dX1_killsAll_12 rfl rfl (Nat.le_of_ble_eq_true rfl) (by decide) (fun r v2 h2 => ?_)
      obtain ⟨g1, rfl⟩ := h2
      rw [q_killers_in u hw (by omega)]
      have hks : bset (fun t => kl u t m) T = ks u T m := rfl
      rw [hks]
      have hk64 := (ks_ok u (M := M) hT m (by omega)).1
      have hi : kaB u T s m = false → G E X 4 0 0 (x1W E ad v2) 2 [.ref (ad 0), .int (nI s), .int (nI (m + 1))] [] := fun q => ih (m + 1) (by omega) (by show (anyB _ m || _) = false; rw [hany, q]; rfl) v2 (vs_tr h1 g1)
      refine g_ist3n (pc := 15) hX dX1_killsAll_15 (by decide) ?_
      refine g_iload_n (pc := 16) (i := 3) hX dX1_killsAll_16 rfl rfl ?_
      refine g_if_eq (pc := 17) (tgt := 28) hX dX1_killsAll_17 (by decide) (fun c2 => ?_) (fun c2 => ?_)
      · have e0 : ks u T m = 0 := (nI_eq (by omega) (by decide)).mp c2
        first | refine g_inc2N (pc := 28) hX dX1_killsAll_28 (by decide) ?_ | refine g_inc2 (pc := 28) hX dX1_killsAll_28 (by decide) ?_
        refine g_goto (pc := 31) (tgt := 2) hX dX1_killsAll_31 (by decide) ?_
        refine G.take 3 rfl (hi ?_)
        unfold kaB
        rw [decide_eq_false (fun q => q e0), Bool.false_and]
      · have e0 : ks u T m ≠ 0 := fun q => c2 (by rw [q]; rfl)
        have hle : ks u T m &&& s ≤ ks u T m := Nat.and_le_left
        refine g_iload_n (pc := 20) (i := 3) hX dX1_killsAll_20 rfl rfl ?_
        refine g_iload_n (pc := 21) (i := 1) hX dX1_killsAll_21 rfl rfl ?_
        refine g_iand (pc := 22) hX dX1_killsAll_22 ?_
        refine G.topi (bn_and _ _) ?_
        refine g_if_ne (pc := 23) (tgt := 28) hX dX1_killsAll_23 (by decide) (fun c3 => ?_) (fun c3 => ?_)
        · have e1 : ks u T m &&& s ≠ 0 := fun q => c3 (by rw [q]; rfl)
          first | refine g_inc2N (pc := 28) hX dX1_killsAll_28 (by decide) ?_ | refine g_inc2 (pc := 28) hX dX1_killsAll_28 (by decide) ?_
          refine g_goto (pc := 31) (tgt := 2) hX dX1_killsAll_31 (by decide) ?_
          refine G.take 3 rfl (hi ?_)
          unfold kaB
          rw [decide_eq_false e1, Bool.and_false]
        · have e1 : ks u T m &&& s = 0 := (nI_eq (by omega) (by decide)).mp c3
          have hb : anyB (kaB u T s) M = true := (anyB_iff _ M).mpr ⟨m, by omega, by unfold kaB; rw [decide_eq_true e0, decide_eq_true e1]; rfl⟩
          refine g_iconst (pc := 26) (v := 0) hX dX1_killsAll_26 ci_0 ?_
          exact hE _ _ _ _ (⟨vs_tr h1 g1, by rw [hb]; rfl⟩) dX1_killsAll_27
theorem m1_killsAll (E : gE) (ad : Nat → Nat) (u v : GU) (n T M s : Nat) (hs : s < 64) (hw : wf u n T M) (hv : rl u v) : gM E yX1_killsAll cX1_killsAll 4 (some .boolean) (rmX 4 97) (x1W E ad) [.ref (ad 0), .int (nI s)] v (fun r v' => vs v v' ∧ r = nI (!anyB (kaB u T s) M).toNat) := by
  refine gM_of (by decide) (Nat.le_of_ble_eq_true rfl) rfl (fun r u' h => by rw [h.2]; exact nr_tn _) (fun X hX hE => ?_)
  refine g_iconst (pc := 0) (v := 0) hX dX1_killsAll_0 ci_0 ?_
  refine g_ist2n (pc := 1) hX dX1_killsAll_1 (by decide) ?_
  exact ka_loop hX u v n T M s hs hw hv hE M 0 (by omega) rfl v (vs_rf v)
/-- a set is good: it covers -/
theorem good_iff (u : GU) {T M s : Nat} (hT : T ≤ 6) : anyB (kaB u T s) M = false ↔ cov (km u T M) (alK (km u T M) T) s 6 := by
  have hks := ks_ok u (M := M) hT
  have hal : ∀ m, (alK (km u T M) T).testBit m = true ↔ m < M ∧ ks u T m ≠ 0 := by
    intro m
    unfold alK
    rw [orK_bit, anyB_iff]
    constructor
    · rintro ⟨t, ht, q⟩
      rw [Bool.true_and, km_bit, Bool.and_eq_true, Bool.and_eq_true, decide_eq_true_iff] at q
      refine ⟨q.1, fun e => ?_⟩
      have h1 : (ks u T m).testBit t = true := by
        unfold ks
        rw [bset_bit, decide_eq_true ht, q.2.2]
        rfl
      rw [e, Nat.zero_testBit] at h1
      cases h1
    · rintro ⟨hm, h0⟩
      obtain ⟨t, ht⟩ := Nat.exists_testBit_of_ne_zero h0
      have h1 : (bset (fun t => kl u t m) T).testBit t = true := ht
      rw [bset_bit, Bool.and_eq_true, decide_eq_true_iff] at h1
      exact ⟨t, h1.1, by rw [Bool.true_and, km_bit, decide_eq_true hm, decide_eq_true h1.1, h1.2]; rfl⟩
  constructor
  · intro h m hm
    obtain ⟨h1, h2⟩ := (hal m).mp hm
    have h3 : ks u T m &&& s ≠ 0 := fun q => by
      have : anyB (kaB u T s) M = true := (anyB_iff _ M).mpr ⟨m, h1, by unfold kaB; rw [decide_eq_true h2, decide_eq_true q]; rfl⟩
      rw [h] at this
      cases this
    obtain ⟨t, ht⟩ := Nat.exists_testBit_of_ne_zero h3
    rw [Nat.testBit_and, Bool.and_eq_true] at ht
    have ht6 : t < 6 := by
      rcases Nat.lt_or_ge t 6 with q | q
      · exact q
      · have : ks u T m < 2 ^ t := Nat.lt_of_lt_of_le (hks m h1).1 (Nat.pow_le_pow_right (n := 2) (i := 6) (j := t) (by decide) q)
        rw [Nat.testBit_lt_two_pow this] at ht
        cases ht.1
    exact ⟨t, ht6, ht.2, by rw [← (hks m h1).2 t ht6]; exact ht.1⟩
  · intro h
    rw [Bool.eq_false_iff]
    intro q
    obtain ⟨m, hm, q⟩ := (anyB_iff _ M).mp q
    unfold kaB at q
    rw [Bool.and_eq_true, decide_eq_true_iff, decide_eq_true_iff] at q
    obtain ⟨t, ht, h1, h2⟩ := h m ((hal m).mpr ⟨hm, q.1⟩)
    have h3 : (ks u T m &&& s).testBit t = true := by
      rw [Nat.testBit_and, (hks m hm).2 t ht, h1, h2]
      rfl
    rw [q.2, Nat.zero_testBit] at h3
    cases h3
def enI (g : Nat → Prop) (s le : Nat) : Prop := le ≤ 6 ∧ (le = 6 ∨ ∃ s', s' < 64 ∧ ccnt (Nat.testBit s') 6 = le ∧ g s') ∧ ∀ s', s' < s → g s' → le ≤ ccnt (Nat.testBit s') 6
theorem en1_inner {E : gE} {X : gC} {ad : Nat → Nat} (hX : gK E X cX1_enough 5 RX1 (rmX 5 120)) (v : GU) (s : Nat) (hs : s < 64) (x1 : Value)
    (hk : ∀ q : Value, G E X 5 0 0 (x1W E ad v) 38 [.ref (ad 0), x1, .int (nI s), .int (nI (ccnt s.testBit 6)), q] []) :
    ∀ (f t : Nat), t + f = 6 → G E X 5 0 0 (x1W E ad v) 16 [.ref (ad 0), x1, .int (nI s), .int (nI (ccnt s.testBit t)), .int (nI t)] [] := by
  intro f
  induction f with
  | zero =>
    intro t ht
    have e : t = 6 := by omega
    subst e
    refine g_iload (pc := 16) hX dX1_enough_16 rfl ?_
    refine g_bipush (pc := 18) (v := nI 6) hX dX1_enough_18 cb_6 ?_
    refine g_icmp_ge (pc := 20) (tgt := 38) hX dX1_enough_20 (by decide) (fun c1 => ?_) (fun c1 => ?_)
    · exact hk _
    · exact absurd (nI_le (Nat.le_refl 6) (by decide)) c1
  | succ f ih =>
    intro t ht
    refine g_iload (pc := 16) hX dX1_enough_16 rfl ?_
    refine g_bipush (pc := 18) (v := nI 6) hX dX1_enough_18 cb_6 ?_
    refine g_icmp_ge (pc := 20) (tgt := 38) hX dX1_enough_20 (by decide) (fun c1 => ?_) (fun c1 => ?_)
    · exact absurd c1 (nI_ge (by omega) (by decide))
    · refine g_iload_n (pc := 23) (i := 3) hX dX1_enough_23 rfl rfl ?_
      refine g_iload_n (pc := 24) (i := 2) hX dX1_enough_24 rfl rfl ?_
      refine g_iload (pc := 25) hX dX1_enough_25 rfl ?_
      refine g_ishr (pc := 27) hX dX1_enough_27 ?_
      refine g_iconst (pc := 28) (v := 1) hX dX1_enough_28 ci_1 ?_
      refine g_iand (pc := 29) hX dX1_enough_29 ?_
      refine G.topi (bn_bit (by omega) (by omega)) ?_
      refine g_iadd (pc := 30) hX dX1_enough_30 ?_
      refine G.topi (nI_add _ _) ?_
      refine g_ist3s (pc := 31) hX dX1_enough_31 (by decide) ?_
      first | refine g_inc4N (pc := 32) hX dX1_enough_32 (by decide) ?_ | refine g_inc4 (pc := 32) hX dX1_enough_32 (by decide) ?_
      refine g_goto (pc := 35) (tgt := 16) hX dX1_enough_35 (by decide) ?_
      exact ih (t + 1) (by omega)
theorem en1_loop {E : gE} {X : gC} {ad : Nat → Nat} (hX : gK E X cX1_enough 5 RX1 (rmX 5 120)) (u v : GU) (n T M : Nat) (hw : wf u n T M) (hv : rl u v)
    (hk : ∀ (v1 : GU) (le : Nat) (q : Value), vs v v1 → enI (fun s => anyB (kaB u T s) M = false) 64 le → G E X 5 0 0 (x1W E ad v1) 59 [.ref (ad 0), .int (nI le), q] []) :
    ∀ (f s : Nat), s + f = 64 → ∀ (v1 : GU) (le : Nat), vs v v1 → enI (fun s => anyB (kaB u T s) M = false) s le → G E X 5 0 0 (x1W E ad v1) 5 [.ref (ad 0), .int (nI le), .int (nI s)] [] := by
  intro f
  induction f with
  | zero =>
    intro s hs v1 le h1 hI
    have e : s = 64 := by omega
    subst e
    refine g_iload_n (pc := 5) (i := 2) hX dX1_enough_5 rfl rfl ?_
    refine g_bipush (pc := 6) (v := nI 64) hX dX1_enough_6 cb_64 ?_
    refine g_icmp_ge (pc := 8) (tgt := 59) hX dX1_enough_8 (by decide) (fun c1 => ?_) (fun c1 => ?_)
    · exact hk v1 le _ h1 hI
    · exact absurd (nI_le (Nat.le_refl 64) (by decide)) c1
  | succ f ih =>
    intro s hs v1 le h1 hI
    have hI0 := hI
    obtain ⟨i1, i2, i3⟩ := hI
    refine g_iload_n (pc := 5) (i := 2) hX dX1_enough_5 rfl rfl ?_
    refine g_bipush (pc := 6) (v := nI 64) hX dX1_enough_6 cb_64 ?_
    refine g_icmp_ge (pc := 8) (tgt := 59) hX dX1_enough_8 (by decide) (fun c1 => ?_) (fun c1 => ?_)
    · exact absurd c1 (nI_ge (by omega) (by decide))
    · refine g_iconst (pc := 11) (v := 0) hX dX1_enough_11 ci_0 ?_
      refine g_ist3n (pc := 12) hX dX1_enough_12 (by decide) ?_
      refine g_iconst (pc := 13) (v := 0) hX dX1_enough_13 ci_0 ?_
      refine g_ist4n (pc := 14) hX dX1_enough_14 (by decide) ?_
      refine en1_inner hX v1 s (by omega) _ (fun q => ?_) 6 0 rfl
      have hc6 := ccnt_le s.testBit 6
      refine g_iload_n (pc := 38) (i := 3) hX dX1_enough_38 rfl rfl ?_
      refine g_iload_n (pc := 39) (i := 1) hX dX1_enough_39 rfl rfl ?_
      refine g_icmp_ge (pc := 40) (tgt := 53) hX dX1_enough_40 (by decide) (fun c2 => ?_) (fun c2 => ?_)
      · have hge : le ≤ ccnt s.testBit 6 := le_of_nI c2 (by omega) (by omega)
        first | refine g_inc2N (pc := 53) hX dX1_enough_53 (by decide) ?_ | refine g_inc2 (pc := 53) hX dX1_enough_53 (by decide) ?_
        refine g_goto (pc := 56) (tgt := 5) hX dX1_enough_56 (by decide) ?_
        refine G.take 3 rfl ?_
        refine ih (s + 1) (by omega) v1 le h1 ⟨i1, i2, fun s' hs' hg => ?_⟩
        by_cases e : s' = s
        · subst e; exact hge
        · exact i3 s' (by omega) hg
      · have hlt : ccnt s.testBit 6 < le := gt_of_nI c2 (by omega) (by omega)
        refine g_aload_n (pc := 43) (i := 0) hX dX1_enough_43 rfl rfl ?_
        refine g_iload_n (pc := 44) (i := 2) hX dX1_enough_44 rfl rfl ?_
        refine g_calli0 (pc := 45) hX (m1_killsAll E ad u v1 n T M s (by omega) hw (rl_v h1 hv)) (x1_wf E ad) Y1_killsAll q379 dX1_enough_45 rfl rfl (Nat.le_of_ble_eq_true rfl) (by decide) (fun r v2 h2 => ?_)
        obtain ⟨g1, rfl⟩ := h2
        refine g_if_eq (pc := 48) (tgt := 53) hX dX1_enough_48 (by decide) (fun c3 => ?_) (fun c3 => ?_)
        · have hb := tn_0 c3
          first | refine g_inc2N (pc := 53) hX dX1_enough_53 (by decide) ?_ | refine g_inc2 (pc := 53) hX dX1_enough_53 (by decide) ?_
          refine g_goto (pc := 56) (tgt := 5) hX dX1_enough_56 (by decide) ?_
          refine G.take 3 rfl ?_
          refine ih (s + 1) (by omega) v2 le (vs_tr h1 g1) ⟨i1, i2, fun s' hs' hg => ?_⟩
          by_cases e : s' = s
          · subst e
            have hg : anyB (kaB u T s') M = false := hg
            rw [hg] at hb
            cases hb
          · exact i3 s' (by omega) hg
        · have hb := tn_1 c3
          have hg : anyB (kaB u T s) M = false := by
            cases hz : anyB (kaB u T s) M with
            | false => rfl
            | true => rw [hz] at hb; cases hb
          refine g_iload_n (pc := 51) (i := 3) hX dX1_enough_51 rfl rfl ?_
          refine g_ist1s (pc := 52) hX dX1_enough_52 (by decide) ?_
          first | refine g_inc2N (pc := 53) hX dX1_enough_53 (by decide) ?_ | refine g_inc2 (pc := 53) hX dX1_enough_53 (by decide) ?_
          refine g_goto (pc := 56) (tgt := 5) hX dX1_enough_56 (by decide) ?_
          refine G.take 3 rfl ?_
          refine ih (s + 1) (by omega) v2 _ (vs_tr h1 g1) ⟨hc6, Or.inr ⟨s, by omega, rfl, hg⟩, fun s' hs' hg' => ?_⟩
          by_cases e : s' = s
          · subst e; exact Nat.le_refl _
          · have := i3 s' (by omega) hg'
            omega
theorem m1_enough (E : gE) (ad : Nat → Nat) (u v : GU) (n T M A : Nat) (hw : wf u n T M) (hv : rl u v) (hA : isA (km u T M) (alK (km u T M) T) A) (hA6 : A ≤ 6) : gM E yX1_enough cX1_enough 5 (some .int) (rmX 5 120) (x1W E ad) [.ref (ad 0)] v (fun r v' => vs v v' ∧ r = nI A) := by
  refine gM_of (by decide) (Nat.le_of_ble_eq_true rfl) rfl (fun _ _ _ => rfl) (fun X hX hE => ?_)
  have hT : T ≤ 6 := hw.2.2.2.1
  refine g_bipush (pc := 0) (v := nI 6) hX dX1_enough_0 cb_6 ?_
  refine g_ist1n (pc := 2) hX dX1_enough_2 (by decide) ?_
  refine g_iconst (pc := 3) (v := 0) hX dX1_enough_3 ci_0 ?_
  refine g_ist2n (pc := 4) hX dX1_enough_4 (by decide) ?_
  refine en1_loop hX u v n T M hw hv (fun v1 le q h1 hI => ?_) 64 0 rfl v 6 (vs_rf v) ⟨Nat.le_refl 6, Or.inl rfl, fun s' h => absurd h (Nat.not_lt_zero s')⟩
  obtain ⟨i1, i2, i3⟩ := hI
  have hle : le ≤ A := by
    obtain ⟨S, hS, hc, hcov⟩ := cov_of_Cv A _ hA.1
    exact Nat.le_trans (i3 S hS ((good_iff u hT).mpr hcov)) hc
  have hge : A ≤ le := by
    rcases i2 with e | ⟨s', hs', e, hg⟩
    · omega
    · have hcv := Cv_of_cov 6 _ (Nat.le_refl 6) ((good_iff u hT).mp hg)
      rw [e] at hcv
      rcases Nat.lt_or_ge le A with z | z
      · exact absurd hcv (hA.2 le z)
      · exact z
  have e : le = A := by omega
  subst e
  refine g_iload_n (pc := 59) (i := 1) hX dX1_enough_59 rfl rfl ?_
  exact hE _ _ _ _ (⟨h1, rfl⟩) dX1_enough_60
theorem oO_0 {u : GU} {mo : Option Nat} {t : Nat} (h : oE u mo t = 0) : oO u mo t = 0 := by
  unfold oO
  rw [if_neg (by rw [h]; decide)]
theorem al1_loop {E : gE} {X : gC} {ad : Nat → Nat} (hX : gK E X cX1_alike 5 RX1 (rmX 2 52)) (u v : GU) (n T M m : Nat) (hw : wf u n T M) (hv : rl u v) (hm : m < M) (hE : gRi E X cX1_alike 5 (x1W E ad) (fun r v' => vs v v' ∧ r = nI (!anyB (fun t => !alk u m t) T).toNat)) :
    ∀ (f t : Nat), t + f = T → anyB (fun t => !alk u m t) t = false → ∀ v1 : GU, vs v v1 → G E X 5 0 0 (x1W E ad v1) 2 [.ref (ad 0), .int (nI m), .int (nI t)] [] := by
  have hT : T ≤ 6 := hw.2.2.2.1
  have hts : v 5 0 = nI T := hv.2.2.2.2.2.1.trans hw.2.2.1
  intro f
  induction f with
  | zero =>
    intro t ht hany v1 h1
    have e : t = T := by omega
    subst e
    have h5 : v1 5 0 = nI t := by rw [h1 5 (by decide)]; exact hts
    refine g_iload_n (pc := 2) (i := 2) hX dX1_alike_2 rfl rfl ?_
    refine g_aload_n (pc := 3) (i := 0) hX dX1_alike_3 rfl rfl ?_
    refine x1_g5 (pc := 4) hX dX1_alike_4 h5 ?_
    refine g_icmp_ge (pc := 7) (tgt := 88) hX dX1_alike_7 (by decide) (fun c1 => ?_) (fun c1 => ?_)
    · refine g_iconst (pc := 88) (v := 1) hX dX1_alike_88 ci_1 ?_
      exact hE _ _ _ _ (⟨h1, by rw [hany]; rfl⟩) dX1_alike_89
    · exact absurd (nI_le (Nat.le_refl t) (by omega)) c1
  | succ f ih =>
    intro t ht hany v1 h1
    have h5 : v1 5 0 = nI T := by rw [h1 5 (by decide)]; exact hts
    have fin : alk u m t = false → (0 : Int32) = nI (!anyB (fun t => !alk u m t) T).toNat := by
      intro h
      have : anyB (fun t => !alk u m t) T = true := (anyB_iff _ T).mpr ⟨t, by omega, by rw [h]; rfl⟩
      rw [this]
      rfl
    have hv1 := rl_v h1 hv
    refine g_iload_n (pc := 2) (i := 2) hX dX1_alike_2 rfl rfl ?_
    refine g_aload_n (pc := 3) (i := 0) hX dX1_alike_3 rfl rfl ?_
    refine x1_g5 (pc := 4) hX dX1_alike_4 h5 ?_
    refine g_icmp_ge (pc := 7) (tgt := 88) hX dX1_alike_7 (by decide) (fun c1 => ?_) (fun c1 => ?_)
    · exact absurd c1 (nI_ge (by omega) (by omega))
    · refine g_aload_n (pc := 10) (i := 0) hX dX1_alike_10 rfl rfl ?_
      refine g_iconst (pc := 11) (v := (-1)) hX dX1_alike_11 ci_m1 ?_
      refine g_aload_n (pc := 12) (i := 0) hX dX1_alike_12 rfl rfl ?_
      refine x1_g6 (pc := 13) hX dX1_alike_13 ?_
      refine g_iload_n (pc := 16) (i := 2) hX dX1_alike_16 rfl rfl ?_
      refine x1_l6 (pc := 17) hX dX1_alike_17 rfl (by omega) (show _ = u 5 t from congrFun hv1.2.2.2.2.2.2.1 t) ?_
      refine g_aload_n (pc := 18) (i := 0) hX dX1_alike_18 rfl rfl ?_
      refine x1_g7 (pc := 19) hX dX1_alike_19 ?_
      refine g_iload_n (pc := 22) (i := 2) hX dX1_alike_22 rfl rfl ?_
      refine x1_l7 (pc := 23) hX dX1_alike_23 rfl (by omega) (show _ = u 6 t from congrFun hv1.2.2.2.2.2.2.2.1 t) ?_
      refine g_callv0 (pc := 24) hX (m1_run E ad u v1 n T M hw hv1 none trivial (u 5 t) (u 6 t)) (x1_wf E ad) Y1_run q318 dX1_alike_24 rfl rfl (Nat.le_of_ble_eq_true rfl) (by decide) (fun v2 h2 => ?_)
      obtain ⟨g1, g2, g3, g4⟩ := h2
      have g3 : v2 15 0 = oE u none t := by unfold oE res; exact g3
      have h2 := vs_tr h1 g1
      have hv2 := rl_v h2 hv
      refine g_aload_n (pc := 27) (i := 0) hX dX1_alike_27 rfl rfl ?_
      refine x1_g15 (pc := 28) hX dX1_alike_28 g3 ?_
      refine g_ist3n (pc := 31) hX dX1_alike_31 (by decide) ?_
      refine g_aload_n (pc := 32) (i := 0) hX dX1_alike_32 rfl rfl ?_
      refine x1_g14 (pc := 33) hX dX1_alike_33 ?_
      refine g_iconst (pc := 36) (v := 0) hX dX1_alike_36 ci_0 ?_
      refine x1_l14 (pc := 37) hX dX1_alike_37 (show (0 : Int32) = nI 0 from rfl) (by decide) g2 ?_
      refine g_ist4n (pc := 38) hX dX1_alike_38 (by decide) ?_
      refine g_aload_n (pc := 40) (i := 0) hX dX1_alike_40 rfl rfl ?_
      refine g_iload_n (pc := 41) (i := 1) hX dX1_alike_41 rfl rfl ?_
      refine g_aload_n (pc := 42) (i := 0) hX dX1_alike_42 rfl rfl ?_
      refine x1_g6 (pc := 43) hX dX1_alike_43 ?_
      refine g_iload_n (pc := 46) (i := 2) hX dX1_alike_46 rfl rfl ?_
      refine x1_l6 (pc := 47) hX dX1_alike_47 rfl (by omega) (show _ = u 5 t from congrFun hv2.2.2.2.2.2.2.1 t) ?_
      refine g_aload_n (pc := 48) (i := 0) hX dX1_alike_48 rfl rfl ?_
      refine x1_g7 (pc := 49) hX dX1_alike_49 ?_
      refine g_iload_n (pc := 52) (i := 2) hX dX1_alike_52 rfl rfl ?_
      refine x1_l7 (pc := 53) hX dX1_alike_53 rfl (by omega) (show _ = u 6 t from congrFun hv2.2.2.2.2.2.2.2.1 t) ?_
      refine g_callv0 (pc := 54) hX (m1_run E ad u v2 n T M hw hv2 (some m) hm (u 5 t) (u 6 t)) (x1_wf E ad) Y1_run q318 dX1_alike_54 rfl rfl (Nat.le_of_ble_eq_true rfl) (by decide) (fun v3 h3 => ?_)
      obtain ⟨k1, k2, k3, k4⟩ := h3
      have k3 : v3 15 0 = oE u (some m) t := by unfold oE res; exact k3
      have h3 := vs_tr h2 k1
      have hi : alk u m t = true → G E X 5 0 0 (x1W E ad v3) 2 [.ref (ad 0), .int (nI m), .int (nI (t + 1))] [] := fun q => ih (t + 1) (by omega) (by show (anyB _ t || !alk u m t) = false; rw [hany, q]; rfl) v3 h3
      refine g_aload_n (pc := 57) (i := 0) hX dX1_alike_57 rfl rfl ?_
      refine x1_g15 (pc := 58) hX dX1_alike_58 k3 ?_
      refine g_iload_n (pc := 61) (i := 3) hX dX1_alike_61 rfl rfl ?_
      refine g_icmp_ne (pc := 62) (tgt := 80) hX dX1_alike_62 (by decide) (fun c2 => ?_) (fun c2 => ?_)
      · refine g_iconst (pc := 80) (v := 0) hX dX1_alike_80 ci_0 ?_
        exact hE _ _ _ _ (⟨h3, fin (decide_eq_false (fun q => c2 q.1))⟩) dX1_alike_81
      · refine g_iload_n (pc := 65) (i := 3) hX dX1_alike_65 rfl rfl ?_
        refine g_if_eq (pc := 66) (tgt := 82) hX dX1_alike_66 (by decide) (fun c3 => ?_) (fun c3 => ?_)
        · first | refine g_inc2N (pc := 82) hX dX1_alike_82 (by decide) ?_ | refine g_inc2 (pc := 82) hX dX1_alike_82 (by decide) ?_
          refine g_goto (pc := 85) (tgt := 2) hX dX1_alike_85 (by decide) ?_
          refine G.take 3 rfl (hi (decide_eq_true ⟨c2, ?_⟩))
          rw [oO_0 c3, oO_0 (c2.trans c3)]
        · refine g_aload_n (pc := 69) (i := 0) hX dX1_alike_69 rfl rfl ?_
          refine x1_g14 (pc := 70) hX dX1_alike_70 ?_
          refine g_iconst (pc := 73) (v := 0) hX dX1_alike_73 ci_0 ?_
          refine x1_l14 (pc := 74) hX dX1_alike_74 (show (0 : Int32) = nI 0 from rfl) (by decide) k2 ?_
          refine g_iload (pc := 75) hX dX1_alike_75 rfl ?_
          rw [← oO_of c3, ← oO_of (mo := some m) (fun q => c3 (c2.symm.trans q))]
          refine g_icmp_eq (pc := 77) (tgt := 82) hX dX1_alike_77 (by decide) (fun c4 => ?_) (fun c4 => ?_)
          · first | refine g_inc2N (pc := 82) hX dX1_alike_82 (by decide) ?_ | refine g_inc2 (pc := 82) hX dX1_alike_82 (by decide) ?_
            refine g_goto (pc := 85) (tgt := 2) hX dX1_alike_85 (by decide) ?_
            exact G.take 3 rfl (hi (decide_eq_true ⟨c2, c4⟩))
          · refine g_iconst (pc := 80) (v := 0) hX dX1_alike_80 ci_0 ?_
            exact hE _ _ _ _ (⟨h3, fin (decide_eq_false (fun q => c4 q.2))⟩) dX1_alike_81
theorem m1_alike (E : gE) (ad : Nat → Nat) (u v : GU) (n T M m : Nat) (hw : wf u n T M) (hv : rl u v) (hm : m < M) : gM E yX1_alike cX1_alike 5 (some .boolean) (rmX 2 52) (x1W E ad) [.ref (ad 0), .int (nI m)] v (fun r v' => vs v v' ∧ r = nI (!anyB (fun t => !alk u m t) T).toNat) := by
  refine gM_of (by decide) (Nat.le_of_ble_eq_true rfl) rfl (fun r u' h => by rw [h.2]; exact nr_tn _) (fun X hX hE => ?_)
  refine g_iconst (pc := 0) (v := 0) hX dX1_alike_0 ci_0 ?_
  refine g_ist2n (pc := 1) hX dX1_alike_1 (by decide) ?_
  exact al1_loop hX u v n T M m hw hv hm hE T 0 (by omega) rfl v (vs_rf v)
theorem sa1_loop {E : gE} {X : gC} {ad : Nat → Nat} (hX : gK E X cX1_same 3 RX1 (rmX 3 76)) (u v : GU) (n T M : Nat) (hw : wf u n T M) (hv : rl u v) (hE : gRi E X cX1_same 3 (x1W E ad) (fun r v' => vs v v' ∧ r = q_same u T M)) :
    ∀ (f m : Nat), m + f = M → ∀ v1 : GU, vs v v1 → G E X 3 0 0 (x1W E ad v1) 4 [.ref (ad 0), .int (nI (ccnt (fun m => !anyB (fun t => !alk u m t) T) m)), .int (nI m)] [] := by
  have hM : M ≤ 24 := hw.2.2.2.2.2.1
  have hms : v 10 0 = nI M := hv.2.2.2.2.2.2.2.2.2.2.1.trans hw.2.2.2.2.1
  intro f
  induction f with
  | zero =>
    intro m hm v1 h1
    have e : m = M := by omega
    subst e
    have h10 : v1 10 0 = nI m := by rw [h1 10 (by decide)]; exact hms
    refine g_iload_n (pc := 4) (i := 2) hX dX1_same_4 rfl rfl ?_
    refine g_aload_n (pc := 5) (i := 0) hX dX1_same_5 rfl rfl ?_
    refine x1_g10 (pc := 6) hX dX1_same_6 h10 ?_
    refine g_icmp_ge (pc := 9) (tgt := 29) hX dX1_same_9 (by decide) (fun c1 => ?_) (fun c1 => ?_)
    · refine g_iload_n (pc := 29) (i := 1) hX dX1_same_29 rfl rfl ?_
      exact hE _ _ _ _ (⟨h1, rfl⟩) dX1_same_30
    · exact absurd (nI_le (Nat.le_refl m) (by omega)) c1
  | succ f ih =>
    intro m hm v1 h1
    have h10 : v1 10 0 = nI M := by rw [h1 10 (by decide)]; exact hms
    refine g_iload_n (pc := 4) (i := 2) hX dX1_same_4 rfl rfl ?_
    refine g_aload_n (pc := 5) (i := 0) hX dX1_same_5 rfl rfl ?_
    refine x1_g10 (pc := 6) hX dX1_same_6 h10 ?_
    refine g_icmp_ge (pc := 9) (tgt := 29) hX dX1_same_9 (by decide) (fun c1 => ?_) (fun c1 => ?_)
    · exact absurd c1 (nI_ge (by omega) (by omega))
    · refine g_aload_n (pc := 12) (i := 0) hX dX1_same_12 rfl rfl ?_
      refine g_iload_n (pc := 13) (i := 2) hX dX1_same_13 rfl rfl ?_
      refine g_calli0 (pc := 14) hX (m1_alike E ad u v1 n T M m hw (rl_v h1 hv) (by omega)) (x1_wf E ad) Y1_alike q387 dX1_same_14 rfl rfl (Nat.le_of_ble_eq_true rfl) (by decide) (fun r v2 h2 => ?_)
      obtain ⟨g1, rfl⟩ := h2
      have hi := ih (m + 1) (by omega) v2 (vs_tr h1 g1)
      have e1 : ccnt (fun m => !anyB (fun t => !alk u m t) T) (m + 1) = ccnt (fun m => !anyB (fun t => !alk u m t) T) m + (!anyB (fun t => !alk u m t) T).toNat := rfl
      rw [e1] at hi
      generalize (!anyB (fun t => !alk u m t) T) = b at hi ⊢
      refine g_if_eq (pc := 17) (tgt := 23) hX dX1_same_17 (by decide) (fun c2 => ?_) (fun c2 => ?_)
      · have hb := tn_0 c2
        subst hb
        first | refine g_inc2N (pc := 23) hX dX1_same_23 (by decide) ?_ | refine g_inc2 (pc := 23) hX dX1_same_23 (by decide) ?_
        refine g_goto (pc := 26) (tgt := 4) hX dX1_same_26 (by decide) ?_
        exact hi
      · have hb := tn_1 c2
        subst hb
        first | refine g_inc1N (pc := 20) hX dX1_same_20 (by decide) ?_ | refine g_inc1 (pc := 20) hX dX1_same_20 (by decide) ?_
        first | refine g_inc2N (pc := 23) hX dX1_same_23 (by decide) ?_ | refine g_inc2 (pc := 23) hX dX1_same_23 (by decide) ?_
        refine g_goto (pc := 26) (tgt := 4) hX dX1_same_26 (by decide) ?_
        exact hi
theorem m1_same (E : gE) (ad : Nat → Nat) (u v : GU) (n T M : Nat) (hw : wf u n T M) (hv : rl u v) : gM E yX1_same cX1_same 3 (some .int) (rmX 3 76) (x1W E ad) [.ref (ad 0)] v (fun r v' => vs v v' ∧ r = q_same u T M) := by
  refine gM_of (by decide) (Nat.le_of_ble_eq_true rfl) rfl (fun _ _ _ => rfl) (fun X hX hE => ?_)
  refine g_iconst (pc := 0) (v := 0) hX dX1_same_0 ci_0 ?_
  refine g_ist1n (pc := 1) hX dX1_same_1 (by decide) ?_
  refine g_iconst (pc := 2) (v := 0) hX dX1_same_2 ci_0 ?_
  refine g_ist2n (pc := 3) hX dX1_same_3 (by decide) ?_
  exact sa1_loop hX u v n T M hw hv hE M 0 (by omega) v (vs_rf v)
end
section
/-! the law's invariant, and that each call keeps it -/
def lawI (u v : GU) : Prop := ∃ n T M, wf u n T M ∧ rl u v ∧ okR u T M
theorem lawI_q {u v u' v' : GU} {n T M : Nat} (hw : wf u n T M) (hv : rl u v) (hu : quQ u T M u') (hs : vs v v') : lawI u' v' :=
  ⟨n, T, M, cs_wf hu.1 hw, rl_v hs (rl_cs hu.1 hv), hu.2⟩
theorem bt_tn (x : Int32) (i : Nat) : bt x i = x.toBitVec.toNat.testBit i := rfl
theorem bt_3 : ∀ i, i < 32 → bt 3 i = decide (i < 2) := by decide +kernel
theorem rg_15 (x : Int32) : x &&& nI 15 = nI (x.toBitVec.toNat % 16) := pk_and x 4 (by decide)
theorem rg_3 (x : Int32) : x &&& 3 = nI (x.toBitVec.toNat % 16 % 4) := by
  rw [pk_and x 2 (by decide)]
  congr 1
  omega
theorem rg_23 (x : Int32) : (x >>> ((2 : Int32) &&& 31)) &&& 3 = nI (x.toBitVec.toNat % 16 / 4) := by
  refine bt_ext (fun i hi => ?_)
  have h2 := bt_sshr 2 (by decide) x hi
  rw [show nI 2 = (2 : Int32) from rfl] at h2
  rw [bt_and, h2, bt_3 i hi, bt_nI hi]
  rw [show x.toBitVec.toNat % 16 / 4 = x.toBitVec.toNat % 2 ^ 4 / 2 ^ 2 from rfl, Nat.testBit_div_two_pow, Nat.testBit_mod_two_pow]
  by_cases h : i < 2
  · rw [if_pos (by omega), decide_eq_true h, Bool.and_true, decide_eq_true (by omega), Bool.true_and, bt_tn]
    congr 1
    omega
  · rw [decide_eq_false h, Bool.and_false, decide_eq_false (by omega), Bool.false_and]
theorem lawI_emit {u v : GU} {n T M : Nat} (o rg c : Int32) (hw : wf u n T M) (hv : rl u v) (hr : okR u T M) {r1 r2 : Int32} {u' v' : GU} (h1 : e0_emit u n o rg c = (r1, u')) (h2 : e1_emit v n o rg c = (r2, v')) : r1 = r2 ∧ lawI u' v' := by
  unfold e0_emit at h1
  unfold e1_emit at h2
  by_cases hb : o < 0 ∨ nI 7 < o
  · rw [if_pos hb] at h1 h2
    cases h1
    cases h2
    exact ⟨rfl, n, T, M, hw, hv, hr⟩
  · rw [if_neg hb] at h1 h2
    by_cases hn : n < 12
    · rw [if_pos hn] at h1 h2
      cases h1
      cases h2
      refine ⟨rfl, n + 1, T, M, ?_, ?_, Or.inl rfl⟩
      · obtain ⟨w1, w2, w3, w4, w5, w6, w7, w8, w9, w10⟩ := hw
        refine ⟨rfl, by omega, w3, w4, w5, w6, fun p hp => ?_, fun i hi => ?_, w9, w10⟩
        · show ∃ g, g < 16 ∧ upd (u 2) n (rg &&& nI 15) p = nI g
          by_cases e : p = n
          · subst e
            exact ⟨rg.toBitVec.toNat % 16, Nat.mod_lt _ (by decide), by rw [upd_same, rg_15]⟩
          · rw [upd_ne _ _ e]; exact w7 p hp
        · obtain ⟨w, q1, q2⟩ := w8 i hi
          exact ⟨w, by omega, q2⟩
      · obtain ⟨q0, q1, q2, q3, q4, q5, q6, q7, q8, q9, q10, q11, q12, q13⟩ := hv
        have hrg : ∀ p, p ≠ n → rgN (gput (gput (va_up (va_up (va_up u 1 (upd (u 1) n o)) 2 (upd (u 2) n (rg &&& nI 15))) 3 (upd (u 3) n c)) 0 (nI (n + 1))) 13 0) p = rgN u p := fun p e => by
          show (upd (u 2) n (rg &&& nI 15) p).toNatClampNeg % 16 = _
          rw [upd_ne _ _ e]
          rfl
        have hrn : rgN (gput (gput (va_up (va_up (va_up u 1 (upd (u 1) n o)) 2 (upd (u 2) n (rg &&& nI 15))) 3 (upd (u 3) n c)) 0 (nI (n + 1))) 13 0) n = rg.toBitVec.toNat % 16 :=
          rgN_of (show upd (u 2) n (rg &&& nI 15) n = _ by rw [upd_same, rg_15]) (Nat.mod_lt _ (by decide))
        refine ⟨rfl, ?_, fun p hp => ?_, fun p hp => ?_, ?_, q5, q6, q7, q8, q9, q10, q11, q12, q13⟩
        · show upd (v 1) n o = upd (u 1) n o
          rw [q1]
        · show upd (v 2) n (rg &&& 3) p = _
          by_cases e : p = n
          · subst e
            rw [upd_same, hrn, rg_3]
          · rw [upd_ne _ _ e, hrg p e]; exact q2 p hp
        · show upd (v 3) n ((rg >>> ((2 : Int32) &&& 31)) &&& 3) p = _
          by_cases e : p = n
          · subst e
            rw [upd_same, hrn, rg_23]
          · rw [upd_ne _ _ e, hrg p e]; exact q3 p hp
        · show upd (v 4) n c = upd (u 3) n c
          rw [q4]
    · rw [if_neg hn] at h1 h2
      cases h1
      cases h2
      exact ⟨rfl, n, T, M, hw, hv, hr⟩
/-- a test is added; R: the registers that a run has left -/
theorem lawI_add {u u0 v v1 : GU} {n T M : Nat} (x y z w : Int32) (hz : z = 0 ∨ z = 1) (hw : wf u n T M) (hv : rl u v) (hc : cs u u0) (hs : vs v v1) (hT : T < 6) {r1 : Int32} {u' : GU} (h1 : e0_addTest u0 T x y z w = (r1, u')) : r1 = nI T ∧ lawI u' (e1_add v1 T x y z w) := by
  have hw0 := cs_wf hc hw
  have hv0 := rl_v hs (rl_cs hc hv)
  unfold e0_addTest at h1
  rw [if_pos hT] at h1
  cases h1
  refine ⟨rfl, n, T + 1, M, ?_, ?_, Or.inl rfl⟩
  · obtain ⟨w1, w2, w3, w4, w5, w6, w7, w8, w9, w10⟩ := hw0
    refine ⟨w1, w2, rfl, by omega, w5, w6, w7, w8, fun i => ?_, w10⟩
    show upd (u0 7) T z i = 0 ∨ upd (u0 7) T z i = 1
    by_cases e : i = T
    · subst e; rw [upd_same]; exact hz
    · rw [upd_ne _ _ e]; exact w9 i
  · obtain ⟨q0, q1, q2, q3, q4, q5, q6, q7, q8, q9, q10, q11, q12, q13⟩ := hv0
    refine ⟨q0, q1, q2, q3, q4, rfl, ?_, ?_, ?_, ?_, q10, q11, q12, q13⟩
    · show upd (v1 6) T x = upd (u0 5) T x
      rw [q6]
    · show upd (v1 7) T y = upd (u0 6) T y
      rw [q7]
    · show upd (v1 8) T z = upd (u0 7) T z
      rw [q8]
    · show upd (v1 9) T w = upd (u0 8) T w
      rw [q9]
theorem lawI_test {u v : GU} {n T M : Nat} (x y w : Int32) (hw : wf u n T M) (hv : rl u v) (hr : okR u T M) {r1 r2 : Int32} {u' v' : GU} (h1 : e0_addTest u T x y 1 w = (r1, u')) (h2 : if T < 6 then (r2 = nI T ∧ v' = e1_add v T x y 1 w) else (r2 = -2 ∧ v' = v)) : r1 = r2 ∧ lawI u' v' := by
  by_cases hT : T < 6
  · rw [if_pos hT] at h2
    obtain ⟨rfl, rfl⟩ := h2
    exact lawI_add x y 1 w (Or.inr rfl) hw hv (cs_rf u) (vs_rf v) hT h1
  · rw [if_neg hT] at h2
    obtain ⟨rfl, rfl⟩ := h2
    unfold e0_addTest at h1
    rw [if_neg hT] at h1
    cases h1
    exact ⟨rfl, n, T, M, hw, hv, hr⟩
theorem lawI_snap {u v : GU} {n T M : Nat} (x y : Int32) (hw : wf u n T M) (hv : rl u v) (hr : okR u T M) {r1 r2 : Int32} {u' v' : GU}
    (h1 : if T < 6 then ∃ R, e0_addTest (va_up u 20 R) T x y (eI (u 0 0) (rxy u none x y).2.1) ((rxy u none x y).1 0) = (r1, u') else (r1 = -2 ∧ u' = u))
    (h2 : if T < 6 then ∃ v1, vs v v1 ∧ r2 = nI T ∧ v' = e1_add v1 T x y (eI (u 0 0) (rxy u none x y).2.1) ((rxy u none x y).1 0) else (r2 = -2 ∧ v' = v)) : r1 = r2 ∧ lawI u' v' := by
  by_cases hT : T < 6
  · rw [if_pos hT] at h1 h2
    obtain ⟨R, h1⟩ := h1
    obtain ⟨v1, hs, rfl, rfl⟩ := h2
    exact lawI_add x y _ _ (eI_01 _ _) hw hv (cs_up (by decide) R) hs hT h1
  · rw [if_neg hT] at h1 h2
    obtain ⟨rfl, rfl⟩ := h1
    obtain ⟨rfl, rfl⟩ := h2
    exact ⟨rfl, n, T, M, hw, hv, hr⟩
theorem lawI_mut {u v : GU} {n T M : Nat} (p : Nat) (z c : Int32) (hz : z = 0 ∨ z = 1) (hp : p < n) (hw : wf u n T M) (hv : rl u v) (hr : okR u T M) {r1 r2 : Int32} {u' v' : GU} (h1 : e0_addMutant u M (nI p) z c = (r1, u')) (h2 : e1_mutate v M (nI p) z c = (r2, v')) : r1 = r2 ∧ lawI u' v' := by
  unfold e0_addMutant at h1
  unfold e1_mutate at h2
  by_cases hM : M < 24
  · rw [if_pos hM] at h1 h2
    cases h1
    cases h2
    refine ⟨rfl, n, T, M + 1, ?_, ?_, Or.inl rfl⟩
    · obtain ⟨w1, w2, w3, w4, w5, w6, w7, w8, w9, w10⟩ := hw
      refine ⟨w1, w2, w3, w4, rfl, by omega, w7, fun i hi => ?_, w9, fun i => ?_⟩
      · show ∃ w, w < n ∧ upd (u 10) M (nI p) i = nI w
        by_cases e : i = M
        · subst e
          exact ⟨p, hp, upd_same _ _ _⟩
        · rw [upd_ne _ _ e]
          exact w8 i (by omega)
      · show upd (u 11) M z i = 0 ∨ upd (u 11) M z i = 1
        by_cases e : i = M
        · subst e; rw [upd_same]; exact hz
        · rw [upd_ne _ _ e]; exact w10 i
    · obtain ⟨q0, q1, q2, q3, q4, q5, q6, q7, q8, q9, q10, q11, q12, q13⟩ := hv
      refine ⟨q0, q1, q2, q3, q4, q5, q6, q7, q8, q9, rfl, ?_, ?_, ?_⟩
      · show upd (v 11) M (nI p) = upd (u 10) M (nI p)
        rw [q11]
      · show upd (v 12) M z = upd (u 11) M z
        rw [q12]
      · show upd (v 13) M c = upd (u 12) M c
        rw [q13]
  · rw [if_neg hM] at h1 h2
    cases h1
    cases h2
    exact ⟨rfl, n, T, M, hw, hv, hr⟩
theorem lawI_mOp {u v : GU} {n T M : Nat} (p o : Int32) (hw : wf u n T M) (hv : rl u v) (hr : okR u T M) {r1 r2 : Int32} {u' v' : GU} (h1 : e0_mutateOp u M p o = (r1, u')) (h2 : e1_mutateOp v M p o = (r2, v')) : r1 = r2 ∧ lawI u' v' := by
  unfold e0_mutateOp at h1
  unfold e1_mutateOp at h2
  rw [hv.1] at h2
  by_cases hb : p < 0 ∨ u 0 0 ≤ p
  · rw [if_pos hb] at h1 h2
    cases h1
    cases h2
    exact ⟨rfl, n, T, M, hw, hv, hr⟩
  · rw [if_neg hb] at h1 h2
    by_cases ho : o < 0 ∨ nI 7 < o
    · rw [if_pos ho] at h1 h2
      cases h1
      cases h2
      exact ⟨rfl, n, T, M, hw, hv, hr⟩
    · rw [if_neg ho] at h1 h2
      obtain ⟨j, hj, rfl⟩ := noI_of hw.1 (by have := hw.2.1; omega) hb
      exact lawI_mut j 1 o (Or.inr rfl) hj hw hv hr h1 h2
theorem lawI_mC {u v : GU} {n T M : Nat} (p c : Int32) (hw : wf u n T M) (hv : rl u v) (hr : okR u T M) {r1 r2 : Int32} {u' v' : GU} (h1 : e0_mutateC u M p c = (r1, u')) (h2 : e1_mutateC v M p c = (r2, v')) : r1 = r2 ∧ lawI u' v' := by
  unfold e0_mutateC at h1
  unfold e1_mutateC at h2
  rw [hv.1] at h2
  by_cases hb : p < 0 ∨ u 0 0 ≤ p
  · rw [if_pos hb] at h1 h2
    cases h1
    cases h2
    exact ⟨rfl, n, T, M, hw, hv, hr⟩
  · rw [if_neg hb] at h1 h2
    obtain ⟨j, hj, rfl⟩ := noI_of hw.1 (by have := hw.2.1; omega) hb
    exact lawI_mut j 0 c (Or.inl rfl) hj hw hv hr h1 h2
theorem lawI_clear {u v : GU} {n T M : Nat} (hw : wf u n T M) (hv : rl u v) : lawI (e0_clear u) (e1_clear v) := by
  refine ⟨n, 0, 0, ?_, ?_, Or.inl rfl⟩
  · obtain ⟨w1, w2, w3, w4, w5, w6, w7, w8, w9, w10⟩ := hw
    exact ⟨w1, w2, rfl, by omega, rfl, by omega, w7, fun i hi => absurd hi (Nat.not_lt_zero i), w9, w10⟩
  · obtain ⟨q0, q1, q2, q3, q4, q5, q6, q7, q8, q9, q10, q11, q12, q13⟩ := hv
    exact ⟨q0, q1, q2, q3, q4, rfl, q6, q7, q8, q9, rfl, q11, q12, q13⟩
theorem lawI_0 : lawI (fun _ _ => 0) (fun _ _ => 0) := by
  refine ⟨0, 0, 0, ⟨rfl, by omega, rfl, by omega, rfl, by omega, fun p _ => ⟨0, by decide, rfl⟩, fun i hi => absurd hi (Nat.not_lt_zero i), fun _ => Or.inl rfl, fun _ => Or.inl rfl⟩, ⟨rfl, rfl, fun p _ => ?_, fun p _ => ?_, rfl, rfl, rfl, rfl, rfl, rfl, rfl, rfl, rfl, rfl⟩, Or.inl rfl⟩
  · rw [rgN_of (g := 0) rfl (by decide)]; rfl
  · rw [rgN_of (g := 0) rfl (by decide)]; rfl
/-- there is a least number of tests, and it isn't above six -/
theorem isA_ex (K : Nat → Nat) (T : Nat) (hT : T ≤ 6) : ∃ A, isA K (alK K T) A ∧ A ≤ 6 := by
  have h6 : Cv K 6 (alK K T) := by
    have hc : cov K (alK K T) 63 6 := by
      intro m hm
      unfold alK at hm
      rw [orK_bit] at hm
      obtain ⟨t, ht, q⟩ := (anyB_iff _ T).mp hm
      rw [Bool.true_and] at q
      have h63 : ∀ t, t < 6 → (63 : Nat).testBit t = true := by decide
      exact ⟨t, by omega, h63 t (by omega), q⟩
    exact Cv_of_cov 6 _ (Nat.le_refl 6) hc
  obtain ⟨A, h1, h2⟩ := pk_least (fun j => Cv K j (alK K T)) ⟨6, h6⟩
  refine ⟨A, ⟨h1, h2⟩, ?_⟩
  rcases Nat.lt_or_ge 6 A with q | q
  · exact absurd h6 (h2 6 q)
  · exact q
end
section
/-! rows for the two constructors and for the law: new arrays and objects, final fields, a constructor's contract, the script -/
section
variable {E : gE} {X : gC} {cc : ByteArray} {nL : Nat} {own : String} {rm : Room} {ce sl : Nat} {ws : va_W} {pc : Nat} {L st : List Value}
theorem g_objInit (hX : gK E X cc nL own rm) {idx a : Nat} (hl : Cond.methodLink own idx Lib.objectInit ∈ lw_all) (h2 : Cond.instanceMethod Lib.objectInit ∈ lw_all) (h3 : Cond.code Lib.objectInit ⟨#[0xb1]⟩ 1 none ∈ lw_all) (hd : decode cc pc = .ok (.invokespecial idx, 3)) (hf : 1 ≤ rm.frames) (hlo : 12 ≤ rm.locals) (k : G E X nL ce sl ws (pc + 3) L []) : G E X nL ce sl ws pc L [.ref a] := by
  intro H locs ls hP hD hS hL
  have hts := hX.2.2.2.2.2.2.1
  obtain ⟨hx, hb, hml, -, hown, -, hA, hK⟩ := hX.2
  have hR := hX.1
  subst hR
  refine W.objInit hx hb hown (hts _ hl) (hts _ h2) (hts _ h3) rfl (by rw [hml]; exact hL.1) rfl hd hf ?_ (k H locs ls hP hD hS hL)
  show 2 * 0 + 0 + 12 ≤ _
  omega
theorem g_newI {n : Int32} {N : Nat} {c0 : Nat × va_E} {arrs : va_W} (hX : gK E X cc nL own rm) (hd : decode cc pc = .ok (.newarray .int, 2)) (hN : n = nI N) (hNb : N ≤ 1000) (hc : ce + 1 ≤ rm.cells) (hs : sl + N ≤ rm.slots) (kk : ∀ q : Nat, G E X nL (ce + 1) (sl + N) (c0 :: (arrs ++ [(q, .inl (E.dI, N, .inl (fun _ => 0)))])) (pc + 2) L (.ref q :: st)) : G E X nL ce sl (c0 :: arrs) pc L (.int n :: st) := by
  subst hN
  intro H locs ls hP hD hS hL
  have hts := hX.2.2.2.2.2.2.1
  obtain ⟨hx, hb, hml, -, hown, -, hA, hK⟩ := hX.2
  have hR := hX.1
  subst hR
  refine va_newa (atype := .int) (ty := .int) (a0 := (N, .inl (fun _ => 0))) hx hb (hts _ q119) rfl hK hP hD hS hA (fun cA => rfl) (nI_pos (by omega)) (nI_clamp (by omega)) (by show N * 4 ≤ _; omega) hc hs hd (fun q cA H1 hK1 hP1 hD1 hS1 => ?_)
  have e1 : X.s.vm.findClass ("[" ++ FieldType.int.toString) = some cA := (hK1.2 2 (cA, .int) rfl).2
  have e2 : X.s.vm.findClass ("[" ++ FieldType.int.toString) = some E.dI := (hK.2 0 (E.dI, .int) rfl).2
  have e : cA = E.dI := Option.some.inj (e1.symm.trans e2)
  subst e
  exact kk q H1 locs ls hP1 hD1 hS1 hL
theorem g_newZ {n : Int32} {N : Nat} {c0 : Nat × va_E} {arrs : va_W} (hX : gK E X cc nL own rm) (hd : decode cc pc = .ok (.newarray .boolean, 2)) (hN : n = nI N) (hNb : N ≤ 1000) (hc : ce + 1 ≤ rm.cells) (hs : sl + N ≤ rm.slots) (kk : ∀ q : Nat, G E X nL (ce + 1) (sl + N) (c0 :: (arrs ++ [(q, .inl (E.dZ, N, .inl (fun _ => 0)))])) (pc + 2) L (.ref q :: st)) : G E X nL ce sl (c0 :: arrs) pc L (.int n :: st) := by
  subst hN
  intro H locs ls hP hD hS hL
  have hts := hX.2.2.2.2.2.2.1
  obtain ⟨hx, hb, hml, -, hown, -, hA, hK⟩ := hX.2
  have hR := hX.1
  subst hR
  refine va_newa (atype := .boolean) (ty := .boolean) (a0 := (N, .inl (fun _ => 0))) hx hb (hts _ q120) rfl hK hP hD hS hA (fun cA => rfl) (nI_pos (by omega)) (nI_clamp (by omega)) (by show N * 1 ≤ _; omega) hc hs hd (fun q cA H1 hK1 hP1 hD1 hS1 => ?_)
  have e1 : X.s.vm.findClass ("[" ++ FieldType.boolean.toString) = some cA := (hK1.2 2 (cA, .boolean) rfl).2
  have e2 : X.s.vm.findClass ("[" ++ FieldType.boolean.toString) = some E.dZ := (hK.2 1 (E.dZ, .boolean) rfl).2
  have e : cA = E.dZ := Option.some.inj (e1.symm.trans e2)
  subst e
  exact kk q H1 locs ls hP1 hD1 hS1 hL
theorem x0_pF {fs : List Value} {arrs : va_W} {h q : Nat} (hX : gK E X cc nL RX0 rm) (hN : X.meth.name = "<init>") (k idx : Nat) (hk : k < 27) (hT : (TX0 k).1 = RX0) (hl : Cond.fieldLink RX0 idx RX0 (TX0 k).2.1 (TX0 k).2.2.1 ∈ lw_all) (hfin : (TX0 k).2.2.2 = true) {ty : FieldType} (hty : parseFieldDescriptor (TX0 k).2.2.1 = some ty) (hn : narrow ty (.ref q) = .ref q) (hfit : fits ty (.ref q) = true) (hlen : k < fs.length) (hd : decode cc pc = .ok (.putfield idx, 3)) (kk : G E X nL ce sl ((h, .inr (0, fs.set k (.ref q))) :: arrs) (pc + 3) L st) : G E X nL ce sl ((h, .inr (0, fs)) :: arrs) pc L (.ref q :: .ref h :: st) :=
  fun H locs ls hP hD hS hL => va_putF (D := E.D) (ci := 0) (v := .ref q) (ty := ty) (C := RX0) (T := TX0) (N := 27) hX.2.1 hX.2.2.1 hX.2.2.2.2.2.2.1 in_X0 tyX0 tyX0_ok nmX0 hX.2.2.2.2.2.1 hX.2.2.2.2.2.2.2.2 hP hD hS 0 rfl rfl k hk (hX.2.2.2.2.2.2.1 _ hl) (fun _ h9 => by rw [hT] at h9; exact h9) hfin hN hT hty hn hfit hlen hd (fun H1 locs1 hP1 hD1 hS1 => kk H1 locs1 ls hP1 hD1 hS1 hL)
theorem x1_pF {fs : List Value} {arrs : va_W} {h q : Nat} (hX : gK E X cc nL RX1 rm) (hN : X.meth.name = "<init>") (k idx : Nat) (hk : k < 17) (hT : (TX1 k).1 = RX1) (hl : Cond.fieldLink RX1 idx RX1 (TX1 k).2.1 (TX1 k).2.2.1 ∈ lw_all) (hfin : (TX1 k).2.2.2 = true) {ty : FieldType} (hty : parseFieldDescriptor (TX1 k).2.2.1 = some ty) (hn : narrow ty (.ref q) = .ref q) (hfit : fits ty (.ref q) = true) (hlen : k < fs.length) (hd : decode cc pc = .ok (.putfield idx, 3)) (kk : G E X nL ce sl ((h, .inr (1, fs.set k (.ref q))) :: arrs) (pc + 3) L st) : G E X nL ce sl ((h, .inr (1, fs)) :: arrs) pc L (.ref q :: .ref h :: st) :=
  fun H locs ls hP hD hS hL => va_putF (D := E.D) (ci := 1) (v := .ref q) (ty := ty) (C := RX1) (T := TX1) (N := 17) hX.2.1 hX.2.2.1 hX.2.2.2.2.2.2.1 in_X1 tyX1 tyX1_ok nmX1 hX.2.2.2.2.2.1 hX.2.2.2.2.2.2.2.2 hP hD hS 0 rfl rfl k hk (hX.2.2.2.2.2.2.1 _ hl) (fun _ h9 => by rw [hT] at h9; exact h9) hfin hN hT hty hn hfit hlen hd (fun H1 locs1 hP1 hD1 hS1 => kk H1 locs1 ls hP1 hD1 hS1 hL)
end
/-- a constructor: from the bare object to a world wf ad -/
def gI (E : gE) (y : MethodName) (cc : ByteArray) (nL : Nat) (rm : Room) (mc ms : Nat) (h : Nat) (w0 : va_W) (wf : (Nat → Nat) → va_W) : Prop :=
  ∀ sz : Nat, Met E.l y (ws_ y cc nL none) rm (va_Pc [.ref h] (gB E (fun _ => w0) (fun _ _ => 0) sz)) (va_Qv (fun ad : Nat → Nat => ad 0 = h) (fun ad t => va_P E.D vwCl (wf ad) t.heap ∧ va_D (va_A w0 sz) (wf ad)) (va_A w0 sz)) mc ms (va_A w0 sz)
theorem gI_of {E : gE} {y : MethodName} {cc : ByteArray} {nL : Nat} {rm : Room} {mc ms h : Nat} {w0 : va_W} {wf : (Nat → Nat) → va_W} (hy : plainName y.cls = true) (hnm : y.name = "<init>") (hav : 1 ≤ nL)
    (body : ∀ X : gC, gK E X cc nL y.cls rm → X.meth.name = "<init>" → (∀ (ad : Nat → Nat) (pc : Nat) (L : List Value), ad 0 = h → decode cc pc = .ok (.return_, 1) → G E X nL mc ms (wf ad) pc L []) → G E X nL 0 0 w0 0 [.ref h] []) : gI E y cc nL rm mc ms h w0 wf := by
  have hc : ∀ v ∈ [Value.ref h], v.category = 1 := fun v hv => by rw [List.mem_singleton.mp hv]; rfl
  intro sz
  refine Met.ofW (cc := cc) (maxL := nL) (ret := none) hy rfl ?_
  intro p e s m args below meth c s₁ B hml hv
  obtain ⟨rfl, hsz, hP, hK, hD0⟩ := hv
  have hx := B.exec
  have hb := B.bytes
  have hr := B.returns
  have hts := atoms_spec (ws := ws_ y cc nL none) B.pre
  have hts : ∀ w ∈ lw_all, w.before _ s = true := fun w h => hts w (List.mem_cons_of_mem _ h)
  have hown : s.vm.findClass y.cls = some m.cls := findClass_of_methodNamed B.named
  have hlocks := B.notSynchronized
  have hin : meth.name = "<init>" := ((name_of_methodNamed B.named B.method).1).trans hnm
  subst hsz
  have hD := hD0.self (sz := s.heap.size)
  have key := body (p, e, rm, s, m, ([Value.ref h]).toArray, below, meth, c, va_A w0 s.heap.size, MQ below (va_Qv (fun ad : Nat → Nat => ad 0 = h) (fun ad t => va_P E.D vwCl (wf ad) t.heap ∧ va_D (va_A w0 s.heap.size) (wf ad)) (va_A w0 s.heap.size)) ([Value.ref h]).toArray s mc ms (va_A w0 s.heap.size)) ⟨rfl, hx, hb, hml, hlocks, hown, hts, fun q h => Or.inr h, hK⟩ hin
    (fun ad pc L hp hd H locs ls hP hD hS hL => W.vret hx hb hr (fun t ht _ => ⟨⟨ad, rfl, hp, by show va_P E.D vwCl (wf ad) t.heap; rw [ht]; exact hP, hD⟩, va_S.F hS ht⟩) hS.2.2 hd hlocks)
  rw [lg_entry_eq]
  exact key s.heap [] _ hP hD va_S.rf (gL.entry hav hc)
section
variable {E : gE} {X : gC} {cc : ByteArray} {nL : Nat} {own : String} {rm : Room} {ce sl : Nat} {ws : va_W} {pc : Nat} {L st : List Value}
theorem g_callI {y : MethodName} {cy : ByteArray} {nLy mc ms h idx : Nat} {rmy : Room} {w0 wr : va_W} {wf : (Nat → Nat) → va_W} {rest : List Value} (hX : gK E X cc nL own rm) (hM : gI E y cy nLy rmy mc ms h w0 wf) (hcode : Cond.code y cy nLy none ∈ lw_all) (hini : Cond.initialized y.cls ∈ lw_all) (hl : Cond.methodLink own idx y ∈ lw_all) (hin : Cond.instanceMethod y ∈ lw_all) (hnm : y.name = "<init>") (hdesc : y.cls ≠ "java/lang/invoke/MethodHandle" ∧ y.cls ≠ "java/lang/invoke/VarHandle" ∧ (parseMethodDescriptor y.desc).map (fun d => d.parameters.length) = some 0) (hd : decode cc pc = .ok (.invokespecial idx, 3)) (hrest : (rest.map fun v => v.category).sum ≤ 8) (hrc : rmy.cells = mc) (hrs : rmy.slots = ms) (hR : rmy.frames + 1 ≤ rm.frames ∧ 8 + (nLy + 11) + rmy.locals ≤ rm.locals) (hf : ce + mc ≤ rm.cells ∧ sl + ms ≤ rm.slots)
    (kk : ∀ ad : Nat → Nat, ad 0 = h → G E X nL (ce + mc) (sl + ms) (wr ++ wf ad) (pc + 3) L rest) : G E X nL ce sl (wr ++ w0) pc L (.ref h :: rest) := by
  intro H locs ls hP hD hS hL
  have hts := hX.2.2.2.2.2.2.1
  obtain ⟨hx, hb, hml, -, hown, -, hA, hK⟩ := hX.2
  have hR' := hX.1
  subst hR'
  have hF : ∀ q, va_A w0 H.size q → X.A q := g_frees (E := E) (wf := fun _ => w0) (u := fun _ _ => 0) (wr := wr) hA (gD_swap hD) hS
  refine va_callv (va_runI (As := []) (rest := rest) ⟨hx, hb, hml, hown, hts⟩ (hM H.size) (cwI 0 hts (lw_meth hcode) rfl hrc hrs (hts _ hini) (hts _ hl) (hts _ hin) hnm hdesc hR) ⟨g_blind, g_start hX (wf := fun _ => w0) (gP_right hP) (gD_right hD)⟩ rfl rfl hL.1 rfl (lv_room hrest) hd hf) hS (fun q _ h => hF q h) hF (fun ad t H1 locs1 ht hvm hp hB hz hk hS1 => ?_)
  obtain ⟨hB1, hB2⟩ := hB
  rw [ht] at hB1
  refine kk ad hp H1 locs1 ls (va_P.app (fun k q hq => ?_) hB1) (va_D.app (gD_left hD) (hB2.weaken (fun k q _ h => hF q.1 h)) (fun i j x y hx' hy' hxy => ?_)) hS1 hL
  · have hlt := (gP_left hP k q hq).lt
    refine (gP_left hP k q hq).kept (hk q.1 hlt (fun h => ?_))
    rcases h with ⟨k2, e2, h⟩ | h
    · exact gD_off hD hq h rfl
    · omega
  · have h1 := hB2.2 j y hy'
    rw [← hxy] at h1
    have hlt := (gP_left hP i x hx').lt
    rcases h1 with ⟨k2, e2, h⟩ | h
    · exact gD_off hD hx' h rfl
    · omega
theorem g_newO {C : String} {T : u_T} {N ci index : Nat} {fs : List Value} (hX : gK E X cc nL own rm) (hin : ∀ w ∈ u_ws C T N, w ∈ lw_all) (ty : Nat → FieldType) (hty : ∀ k, k < N → parseFieldDescriptor (T k).2.2.1 = some (ty k)) (hcl : Cond.classLink own index C ∈ lw_all) (hinst : Cond.instantiable C N ∈ lw_all) (hini : Cond.initialized C ∈ lw_all) (hc : vwCl[ci]? = some (C, T, N)) (hfs : ∀ j, j < N → defaultValue (ty j) = vp_V fs j) (hcells : ce + 1 ≤ rm.cells) (hslots : sl + N ≤ rm.slots) (hd : decode cc pc = .ok (.new index, 3))
    (kk : ∀ q : Nat, G E X nL (ce + 1) (sl + N) (ws ++ [(q, .inr (ci, fs))]) (pc + 3) L (.ref q :: st)) : G E X nL ce sl ws pc L st := by
  intro H locs ls hP hD hS hL
  have hts := hX.2.2.2.2.2.2.1
  obtain ⟨hx, hb, hml, -, hown, -, hA, hK⟩ := hX.2
  have hR' := hX.1
  subst hR'
  exact va_new hx hb hts hin ty hty hown (hts _ hcl) (hts _ hinst) (hts _ hini) hK hP hD hS hA hc hfs hcells hslots hd (fun q H1 hP1 hD1 hS1 => kk q H1 locs ls hP1 hD1 hS1 hL)
theorem g_sld {b Ln : Nat} {xs : Nat → Int32} (hX : gK E X cc nL own rm) (hB : va_X b Ln xs X.s X.s.heap) (hbl : b < X.s.heap.size) (hbA : ¬ X.A b) (hLn : Ln ≤ 256) {i : Int32} {j : Nat} (hd : decode cc pc = .ok (.iaload, 1)) (hi : i = nI j) (hj : j < Ln) (kk : G E X nL ce sl ws (pc + 1) L (.int (xs j) :: st)) : G E X nL ce sl ws pc L (.int i :: .ref b :: st) := by
  subst hi
  intro H locs ls hP hD hS hL
  refine va_sld hX.2.1 hX.2.2.1 hB hbl hbA hS (vp_in_nI hj (by omega)) hd ?_
  rw [nI_clamp (by omega)]
  exact kk H locs ls hP hD hS hL
theorem g_slen {b Ln : Nat} {xs : Nat → Int32} (hX : gK E X cc nL own rm) (hB : va_X b Ln xs X.s X.s.heap) (hbl : b < X.s.heap.size) (hbA : ¬ X.A b) (hd : decode cc pc = .ok (.arraylength, 1)) (kk : G E X nL ce sl ws (pc + 1) L (.int (nI Ln) :: st)) : G E X nL ce sl ws pc L (.ref b :: st) :=
  fun H locs ls hP hD hS hL => va_slen hX.2.1 hX.2.2.1 hB hbl hbA hS hd (kk H locs ls hP hD hS hL)
end
end
section
/-! the two constructors -/
def x0D : List Value := [.int 0, .null, .null, .null, .int 0, .null, .null, .null, .null, .int 0, .null, .null, .null, .int 0, .null, .null, .null, .null, .null, .null, .null, .int 0, .int 0, .int 0, .null, .null, .null]
theorem x0D_ok : ∀ j, j < 27 → defaultValue (tyX0 j) = vp_V x0D j := fun j hj => match j, hj with
  | 0, _ => rfl
  | 1, _ => rfl
  | 2, _ => rfl
  | 3, _ => rfl
  | 4, _ => rfl
  | 5, _ => rfl
  | 6, _ => rfl
  | 7, _ => rfl
  | 8, _ => rfl
  | 9, _ => rfl
  | 10, _ => rfl
  | 11, _ => rfl
  | 12, _ => rfl
  | 13, _ => rfl
  | 14, _ => rfl
  | 15, _ => rfl
  | 16, _ => rfl
  | 17, _ => rfl
  | 18, _ => rfl
  | 19, _ => rfl
  | 20, _ => rfl
  | 21, _ => rfl
  | 22, _ => rfl
  | 23, _ => rfl
  | 24, _ => rfl
  | 25, _ => rfl
  | 26, _ => rfl
  | j + 27, h => absurd h (by omega)
abbrev rI0 : Room := { frames := 1, cells := 20, slots := 612, locals := 12 }
theorem m0_init (E : gE) (h : Nat) : gI E yX0_init cX0_init 1 rI0 20 612 h [(h, .inr (0, x0D))] (fun ad => x0W E ad (fun _ _ => 0)) := by
  refine gI_of (by decide) rfl (by decide) (fun X hX hN hE => ?_)
  refine g_aload_n (pc := 0) (i := 0) hX dX0_init_0 rfl rfl ?_
  refine g_objInit (pc := 1) hX q34 q35 q36 dX0_init_1 (by decide) (by decide) ?_
  refine g_aload_n (pc := 4) (i := 0) hX dX0_init_4 rfl rfl ?_
  refine g_bipush (pc := 5) (v := nI 12) hX dX0_init_5 cb_12 ?_
  refine g_newI (pc := 7) hX dX0_init_7 rfl (by decide) (by decide) (by decide) (fun q1 => ?_)
  refine x0_pF (pc := 9) hX hN 1 7 (by decide) rfl q38 rfl (ty := .array .int) (by decide +kernel) rfl rfl (Nat.le_of_ble_eq_true rfl) dX0_init_9 ?_
  refine G.eqw (ws' := (h, .inr (0, [.int 0, .ref q1, .null, .null, .int 0, .null, .null, .null, .null, .int 0, .null, .null, .null, .int 0, .null, .null, .null, .null, .null, .null, .null, .int 0, .int 0, .int 0, .null, .null, .null])) :: [(q1, .inl (E.dI, 12, .inl (fun _ => 0)))]) rfl ?_
  refine g_aload_n (pc := 12) (i := 0) hX dX0_init_12 rfl rfl ?_
  refine g_bipush (pc := 13) (v := nI 12) hX dX0_init_13 cb_12 ?_
  refine g_newI (pc := 15) hX dX0_init_15 rfl (by decide) (by decide) (by decide) (fun q2 => ?_)
  refine x0_pF (pc := 17) hX hN 2 13 (by decide) rfl q39 rfl (ty := .array .int) (by decide +kernel) rfl rfl (Nat.le_of_ble_eq_true rfl) dX0_init_17 ?_
  refine G.eqw (ws' := (h, .inr (0, [.int 0, .ref q1, .ref q2, .null, .int 0, .null, .null, .null, .null, .int 0, .null, .null, .null, .int 0, .null, .null, .null, .null, .null, .null, .null, .int 0, .int 0, .int 0, .null, .null, .null])) :: [(q1, .inl (E.dI, 12, .inl (fun _ => 0))), (q2, .inl (E.dI, 12, .inl (fun _ => 0)))]) rfl ?_
  refine g_aload_n (pc := 20) (i := 0) hX dX0_init_20 rfl rfl ?_
  refine g_bipush (pc := 21) (v := nI 12) hX dX0_init_21 cb_12 ?_
  refine g_newI (pc := 23) hX dX0_init_23 rfl (by decide) (by decide) (by decide) (fun q3 => ?_)
  refine x0_pF (pc := 25) hX hN 3 16 (by decide) rfl q40 rfl (ty := .array .int) (by decide +kernel) rfl rfl (Nat.le_of_ble_eq_true rfl) dX0_init_25 ?_
  refine G.eqw (ws' := (h, .inr (0, [.int 0, .ref q1, .ref q2, .ref q3, .int 0, .null, .null, .null, .null, .int 0, .null, .null, .null, .int 0, .null, .null, .null, .null, .null, .null, .null, .int 0, .int 0, .int 0, .null, .null, .null])) :: [(q1, .inl (E.dI, 12, .inl (fun _ => 0))), (q2, .inl (E.dI, 12, .inl (fun _ => 0))), (q3, .inl (E.dI, 12, .inl (fun _ => 0)))]) rfl ?_
  refine g_aload_n (pc := 28) (i := 0) hX dX0_init_28 rfl rfl ?_
  refine g_bipush (pc := 29) (v := nI 6) hX dX0_init_29 cb_6 ?_
  refine g_newI (pc := 31) hX dX0_init_31 rfl (by decide) (by decide) (by decide) (fun q5 => ?_)
  refine x0_pF (pc := 33) hX hN 5 19 (by decide) rfl q42 rfl (ty := .array .int) (by decide +kernel) rfl rfl (Nat.le_of_ble_eq_true rfl) dX0_init_33 ?_
  refine G.eqw (ws' := (h, .inr (0, [.int 0, .ref q1, .ref q2, .ref q3, .int 0, .ref q5, .null, .null, .null, .int 0, .null, .null, .null, .int 0, .null, .null, .null, .null, .null, .null, .null, .int 0, .int 0, .int 0, .null, .null, .null])) :: [(q1, .inl (E.dI, 12, .inl (fun _ => 0))), (q2, .inl (E.dI, 12, .inl (fun _ => 0))), (q3, .inl (E.dI, 12, .inl (fun _ => 0))), (q5, .inl (E.dI, 6, .inl (fun _ => 0)))]) rfl ?_
  refine g_aload_n (pc := 36) (i := 0) hX dX0_init_36 rfl rfl ?_
  refine g_bipush (pc := 37) (v := nI 6) hX dX0_init_37 cb_6 ?_
  refine g_newI (pc := 39) hX dX0_init_39 rfl (by decide) (by decide) (by decide) (fun q6 => ?_)
  refine x0_pF (pc := 41) hX hN 6 22 (by decide) rfl q43 rfl (ty := .array .int) (by decide +kernel) rfl rfl (Nat.le_of_ble_eq_true rfl) dX0_init_41 ?_
  refine G.eqw (ws' := (h, .inr (0, [.int 0, .ref q1, .ref q2, .ref q3, .int 0, .ref q5, .ref q6, .null, .null, .int 0, .null, .null, .null, .int 0, .null, .null, .null, .null, .null, .null, .null, .int 0, .int 0, .int 0, .null, .null, .null])) :: [(q1, .inl (E.dI, 12, .inl (fun _ => 0))), (q2, .inl (E.dI, 12, .inl (fun _ => 0))), (q3, .inl (E.dI, 12, .inl (fun _ => 0))), (q5, .inl (E.dI, 6, .inl (fun _ => 0))), (q6, .inl (E.dI, 6, .inl (fun _ => 0)))]) rfl ?_
  refine g_aload_n (pc := 44) (i := 0) hX dX0_init_44 rfl rfl ?_
  refine g_bipush (pc := 45) (v := nI 6) hX dX0_init_45 cb_6 ?_
  refine g_newZ (pc := 47) hX dX0_init_47 rfl (by decide) (by decide) (by decide) (fun q7 => ?_)
  refine x0_pF (pc := 49) hX hN 7 25 (by decide) rfl q44 rfl (ty := .array .boolean) (by decide +kernel) rfl rfl (Nat.le_of_ble_eq_true rfl) dX0_init_49 ?_
  refine G.eqw (ws' := (h, .inr (0, [.int 0, .ref q1, .ref q2, .ref q3, .int 0, .ref q5, .ref q6, .ref q7, .null, .int 0, .null, .null, .null, .int 0, .null, .null, .null, .null, .null, .null, .null, .int 0, .int 0, .int 0, .null, .null, .null])) :: [(q1, .inl (E.dI, 12, .inl (fun _ => 0))), (q2, .inl (E.dI, 12, .inl (fun _ => 0))), (q3, .inl (E.dI, 12, .inl (fun _ => 0))), (q5, .inl (E.dI, 6, .inl (fun _ => 0))), (q6, .inl (E.dI, 6, .inl (fun _ => 0))), (q7, .inl (E.dZ, 6, .inl (fun _ => 0)))]) rfl ?_
  refine g_aload_n (pc := 52) (i := 0) hX dX0_init_52 rfl rfl ?_
  refine g_bipush (pc := 53) (v := nI 6) hX dX0_init_53 cb_6 ?_
  refine g_newI (pc := 55) hX dX0_init_55 rfl (by decide) (by decide) (by decide) (fun q8 => ?_)
  refine x0_pF (pc := 57) hX hN 8 29 (by decide) rfl q45 rfl (ty := .array .int) (by decide +kernel) rfl rfl (Nat.le_of_ble_eq_true rfl) dX0_init_57 ?_
  refine G.eqw (ws' := (h, .inr (0, [.int 0, .ref q1, .ref q2, .ref q3, .int 0, .ref q5, .ref q6, .ref q7, .ref q8, .int 0, .null, .null, .null, .int 0, .null, .null, .null, .null, .null, .null, .null, .int 0, .int 0, .int 0, .null, .null, .null])) :: [(q1, .inl (E.dI, 12, .inl (fun _ => 0))), (q2, .inl (E.dI, 12, .inl (fun _ => 0))), (q3, .inl (E.dI, 12, .inl (fun _ => 0))), (q5, .inl (E.dI, 6, .inl (fun _ => 0))), (q6, .inl (E.dI, 6, .inl (fun _ => 0))), (q7, .inl (E.dZ, 6, .inl (fun _ => 0))), (q8, .inl (E.dI, 6, .inl (fun _ => 0)))]) rfl ?_
  refine g_aload_n (pc := 60) (i := 0) hX dX0_init_60 rfl rfl ?_
  refine g_bipush (pc := 61) (v := nI 24) hX dX0_init_61 cb_24 ?_
  refine g_newI (pc := 63) hX dX0_init_63 rfl (by decide) (by decide) (by decide) (fun q10 => ?_)
  refine x0_pF (pc := 65) hX hN 10 32 (by decide) rfl q47 rfl (ty := .array .int) (by decide +kernel) rfl rfl (Nat.le_of_ble_eq_true rfl) dX0_init_65 ?_
  refine G.eqw (ws' := (h, .inr (0, [.int 0, .ref q1, .ref q2, .ref q3, .int 0, .ref q5, .ref q6, .ref q7, .ref q8, .int 0, .ref q10, .null, .null, .int 0, .null, .null, .null, .null, .null, .null, .null, .int 0, .int 0, .int 0, .null, .null, .null])) :: [(q1, .inl (E.dI, 12, .inl (fun _ => 0))), (q2, .inl (E.dI, 12, .inl (fun _ => 0))), (q3, .inl (E.dI, 12, .inl (fun _ => 0))), (q5, .inl (E.dI, 6, .inl (fun _ => 0))), (q6, .inl (E.dI, 6, .inl (fun _ => 0))), (q7, .inl (E.dZ, 6, .inl (fun _ => 0))), (q8, .inl (E.dI, 6, .inl (fun _ => 0))), (q10, .inl (E.dI, 24, .inl (fun _ => 0)))]) rfl ?_
  refine g_aload_n (pc := 68) (i := 0) hX dX0_init_68 rfl rfl ?_
  refine g_bipush (pc := 69) (v := nI 24) hX dX0_init_69 cb_24 ?_
  refine g_newZ (pc := 71) hX dX0_init_71 rfl (by decide) (by decide) (by decide) (fun q11 => ?_)
  refine x0_pF (pc := 73) hX hN 11 35 (by decide) rfl q48 rfl (ty := .array .boolean) (by decide +kernel) rfl rfl (Nat.le_of_ble_eq_true rfl) dX0_init_73 ?_
  refine G.eqw (ws' := (h, .inr (0, [.int 0, .ref q1, .ref q2, .ref q3, .int 0, .ref q5, .ref q6, .ref q7, .ref q8, .int 0, .ref q10, .ref q11, .null, .int 0, .null, .null, .null, .null, .null, .null, .null, .int 0, .int 0, .int 0, .null, .null, .null])) :: [(q1, .inl (E.dI, 12, .inl (fun _ => 0))), (q2, .inl (E.dI, 12, .inl (fun _ => 0))), (q3, .inl (E.dI, 12, .inl (fun _ => 0))), (q5, .inl (E.dI, 6, .inl (fun _ => 0))), (q6, .inl (E.dI, 6, .inl (fun _ => 0))), (q7, .inl (E.dZ, 6, .inl (fun _ => 0))), (q8, .inl (E.dI, 6, .inl (fun _ => 0))), (q10, .inl (E.dI, 24, .inl (fun _ => 0))), (q11, .inl (E.dZ, 24, .inl (fun _ => 0)))]) rfl ?_
  refine g_aload_n (pc := 76) (i := 0) hX dX0_init_76 rfl rfl ?_
  refine g_bipush (pc := 77) (v := nI 24) hX dX0_init_77 cb_24 ?_
  refine g_newI (pc := 79) hX dX0_init_79 rfl (by decide) (by decide) (by decide) (fun q12 => ?_)
  refine x0_pF (pc := 81) hX hN 12 38 (by decide) rfl q49 rfl (ty := .array .int) (by decide +kernel) rfl rfl (Nat.le_of_ble_eq_true rfl) dX0_init_81 ?_
  refine G.eqw (ws' := (h, .inr (0, [.int 0, .ref q1, .ref q2, .ref q3, .int 0, .ref q5, .ref q6, .ref q7, .ref q8, .int 0, .ref q10, .ref q11, .ref q12, .int 0, .null, .null, .null, .null, .null, .null, .null, .int 0, .int 0, .int 0, .null, .null, .null])) :: [(q1, .inl (E.dI, 12, .inl (fun _ => 0))), (q2, .inl (E.dI, 12, .inl (fun _ => 0))), (q3, .inl (E.dI, 12, .inl (fun _ => 0))), (q5, .inl (E.dI, 6, .inl (fun _ => 0))), (q6, .inl (E.dI, 6, .inl (fun _ => 0))), (q7, .inl (E.dZ, 6, .inl (fun _ => 0))), (q8, .inl (E.dI, 6, .inl (fun _ => 0))), (q10, .inl (E.dI, 24, .inl (fun _ => 0))), (q11, .inl (E.dZ, 24, .inl (fun _ => 0))), (q12, .inl (E.dI, 24, .inl (fun _ => 0)))]) rfl ?_
  refine g_aload_n (pc := 84) (i := 0) hX dX0_init_84 rfl rfl ?_
  refine g_bipush (pc := 85) (v := nI 6) hX dX0_init_85 cb_6 ?_
  refine g_newZ (pc := 87) hX dX0_init_87 rfl (by decide) (by decide) (by decide) (fun q14 => ?_)
  refine x0_pF (pc := 89) hX hN 14 41 (by decide) rfl q51 rfl (ty := .array .boolean) (by decide +kernel) rfl rfl (Nat.le_of_ble_eq_true rfl) dX0_init_89 ?_
  refine G.eqw (ws' := (h, .inr (0, [.int 0, .ref q1, .ref q2, .ref q3, .int 0, .ref q5, .ref q6, .ref q7, .ref q8, .int 0, .ref q10, .ref q11, .ref q12, .int 0, .ref q14, .null, .null, .null, .null, .null, .null, .int 0, .int 0, .int 0, .null, .null, .null])) :: [(q1, .inl (E.dI, 12, .inl (fun _ => 0))), (q2, .inl (E.dI, 12, .inl (fun _ => 0))), (q3, .inl (E.dI, 12, .inl (fun _ => 0))), (q5, .inl (E.dI, 6, .inl (fun _ => 0))), (q6, .inl (E.dI, 6, .inl (fun _ => 0))), (q7, .inl (E.dZ, 6, .inl (fun _ => 0))), (q8, .inl (E.dI, 6, .inl (fun _ => 0))), (q10, .inl (E.dI, 24, .inl (fun _ => 0))), (q11, .inl (E.dZ, 24, .inl (fun _ => 0))), (q12, .inl (E.dI, 24, .inl (fun _ => 0))), (q14, .inl (E.dZ, 6, .inl (fun _ => 0)))]) rfl ?_
  refine g_aload_n (pc := 92) (i := 0) hX dX0_init_92 rfl rfl ?_
  refine g_bipush (pc := 93) (v := nI 6) hX dX0_init_93 cb_6 ?_
  refine g_newI (pc := 95) hX dX0_init_95 rfl (by decide) (by decide) (by decide) (fun q15 => ?_)
  refine x0_pF (pc := 97) hX hN 15 44 (by decide) rfl q52 rfl (ty := .array .int) (by decide +kernel) rfl rfl (Nat.le_of_ble_eq_true rfl) dX0_init_97 ?_
  refine G.eqw (ws' := (h, .inr (0, [.int 0, .ref q1, .ref q2, .ref q3, .int 0, .ref q5, .ref q6, .ref q7, .ref q8, .int 0, .ref q10, .ref q11, .ref q12, .int 0, .ref q14, .ref q15, .null, .null, .null, .null, .null, .int 0, .int 0, .int 0, .null, .null, .null])) :: [(q1, .inl (E.dI, 12, .inl (fun _ => 0))), (q2, .inl (E.dI, 12, .inl (fun _ => 0))), (q3, .inl (E.dI, 12, .inl (fun _ => 0))), (q5, .inl (E.dI, 6, .inl (fun _ => 0))), (q6, .inl (E.dI, 6, .inl (fun _ => 0))), (q7, .inl (E.dZ, 6, .inl (fun _ => 0))), (q8, .inl (E.dI, 6, .inl (fun _ => 0))), (q10, .inl (E.dI, 24, .inl (fun _ => 0))), (q11, .inl (E.dZ, 24, .inl (fun _ => 0))), (q12, .inl (E.dI, 24, .inl (fun _ => 0))), (q14, .inl (E.dZ, 6, .inl (fun _ => 0))), (q15, .inl (E.dI, 6, .inl (fun _ => 0)))]) rfl ?_
  refine g_aload_n (pc := 100) (i := 0) hX dX0_init_100 rfl rfl ?_
  refine g_bipush (pc := 101) (v := nI 6) hX dX0_init_101 cb_6 ?_
  refine g_newI (pc := 103) hX dX0_init_103 rfl (by decide) (by decide) (by decide) (fun q16 => ?_)
  refine x0_pF (pc := 105) hX hN 16 47 (by decide) rfl q53 rfl (ty := .array .int) (by decide +kernel) rfl rfl (Nat.le_of_ble_eq_true rfl) dX0_init_105 ?_
  refine G.eqw (ws' := (h, .inr (0, [.int 0, .ref q1, .ref q2, .ref q3, .int 0, .ref q5, .ref q6, .ref q7, .ref q8, .int 0, .ref q10, .ref q11, .ref q12, .int 0, .ref q14, .ref q15, .ref q16, .null, .null, .null, .null, .int 0, .int 0, .int 0, .null, .null, .null])) :: [(q1, .inl (E.dI, 12, .inl (fun _ => 0))), (q2, .inl (E.dI, 12, .inl (fun _ => 0))), (q3, .inl (E.dI, 12, .inl (fun _ => 0))), (q5, .inl (E.dI, 6, .inl (fun _ => 0))), (q6, .inl (E.dI, 6, .inl (fun _ => 0))), (q7, .inl (E.dZ, 6, .inl (fun _ => 0))), (q8, .inl (E.dI, 6, .inl (fun _ => 0))), (q10, .inl (E.dI, 24, .inl (fun _ => 0))), (q11, .inl (E.dZ, 24, .inl (fun _ => 0))), (q12, .inl (E.dI, 24, .inl (fun _ => 0))), (q14, .inl (E.dZ, 6, .inl (fun _ => 0))), (q15, .inl (E.dI, 6, .inl (fun _ => 0))), (q16, .inl (E.dI, 6, .inl (fun _ => 0)))]) rfl ?_
  refine g_aload_n (pc := 108) (i := 0) hX dX0_init_108 rfl rfl ?_
  refine g_sipush (pc := 109) (v := nI 144) hX dX0_init_109 cs_144 ?_
  refine g_newZ (pc := 112) hX dX0_init_112 rfl (by decide) (by decide) (by decide) (fun q17 => ?_)
  refine x0_pF (pc := 114) hX hN 17 50 (by decide) rfl q54 rfl (ty := .array .boolean) (by decide +kernel) rfl rfl (Nat.le_of_ble_eq_true rfl) dX0_init_114 ?_
  refine G.eqw (ws' := (h, .inr (0, [.int 0, .ref q1, .ref q2, .ref q3, .int 0, .ref q5, .ref q6, .ref q7, .ref q8, .int 0, .ref q10, .ref q11, .ref q12, .int 0, .ref q14, .ref q15, .ref q16, .ref q17, .null, .null, .null, .int 0, .int 0, .int 0, .null, .null, .null])) :: [(q1, .inl (E.dI, 12, .inl (fun _ => 0))), (q2, .inl (E.dI, 12, .inl (fun _ => 0))), (q3, .inl (E.dI, 12, .inl (fun _ => 0))), (q5, .inl (E.dI, 6, .inl (fun _ => 0))), (q6, .inl (E.dI, 6, .inl (fun _ => 0))), (q7, .inl (E.dZ, 6, .inl (fun _ => 0))), (q8, .inl (E.dI, 6, .inl (fun _ => 0))), (q10, .inl (E.dI, 24, .inl (fun _ => 0))), (q11, .inl (E.dZ, 24, .inl (fun _ => 0))), (q12, .inl (E.dI, 24, .inl (fun _ => 0))), (q14, .inl (E.dZ, 6, .inl (fun _ => 0))), (q15, .inl (E.dI, 6, .inl (fun _ => 0))), (q16, .inl (E.dI, 6, .inl (fun _ => 0))), (q17, .inl (E.dZ, 144, .inl (fun _ => 0)))]) rfl ?_
  refine g_aload_n (pc := 117) (i := 0) hX dX0_init_117 rfl rfl ?_
  refine g_sipush (pc := 118) (v := nI 144) hX dX0_init_118 cs_144 ?_
  refine g_newI (pc := 121) hX dX0_init_121 rfl (by decide) (by decide) (by decide) (fun q18 => ?_)
  refine x0_pF (pc := 123) hX hN 18 53 (by decide) rfl q55 rfl (ty := .array .int) (by decide +kernel) rfl rfl (Nat.le_of_ble_eq_true rfl) dX0_init_123 ?_
  refine G.eqw (ws' := (h, .inr (0, [.int 0, .ref q1, .ref q2, .ref q3, .int 0, .ref q5, .ref q6, .ref q7, .ref q8, .int 0, .ref q10, .ref q11, .ref q12, .int 0, .ref q14, .ref q15, .ref q16, .ref q17, .ref q18, .null, .null, .int 0, .int 0, .int 0, .null, .null, .null])) :: [(q1, .inl (E.dI, 12, .inl (fun _ => 0))), (q2, .inl (E.dI, 12, .inl (fun _ => 0))), (q3, .inl (E.dI, 12, .inl (fun _ => 0))), (q5, .inl (E.dI, 6, .inl (fun _ => 0))), (q6, .inl (E.dI, 6, .inl (fun _ => 0))), (q7, .inl (E.dZ, 6, .inl (fun _ => 0))), (q8, .inl (E.dI, 6, .inl (fun _ => 0))), (q10, .inl (E.dI, 24, .inl (fun _ => 0))), (q11, .inl (E.dZ, 24, .inl (fun _ => 0))), (q12, .inl (E.dI, 24, .inl (fun _ => 0))), (q14, .inl (E.dZ, 6, .inl (fun _ => 0))), (q15, .inl (E.dI, 6, .inl (fun _ => 0))), (q16, .inl (E.dI, 6, .inl (fun _ => 0))), (q17, .inl (E.dZ, 144, .inl (fun _ => 0))), (q18, .inl (E.dI, 144, .inl (fun _ => 0)))]) rfl ?_
  refine g_aload_n (pc := 126) (i := 0) hX dX0_init_126 rfl rfl ?_
  refine g_sipush (pc := 127) (v := nI 144) hX dX0_init_127 cs_144 ?_
  refine g_newI (pc := 130) hX dX0_init_130 rfl (by decide) (by decide) (by decide) (fun q19 => ?_)
  refine x0_pF (pc := 132) hX hN 19 56 (by decide) rfl q56 rfl (ty := .array .int) (by decide +kernel) rfl rfl (Nat.le_of_ble_eq_true rfl) dX0_init_132 ?_
  refine G.eqw (ws' := (h, .inr (0, [.int 0, .ref q1, .ref q2, .ref q3, .int 0, .ref q5, .ref q6, .ref q7, .ref q8, .int 0, .ref q10, .ref q11, .ref q12, .int 0, .ref q14, .ref q15, .ref q16, .ref q17, .ref q18, .ref q19, .null, .int 0, .int 0, .int 0, .null, .null, .null])) :: [(q1, .inl (E.dI, 12, .inl (fun _ => 0))), (q2, .inl (E.dI, 12, .inl (fun _ => 0))), (q3, .inl (E.dI, 12, .inl (fun _ => 0))), (q5, .inl (E.dI, 6, .inl (fun _ => 0))), (q6, .inl (E.dI, 6, .inl (fun _ => 0))), (q7, .inl (E.dZ, 6, .inl (fun _ => 0))), (q8, .inl (E.dI, 6, .inl (fun _ => 0))), (q10, .inl (E.dI, 24, .inl (fun _ => 0))), (q11, .inl (E.dZ, 24, .inl (fun _ => 0))), (q12, .inl (E.dI, 24, .inl (fun _ => 0))), (q14, .inl (E.dZ, 6, .inl (fun _ => 0))), (q15, .inl (E.dI, 6, .inl (fun _ => 0))), (q16, .inl (E.dI, 6, .inl (fun _ => 0))), (q17, .inl (E.dZ, 144, .inl (fun _ => 0))), (q18, .inl (E.dI, 144, .inl (fun _ => 0))), (q19, .inl (E.dI, 144, .inl (fun _ => 0)))]) rfl ?_
  refine g_aload_n (pc := 135) (i := 0) hX dX0_init_135 rfl rfl ?_
  refine g_bipush (pc := 136) (v := nI 8) hX dX0_init_136 cb_8 ?_
  refine g_newI (pc := 138) hX dX0_init_138 rfl (by decide) (by decide) (by decide) (fun q20 => ?_)
  refine x0_pF (pc := 140) hX hN 20 59 (by decide) rfl q57 rfl (ty := .array .int) (by decide +kernel) rfl rfl (Nat.le_of_ble_eq_true rfl) dX0_init_140 ?_
  refine G.eqw (ws' := (h, .inr (0, [.int 0, .ref q1, .ref q2, .ref q3, .int 0, .ref q5, .ref q6, .ref q7, .ref q8, .int 0, .ref q10, .ref q11, .ref q12, .int 0, .ref q14, .ref q15, .ref q16, .ref q17, .ref q18, .ref q19, .ref q20, .int 0, .int 0, .int 0, .null, .null, .null])) :: [(q1, .inl (E.dI, 12, .inl (fun _ => 0))), (q2, .inl (E.dI, 12, .inl (fun _ => 0))), (q3, .inl (E.dI, 12, .inl (fun _ => 0))), (q5, .inl (E.dI, 6, .inl (fun _ => 0))), (q6, .inl (E.dI, 6, .inl (fun _ => 0))), (q7, .inl (E.dZ, 6, .inl (fun _ => 0))), (q8, .inl (E.dI, 6, .inl (fun _ => 0))), (q10, .inl (E.dI, 24, .inl (fun _ => 0))), (q11, .inl (E.dZ, 24, .inl (fun _ => 0))), (q12, .inl (E.dI, 24, .inl (fun _ => 0))), (q14, .inl (E.dZ, 6, .inl (fun _ => 0))), (q15, .inl (E.dI, 6, .inl (fun _ => 0))), (q16, .inl (E.dI, 6, .inl (fun _ => 0))), (q17, .inl (E.dZ, 144, .inl (fun _ => 0))), (q18, .inl (E.dI, 144, .inl (fun _ => 0))), (q19, .inl (E.dI, 144, .inl (fun _ => 0))), (q20, .inl (E.dI, 8, .inl (fun _ => 0)))]) rfl ?_
  refine g_aload_n (pc := 143) (i := 0) hX dX0_init_143 rfl rfl ?_
  refine g_bipush (pc := 144) (v := nI 6) hX dX0_init_144 cb_6 ?_
  refine g_newI (pc := 146) hX dX0_init_146 rfl (by decide) (by decide) (by decide) (fun q24 => ?_)
  refine x0_pF (pc := 148) hX hN 24 62 (by decide) rfl q61 rfl (ty := .array .int) (by decide +kernel) rfl rfl (Nat.le_of_ble_eq_true rfl) dX0_init_148 ?_
  refine G.eqw (ws' := (h, .inr (0, [.int 0, .ref q1, .ref q2, .ref q3, .int 0, .ref q5, .ref q6, .ref q7, .ref q8, .int 0, .ref q10, .ref q11, .ref q12, .int 0, .ref q14, .ref q15, .ref q16, .ref q17, .ref q18, .ref q19, .ref q20, .int 0, .int 0, .int 0, .ref q24, .null, .null])) :: [(q1, .inl (E.dI, 12, .inl (fun _ => 0))), (q2, .inl (E.dI, 12, .inl (fun _ => 0))), (q3, .inl (E.dI, 12, .inl (fun _ => 0))), (q5, .inl (E.dI, 6, .inl (fun _ => 0))), (q6, .inl (E.dI, 6, .inl (fun _ => 0))), (q7, .inl (E.dZ, 6, .inl (fun _ => 0))), (q8, .inl (E.dI, 6, .inl (fun _ => 0))), (q10, .inl (E.dI, 24, .inl (fun _ => 0))), (q11, .inl (E.dZ, 24, .inl (fun _ => 0))), (q12, .inl (E.dI, 24, .inl (fun _ => 0))), (q14, .inl (E.dZ, 6, .inl (fun _ => 0))), (q15, .inl (E.dI, 6, .inl (fun _ => 0))), (q16, .inl (E.dI, 6, .inl (fun _ => 0))), (q17, .inl (E.dZ, 144, .inl (fun _ => 0))), (q18, .inl (E.dI, 144, .inl (fun _ => 0))), (q19, .inl (E.dI, 144, .inl (fun _ => 0))), (q20, .inl (E.dI, 8, .inl (fun _ => 0))), (q24, .inl (E.dI, 6, .inl (fun _ => 0)))]) rfl ?_
  refine g_aload_n (pc := 151) (i := 0) hX dX0_init_151 rfl rfl ?_
  refine g_bipush (pc := 152) (v := nI 8) hX dX0_init_152 cb_8 ?_
  refine g_newI (pc := 154) hX dX0_init_154 rfl (by decide) (by decide) (by decide) (fun q25 => ?_)
  refine x0_pF (pc := 156) hX hN 25 65 (by decide) rfl q62 rfl (ty := .array .int) (by decide +kernel) rfl rfl (Nat.le_of_ble_eq_true rfl) dX0_init_156 ?_
  refine G.eqw (ws' := (h, .inr (0, [.int 0, .ref q1, .ref q2, .ref q3, .int 0, .ref q5, .ref q6, .ref q7, .ref q8, .int 0, .ref q10, .ref q11, .ref q12, .int 0, .ref q14, .ref q15, .ref q16, .ref q17, .ref q18, .ref q19, .ref q20, .int 0, .int 0, .int 0, .ref q24, .ref q25, .null])) :: [(q1, .inl (E.dI, 12, .inl (fun _ => 0))), (q2, .inl (E.dI, 12, .inl (fun _ => 0))), (q3, .inl (E.dI, 12, .inl (fun _ => 0))), (q5, .inl (E.dI, 6, .inl (fun _ => 0))), (q6, .inl (E.dI, 6, .inl (fun _ => 0))), (q7, .inl (E.dZ, 6, .inl (fun _ => 0))), (q8, .inl (E.dI, 6, .inl (fun _ => 0))), (q10, .inl (E.dI, 24, .inl (fun _ => 0))), (q11, .inl (E.dZ, 24, .inl (fun _ => 0))), (q12, .inl (E.dI, 24, .inl (fun _ => 0))), (q14, .inl (E.dZ, 6, .inl (fun _ => 0))), (q15, .inl (E.dI, 6, .inl (fun _ => 0))), (q16, .inl (E.dI, 6, .inl (fun _ => 0))), (q17, .inl (E.dZ, 144, .inl (fun _ => 0))), (q18, .inl (E.dI, 144, .inl (fun _ => 0))), (q19, .inl (E.dI, 144, .inl (fun _ => 0))), (q20, .inl (E.dI, 8, .inl (fun _ => 0))), (q24, .inl (E.dI, 6, .inl (fun _ => 0))), (q25, .inl (E.dI, 8, .inl (fun _ => 0)))]) rfl ?_
  refine g_aload_n (pc := 159) (i := 0) hX dX0_init_159 rfl rfl ?_
  refine g_bipush (pc := 160) (v := nI 8) hX dX0_init_160 cb_8 ?_
  refine g_newI (pc := 162) hX dX0_init_162 rfl (by decide) (by decide) (by decide) (fun q26 => ?_)
  refine x0_pF (pc := 164) hX hN 26 68 (by decide) rfl q63 rfl (ty := .array .int) (by decide +kernel) rfl rfl (Nat.le_of_ble_eq_true rfl) dX0_init_164 ?_
  refine G.eqw (ws' := (h, .inr (0, [.int 0, .ref q1, .ref q2, .ref q3, .int 0, .ref q5, .ref q6, .ref q7, .ref q8, .int 0, .ref q10, .ref q11, .ref q12, .int 0, .ref q14, .ref q15, .ref q16, .ref q17, .ref q18, .ref q19, .ref q20, .int 0, .int 0, .int 0, .ref q24, .ref q25, .ref q26])) :: [(q1, .inl (E.dI, 12, .inl (fun _ => 0))), (q2, .inl (E.dI, 12, .inl (fun _ => 0))), (q3, .inl (E.dI, 12, .inl (fun _ => 0))), (q5, .inl (E.dI, 6, .inl (fun _ => 0))), (q6, .inl (E.dI, 6, .inl (fun _ => 0))), (q7, .inl (E.dZ, 6, .inl (fun _ => 0))), (q8, .inl (E.dI, 6, .inl (fun _ => 0))), (q10, .inl (E.dI, 24, .inl (fun _ => 0))), (q11, .inl (E.dZ, 24, .inl (fun _ => 0))), (q12, .inl (E.dI, 24, .inl (fun _ => 0))), (q14, .inl (E.dZ, 6, .inl (fun _ => 0))), (q15, .inl (E.dI, 6, .inl (fun _ => 0))), (q16, .inl (E.dI, 6, .inl (fun _ => 0))), (q17, .inl (E.dZ, 144, .inl (fun _ => 0))), (q18, .inl (E.dI, 144, .inl (fun _ => 0))), (q19, .inl (E.dI, 144, .inl (fun _ => 0))), (q20, .inl (E.dI, 8, .inl (fun _ => 0))), (q24, .inl (E.dI, 6, .inl (fun _ => 0))), (q25, .inl (E.dI, 8, .inl (fun _ => 0))), (q26, .inl (E.dI, 8, .inl (fun _ => 0)))]) rfl ?_
  refine G.eqw (ws' := x0W E (fun k => ([h, q1, q2, q3, 0, q5, q6, q7, q8, 0, q10, q11, q12, 0, q14, q15, q16, q17, q18, q19, q20, 0, 0, 0, q24, q25, q26] : List Nat).getD k 0) (fun _ _ => 0)) rfl ?_
  refine g_aload_n (pc := 167) (i := 0) hX dX0_init_167 rfl rfl ?_
  refine g_iconst (pc := 168) (v := 0) hX dX0_init_168 ci_0 ?_
  refine x0_p0 (pc := 169) hX dX0_init_169 ?_
  refine G.eqw (ws' := x0W E (fun k => ([h, q1, q2, q3, 0, q5, q6, q7, q8, 0, q10, q11, q12, 0, q14, q15, q16, q17, q18, q19, q20, 0, 0, 0, q24, q25, q26] : List Nat).getD k 0) (fun _ _ => 0)) rfl ?_
  exact hE _ _ _ rfl dX0_init_172
def x1D : List Value := [.int 0, .null, .null, .null, .null, .int 0, .null, .null, .null, .null, .int 0, .null, .null, .null, .null, .int 0, .int 0]
theorem x1D_ok : ∀ j, j < 17 → defaultValue (tyX1 j) = vp_V x1D j := fun j hj => match j, hj with
  | 0, _ => rfl
  | 1, _ => rfl
  | 2, _ => rfl
  | 3, _ => rfl
  | 4, _ => rfl
  | 5, _ => rfl
  | 6, _ => rfl
  | 7, _ => rfl
  | 8, _ => rfl
  | 9, _ => rfl
  | 10, _ => rfl
  | 11, _ => rfl
  | 12, _ => rfl
  | 13, _ => rfl
  | 14, _ => rfl
  | 15, _ => rfl
  | 16, _ => rfl
  | j + 17, h => absurd h (by omega)
abbrev rI1 : Room := { frames := 1, cells := 12, slots := 148, locals := 12 }
theorem m1_init (E : gE) (h : Nat) : gI E yX1_init cX1_init 1 rI1 12 148 h [(h, .inr (1, x1D))] (fun ad => x1W E ad (fun _ _ => 0)) := by
  refine gI_of (by decide) rfl (by decide) (fun X hX hN hE => ?_)
  refine g_aload_n (pc := 0) (i := 0) hX dX1_init_0 rfl rfl ?_
  refine g_objInit (pc := 1) hX q249 q35 q36 dX1_init_1 (by decide) (by decide) ?_
  refine g_aload_n (pc := 4) (i := 0) hX dX1_init_4 rfl rfl ?_
  refine g_bipush (pc := 5) (v := nI 12) hX dX1_init_5 cb_12 ?_
  refine g_newI (pc := 7) hX dX1_init_7 rfl (by decide) (by decide) (by decide) (fun q1 => ?_)
  refine x1_pF (pc := 9) hX hN 1 7 (by decide) rfl q251 rfl (ty := .array .int) (by decide +kernel) rfl rfl (Nat.le_of_ble_eq_true rfl) dX1_init_9 ?_
  refine G.eqw (ws' := (h, .inr (1, [.int 0, .ref q1, .null, .null, .null, .int 0, .null, .null, .null, .null, .int 0, .null, .null, .null, .null, .int 0, .int 0])) :: [(q1, .inl (E.dI, 12, .inl (fun _ => 0)))]) rfl ?_
  refine g_aload_n (pc := 12) (i := 0) hX dX1_init_12 rfl rfl ?_
  refine g_bipush (pc := 13) (v := nI 12) hX dX1_init_13 cb_12 ?_
  refine g_newI (pc := 15) hX dX1_init_15 rfl (by decide) (by decide) (by decide) (fun q2 => ?_)
  refine x1_pF (pc := 17) hX hN 2 13 (by decide) rfl q252 rfl (ty := .array .int) (by decide +kernel) rfl rfl (Nat.le_of_ble_eq_true rfl) dX1_init_17 ?_
  refine G.eqw (ws' := (h, .inr (1, [.int 0, .ref q1, .ref q2, .null, .null, .int 0, .null, .null, .null, .null, .int 0, .null, .null, .null, .null, .int 0, .int 0])) :: [(q1, .inl (E.dI, 12, .inl (fun _ => 0))), (q2, .inl (E.dI, 12, .inl (fun _ => 0)))]) rfl ?_
  refine g_aload_n (pc := 20) (i := 0) hX dX1_init_20 rfl rfl ?_
  refine g_bipush (pc := 21) (v := nI 12) hX dX1_init_21 cb_12 ?_
  refine g_newI (pc := 23) hX dX1_init_23 rfl (by decide) (by decide) (by decide) (fun q3 => ?_)
  refine x1_pF (pc := 25) hX hN 3 16 (by decide) rfl q253 rfl (ty := .array .int) (by decide +kernel) rfl rfl (Nat.le_of_ble_eq_true rfl) dX1_init_25 ?_
  refine G.eqw (ws' := (h, .inr (1, [.int 0, .ref q1, .ref q2, .ref q3, .null, .int 0, .null, .null, .null, .null, .int 0, .null, .null, .null, .null, .int 0, .int 0])) :: [(q1, .inl (E.dI, 12, .inl (fun _ => 0))), (q2, .inl (E.dI, 12, .inl (fun _ => 0))), (q3, .inl (E.dI, 12, .inl (fun _ => 0)))]) rfl ?_
  refine g_aload_n (pc := 28) (i := 0) hX dX1_init_28 rfl rfl ?_
  refine g_bipush (pc := 29) (v := nI 12) hX dX1_init_29 cb_12 ?_
  refine g_newI (pc := 31) hX dX1_init_31 rfl (by decide) (by decide) (by decide) (fun q4 => ?_)
  refine x1_pF (pc := 33) hX hN 4 19 (by decide) rfl q254 rfl (ty := .array .int) (by decide +kernel) rfl rfl (Nat.le_of_ble_eq_true rfl) dX1_init_33 ?_
  refine G.eqw (ws' := (h, .inr (1, [.int 0, .ref q1, .ref q2, .ref q3, .ref q4, .int 0, .null, .null, .null, .null, .int 0, .null, .null, .null, .null, .int 0, .int 0])) :: [(q1, .inl (E.dI, 12, .inl (fun _ => 0))), (q2, .inl (E.dI, 12, .inl (fun _ => 0))), (q3, .inl (E.dI, 12, .inl (fun _ => 0))), (q4, .inl (E.dI, 12, .inl (fun _ => 0)))]) rfl ?_
  refine g_aload_n (pc := 36) (i := 0) hX dX1_init_36 rfl rfl ?_
  refine g_bipush (pc := 37) (v := nI 6) hX dX1_init_37 cb_6 ?_
  refine g_newI (pc := 39) hX dX1_init_39 rfl (by decide) (by decide) (by decide) (fun q6 => ?_)
  refine x1_pF (pc := 41) hX hN 6 22 (by decide) rfl q256 rfl (ty := .array .int) (by decide +kernel) rfl rfl (Nat.le_of_ble_eq_true rfl) dX1_init_41 ?_
  refine G.eqw (ws' := (h, .inr (1, [.int 0, .ref q1, .ref q2, .ref q3, .ref q4, .int 0, .ref q6, .null, .null, .null, .int 0, .null, .null, .null, .null, .int 0, .int 0])) :: [(q1, .inl (E.dI, 12, .inl (fun _ => 0))), (q2, .inl (E.dI, 12, .inl (fun _ => 0))), (q3, .inl (E.dI, 12, .inl (fun _ => 0))), (q4, .inl (E.dI, 12, .inl (fun _ => 0))), (q6, .inl (E.dI, 6, .inl (fun _ => 0)))]) rfl ?_
  refine g_aload_n (pc := 44) (i := 0) hX dX1_init_44 rfl rfl ?_
  refine g_bipush (pc := 45) (v := nI 6) hX dX1_init_45 cb_6 ?_
  refine g_newI (pc := 47) hX dX1_init_47 rfl (by decide) (by decide) (by decide) (fun q7 => ?_)
  refine x1_pF (pc := 49) hX hN 7 25 (by decide) rfl q257 rfl (ty := .array .int) (by decide +kernel) rfl rfl (Nat.le_of_ble_eq_true rfl) dX1_init_49 ?_
  refine G.eqw (ws' := (h, .inr (1, [.int 0, .ref q1, .ref q2, .ref q3, .ref q4, .int 0, .ref q6, .ref q7, .null, .null, .int 0, .null, .null, .null, .null, .int 0, .int 0])) :: [(q1, .inl (E.dI, 12, .inl (fun _ => 0))), (q2, .inl (E.dI, 12, .inl (fun _ => 0))), (q3, .inl (E.dI, 12, .inl (fun _ => 0))), (q4, .inl (E.dI, 12, .inl (fun _ => 0))), (q6, .inl (E.dI, 6, .inl (fun _ => 0))), (q7, .inl (E.dI, 6, .inl (fun _ => 0)))]) rfl ?_
  refine g_aload_n (pc := 52) (i := 0) hX dX1_init_52 rfl rfl ?_
  refine g_bipush (pc := 53) (v := nI 6) hX dX1_init_53 cb_6 ?_
  refine g_newZ (pc := 55) hX dX1_init_55 rfl (by decide) (by decide) (by decide) (fun q8 => ?_)
  refine x1_pF (pc := 57) hX hN 8 28 (by decide) rfl q258 rfl (ty := .array .boolean) (by decide +kernel) rfl rfl (Nat.le_of_ble_eq_true rfl) dX1_init_57 ?_
  refine G.eqw (ws' := (h, .inr (1, [.int 0, .ref q1, .ref q2, .ref q3, .ref q4, .int 0, .ref q6, .ref q7, .ref q8, .null, .int 0, .null, .null, .null, .null, .int 0, .int 0])) :: [(q1, .inl (E.dI, 12, .inl (fun _ => 0))), (q2, .inl (E.dI, 12, .inl (fun _ => 0))), (q3, .inl (E.dI, 12, .inl (fun _ => 0))), (q4, .inl (E.dI, 12, .inl (fun _ => 0))), (q6, .inl (E.dI, 6, .inl (fun _ => 0))), (q7, .inl (E.dI, 6, .inl (fun _ => 0))), (q8, .inl (E.dZ, 6, .inl (fun _ => 0)))]) rfl ?_
  refine g_aload_n (pc := 60) (i := 0) hX dX1_init_60 rfl rfl ?_
  refine g_bipush (pc := 61) (v := nI 6) hX dX1_init_61 cb_6 ?_
  refine g_newI (pc := 63) hX dX1_init_63 rfl (by decide) (by decide) (by decide) (fun q9 => ?_)
  refine x1_pF (pc := 65) hX hN 9 32 (by decide) rfl q259 rfl (ty := .array .int) (by decide +kernel) rfl rfl (Nat.le_of_ble_eq_true rfl) dX1_init_65 ?_
  refine G.eqw (ws' := (h, .inr (1, [.int 0, .ref q1, .ref q2, .ref q3, .ref q4, .int 0, .ref q6, .ref q7, .ref q8, .ref q9, .int 0, .null, .null, .null, .null, .int 0, .int 0])) :: [(q1, .inl (E.dI, 12, .inl (fun _ => 0))), (q2, .inl (E.dI, 12, .inl (fun _ => 0))), (q3, .inl (E.dI, 12, .inl (fun _ => 0))), (q4, .inl (E.dI, 12, .inl (fun _ => 0))), (q6, .inl (E.dI, 6, .inl (fun _ => 0))), (q7, .inl (E.dI, 6, .inl (fun _ => 0))), (q8, .inl (E.dZ, 6, .inl (fun _ => 0))), (q9, .inl (E.dI, 6, .inl (fun _ => 0)))]) rfl ?_
  refine g_aload_n (pc := 68) (i := 0) hX dX1_init_68 rfl rfl ?_
  refine g_bipush (pc := 69) (v := nI 24) hX dX1_init_69 cb_24 ?_
  refine g_newI (pc := 71) hX dX1_init_71 rfl (by decide) (by decide) (by decide) (fun q11 => ?_)
  refine x1_pF (pc := 73) hX hN 11 35 (by decide) rfl q261 rfl (ty := .array .int) (by decide +kernel) rfl rfl (Nat.le_of_ble_eq_true rfl) dX1_init_73 ?_
  refine G.eqw (ws' := (h, .inr (1, [.int 0, .ref q1, .ref q2, .ref q3, .ref q4, .int 0, .ref q6, .ref q7, .ref q8, .ref q9, .int 0, .ref q11, .null, .null, .null, .int 0, .int 0])) :: [(q1, .inl (E.dI, 12, .inl (fun _ => 0))), (q2, .inl (E.dI, 12, .inl (fun _ => 0))), (q3, .inl (E.dI, 12, .inl (fun _ => 0))), (q4, .inl (E.dI, 12, .inl (fun _ => 0))), (q6, .inl (E.dI, 6, .inl (fun _ => 0))), (q7, .inl (E.dI, 6, .inl (fun _ => 0))), (q8, .inl (E.dZ, 6, .inl (fun _ => 0))), (q9, .inl (E.dI, 6, .inl (fun _ => 0))), (q11, .inl (E.dI, 24, .inl (fun _ => 0)))]) rfl ?_
  refine g_aload_n (pc := 76) (i := 0) hX dX1_init_76 rfl rfl ?_
  refine g_bipush (pc := 77) (v := nI 24) hX dX1_init_77 cb_24 ?_
  refine g_newZ (pc := 79) hX dX1_init_79 rfl (by decide) (by decide) (by decide) (fun q12 => ?_)
  refine x1_pF (pc := 81) hX hN 12 38 (by decide) rfl q262 rfl (ty := .array .boolean) (by decide +kernel) rfl rfl (Nat.le_of_ble_eq_true rfl) dX1_init_81 ?_
  refine G.eqw (ws' := (h, .inr (1, [.int 0, .ref q1, .ref q2, .ref q3, .ref q4, .int 0, .ref q6, .ref q7, .ref q8, .ref q9, .int 0, .ref q11, .ref q12, .null, .null, .int 0, .int 0])) :: [(q1, .inl (E.dI, 12, .inl (fun _ => 0))), (q2, .inl (E.dI, 12, .inl (fun _ => 0))), (q3, .inl (E.dI, 12, .inl (fun _ => 0))), (q4, .inl (E.dI, 12, .inl (fun _ => 0))), (q6, .inl (E.dI, 6, .inl (fun _ => 0))), (q7, .inl (E.dI, 6, .inl (fun _ => 0))), (q8, .inl (E.dZ, 6, .inl (fun _ => 0))), (q9, .inl (E.dI, 6, .inl (fun _ => 0))), (q11, .inl (E.dI, 24, .inl (fun _ => 0))), (q12, .inl (E.dZ, 24, .inl (fun _ => 0)))]) rfl ?_
  refine g_aload_n (pc := 84) (i := 0) hX dX1_init_84 rfl rfl ?_
  refine g_bipush (pc := 85) (v := nI 24) hX dX1_init_85 cb_24 ?_
  refine g_newI (pc := 87) hX dX1_init_87 rfl (by decide) (by decide) (by decide) (fun q13 => ?_)
  refine x1_pF (pc := 89) hX hN 13 41 (by decide) rfl q263 rfl (ty := .array .int) (by decide +kernel) rfl rfl (Nat.le_of_ble_eq_true rfl) dX1_init_89 ?_
  refine G.eqw (ws' := (h, .inr (1, [.int 0, .ref q1, .ref q2, .ref q3, .ref q4, .int 0, .ref q6, .ref q7, .ref q8, .ref q9, .int 0, .ref q11, .ref q12, .ref q13, .null, .int 0, .int 0])) :: [(q1, .inl (E.dI, 12, .inl (fun _ => 0))), (q2, .inl (E.dI, 12, .inl (fun _ => 0))), (q3, .inl (E.dI, 12, .inl (fun _ => 0))), (q4, .inl (E.dI, 12, .inl (fun _ => 0))), (q6, .inl (E.dI, 6, .inl (fun _ => 0))), (q7, .inl (E.dI, 6, .inl (fun _ => 0))), (q8, .inl (E.dZ, 6, .inl (fun _ => 0))), (q9, .inl (E.dI, 6, .inl (fun _ => 0))), (q11, .inl (E.dI, 24, .inl (fun _ => 0))), (q12, .inl (E.dZ, 24, .inl (fun _ => 0))), (q13, .inl (E.dI, 24, .inl (fun _ => 0)))]) rfl ?_
  refine g_aload_n (pc := 92) (i := 0) hX dX1_init_92 rfl rfl ?_
  refine g_iconst (pc := 93) (v := 4) hX dX1_init_93 ci_4 ?_
  refine g_newI (pc := 94) hX dX1_init_94 (show (4 : Int32) = nI 4 from rfl) (by decide) (by decide) (by decide) (fun q14 => ?_)
  refine x1_pF (pc := 96) hX hN 14 44 (by decide) rfl q264 rfl (ty := .array .int) (by decide +kernel) rfl rfl (Nat.le_of_ble_eq_true rfl) dX1_init_96 ?_
  refine G.eqw (ws' := (h, .inr (1, [.int 0, .ref q1, .ref q2, .ref q3, .ref q4, .int 0, .ref q6, .ref q7, .ref q8, .ref q9, .int 0, .ref q11, .ref q12, .ref q13, .ref q14, .int 0, .int 0])) :: [(q1, .inl (E.dI, 12, .inl (fun _ => 0))), (q2, .inl (E.dI, 12, .inl (fun _ => 0))), (q3, .inl (E.dI, 12, .inl (fun _ => 0))), (q4, .inl (E.dI, 12, .inl (fun _ => 0))), (q6, .inl (E.dI, 6, .inl (fun _ => 0))), (q7, .inl (E.dI, 6, .inl (fun _ => 0))), (q8, .inl (E.dZ, 6, .inl (fun _ => 0))), (q9, .inl (E.dI, 6, .inl (fun _ => 0))), (q11, .inl (E.dI, 24, .inl (fun _ => 0))), (q12, .inl (E.dZ, 24, .inl (fun _ => 0))), (q13, .inl (E.dI, 24, .inl (fun _ => 0))), (q14, .inl (E.dI, 4, .inl (fun _ => 0)))]) rfl ?_
  refine G.eqw (ws' := x1W E (fun k => ([h, q1, q2, q3, q4, 0, q6, q7, q8, q9, 0, q11, q12, q13, q14, 0, 0] : List Nat).getD k 0) (fun _ _ => 0)) rfl ?_
  exact hE _ _ _ rfl dX1_init_99
end
section
set_option maxRecDepth 100000
theorem dL_law_0 : decode cL_law 0 = .ok (.new 7, 3) := by decide +kernel
theorem dL_law_3 : decode cL_law 3 = .ok (.dup, 1) := by decide +kernel
theorem dL_law_4 : decode cL_law 4 = .ok (.invokespecial 9, 3) := by decide +kernel
theorem dL_law_7 : decode cL_law 7 = .ok (.astore_n 1, 1) := by decide +kernel
theorem dL_law_8 : decode cL_law 8 = .ok (.new 10, 3) := by decide +kernel
theorem dL_law_11 : decode cL_law 11 = .ok (.dup, 1) := by decide +kernel
theorem dL_law_12 : decode cL_law 12 = .ok (.invokespecial 12, 3) := by decide +kernel
theorem dL_law_15 : decode cL_law 15 = .ok (.astore_n 2, 1) := by decide +kernel
theorem dL_law_16 : decode cL_law 16 = .ok (.iconst 0, 1) := by decide +kernel
theorem dL_law_17 : decode cL_law 17 = .ok (.istore_n 3, 1) := by decide +kernel
theorem dL_law_18 : decode cL_law 18 = .ok (.iload_n 3, 1) := by decide +kernel
theorem dL_law_19 : decode cL_law 19 = .ok (.aload_n 0, 1) := by decide +kernel
theorem dL_law_20 : decode cL_law 20 = .ok (.arraylength, 1) := by decide +kernel
theorem dL_law_21 : decode cL_law 21 = .ok (.iconst 4, 1) := by decide +kernel
theorem dL_law_22 : decode cL_law 22 = .ok (.isub, 1) := by decide +kernel
theorem dL_law_23 : decode cL_law 23 = .ok (.if_icmp .gt 440, 3) := by decide +kernel
theorem dL_law_26 : decode cL_law 26 = .ok (.aload_n 0, 1) := by decide +kernel
theorem dL_law_27 : decode cL_law 27 = .ok (.iload_n 3, 1) := by decide +kernel
theorem dL_law_28 : decode cL_law 28 = .ok (.iaload, 1) := by decide +kernel
theorem dL_law_29 : decode cL_law 29 = .ok (.bipush 15, 2) := by decide +kernel
theorem dL_law_31 : decode cL_law 31 = .ok (.iand, 1) := by decide +kernel
theorem dL_law_32 : decode cL_law 32 = .ok (.tableswitch 425 0 12 #[68, 111, 154, 187, 220, 253, 264, 287, 310, 333, 366, 399, 412], 68) := by decide +kernel
theorem dL_law_100 : decode cL_law 100 = .ok (.aload_n 1, 1) := by decide +kernel
theorem dL_law_101 : decode cL_law 101 = .ok (.aload_n 0, 1) := by decide +kernel
theorem dL_law_102 : decode cL_law 102 = .ok (.iload_n 3, 1) := by decide +kernel
theorem dL_law_103 : decode cL_law 103 = .ok (.iconst 1, 1) := by decide +kernel
theorem dL_law_104 : decode cL_law 104 = .ok (.iadd, 1) := by decide +kernel
theorem dL_law_105 : decode cL_law 105 = .ok (.iaload, 1) := by decide +kernel
theorem dL_law_106 : decode cL_law 106 = .ok (.aload_n 0, 1) := by decide +kernel
theorem dL_law_107 : decode cL_law 107 = .ok (.iload_n 3, 1) := by decide +kernel
theorem dL_law_108 : decode cL_law 108 = .ok (.iconst 2, 1) := by decide +kernel
theorem dL_law_109 : decode cL_law 109 = .ok (.iadd, 1) := by decide +kernel
theorem dL_law_110 : decode cL_law 110 = .ok (.iaload, 1) := by decide +kernel
theorem dL_law_111 : decode cL_law 111 = .ok (.aload_n 0, 1) := by decide +kernel
theorem dL_law_112 : decode cL_law 112 = .ok (.iload_n 3, 1) := by decide +kernel
theorem dL_law_113 : decode cL_law 113 = .ok (.iconst 3, 1) := by decide +kernel
theorem dL_law_114 : decode cL_law 114 = .ok (.iadd, 1) := by decide +kernel
theorem dL_law_115 : decode cL_law 115 = .ok (.iaload, 1) := by decide +kernel
theorem dL_law_116 : decode cL_law 116 = .ok (.invokevirtual 13, 3) := by decide +kernel
theorem dL_law_119 : decode cL_law 119 = .ok (.aload_n 2, 1) := by decide +kernel
theorem dL_law_120 : decode cL_law 120 = .ok (.aload_n 0, 1) := by decide +kernel
theorem dL_law_121 : decode cL_law 121 = .ok (.iload_n 3, 1) := by decide +kernel
theorem dL_law_122 : decode cL_law 122 = .ok (.iconst 1, 1) := by decide +kernel
theorem dL_law_123 : decode cL_law 123 = .ok (.iadd, 1) := by decide +kernel
theorem dL_law_124 : decode cL_law 124 = .ok (.iaload, 1) := by decide +kernel
theorem dL_law_125 : decode cL_law 125 = .ok (.aload_n 0, 1) := by decide +kernel
theorem dL_law_126 : decode cL_law 126 = .ok (.iload_n 3, 1) := by decide +kernel
theorem dL_law_127 : decode cL_law 127 = .ok (.iconst 2, 1) := by decide +kernel
theorem dL_law_128 : decode cL_law 128 = .ok (.iadd, 1) := by decide +kernel
theorem dL_law_129 : decode cL_law 129 = .ok (.iaload, 1) := by decide +kernel
theorem dL_law_130 : decode cL_law 130 = .ok (.aload_n 0, 1) := by decide +kernel
theorem dL_law_131 : decode cL_law 131 = .ok (.iload_n 3, 1) := by decide +kernel
theorem dL_law_132 : decode cL_law 132 = .ok (.iconst 3, 1) := by decide +kernel
theorem dL_law_133 : decode cL_law 133 = .ok (.iadd, 1) := by decide +kernel
theorem dL_law_134 : decode cL_law 134 = .ok (.iaload, 1) := by decide +kernel
theorem dL_law_135 : decode cL_law 135 = .ok (.invokevirtual 17, 3) := by decide +kernel
theorem dL_law_138 : decode cL_law 138 = .ok (.if_icmp .eq 319, 3) := by decide +kernel
theorem dL_law_141 : decode cL_law 141 = .ok (.iconst 0, 1) := by decide +kernel
theorem dL_law_142 : decode cL_law 142 = .ok (.ireturn, 1) := by decide +kernel
theorem dL_law_143 : decode cL_law 143 = .ok (.aload_n 1, 1) := by decide +kernel
theorem dL_law_144 : decode cL_law 144 = .ok (.aload_n 0, 1) := by decide +kernel
theorem dL_law_145 : decode cL_law 145 = .ok (.iload_n 3, 1) := by decide +kernel
theorem dL_law_146 : decode cL_law 146 = .ok (.iconst 1, 1) := by decide +kernel
theorem dL_law_147 : decode cL_law 147 = .ok (.iadd, 1) := by decide +kernel
theorem dL_law_148 : decode cL_law 148 = .ok (.iaload, 1) := by decide +kernel
theorem dL_law_149 : decode cL_law 149 = .ok (.aload_n 0, 1) := by decide +kernel
theorem dL_law_150 : decode cL_law 150 = .ok (.iload_n 3, 1) := by decide +kernel
theorem dL_law_151 : decode cL_law 151 = .ok (.iconst 2, 1) := by decide +kernel
theorem dL_law_152 : decode cL_law 152 = .ok (.iadd, 1) := by decide +kernel
theorem dL_law_153 : decode cL_law 153 = .ok (.iaload, 1) := by decide +kernel
theorem dL_law_154 : decode cL_law 154 = .ok (.aload_n 0, 1) := by decide +kernel
theorem dL_law_155 : decode cL_law 155 = .ok (.iload_n 3, 1) := by decide +kernel
theorem dL_law_156 : decode cL_law 156 = .ok (.iconst 3, 1) := by decide +kernel
theorem dL_law_157 : decode cL_law 157 = .ok (.iadd, 1) := by decide +kernel
theorem dL_law_158 : decode cL_law 158 = .ok (.iaload, 1) := by decide +kernel
theorem dL_law_159 : decode cL_law 159 = .ok (.invokevirtual 18, 3) := by decide +kernel
theorem dL_law_162 : decode cL_law 162 = .ok (.aload_n 2, 1) := by decide +kernel
theorem dL_law_163 : decode cL_law 163 = .ok (.aload_n 0, 1) := by decide +kernel
theorem dL_law_164 : decode cL_law 164 = .ok (.iload_n 3, 1) := by decide +kernel
theorem dL_law_165 : decode cL_law 165 = .ok (.iconst 1, 1) := by decide +kernel
theorem dL_law_166 : decode cL_law 166 = .ok (.iadd, 1) := by decide +kernel
theorem dL_law_167 : decode cL_law 167 = .ok (.iaload, 1) := by decide +kernel
theorem dL_law_168 : decode cL_law 168 = .ok (.aload_n 0, 1) := by decide +kernel
theorem dL_law_169 : decode cL_law 169 = .ok (.iload_n 3, 1) := by decide +kernel
theorem dL_law_170 : decode cL_law 170 = .ok (.iconst 2, 1) := by decide +kernel
theorem dL_law_171 : decode cL_law 171 = .ok (.iadd, 1) := by decide +kernel
theorem dL_law_172 : decode cL_law 172 = .ok (.iaload, 1) := by decide +kernel
theorem dL_law_173 : decode cL_law 173 = .ok (.aload_n 0, 1) := by decide +kernel
theorem dL_law_174 : decode cL_law 174 = .ok (.iload_n 3, 1) := by decide +kernel
theorem dL_law_175 : decode cL_law 175 = .ok (.iconst 3, 1) := by decide +kernel
theorem dL_law_176 : decode cL_law 176 = .ok (.iadd, 1) := by decide +kernel
theorem dL_law_177 : decode cL_law 177 = .ok (.iaload, 1) := by decide +kernel
theorem dL_law_178 : decode cL_law 178 = .ok (.invokevirtual 21, 3) := by decide +kernel
theorem dL_law_181 : decode cL_law 181 = .ok (.if_icmp .eq 276, 3) := by decide +kernel
theorem dL_law_184 : decode cL_law 184 = .ok (.iconst 0, 1) := by decide +kernel
theorem dL_law_185 : decode cL_law 185 = .ok (.ireturn, 1) := by decide +kernel
theorem dL_law_186 : decode cL_law 186 = .ok (.aload_n 1, 1) := by decide +kernel
theorem dL_law_187 : decode cL_law 187 = .ok (.aload_n 0, 1) := by decide +kernel
theorem dL_law_188 : decode cL_law 188 = .ok (.iload_n 3, 1) := by decide +kernel
theorem dL_law_189 : decode cL_law 189 = .ok (.iconst 1, 1) := by decide +kernel
theorem dL_law_190 : decode cL_law 190 = .ok (.iadd, 1) := by decide +kernel
theorem dL_law_191 : decode cL_law 191 = .ok (.iaload, 1) := by decide +kernel
end
section
set_option maxRecDepth 100000
theorem dL_law_192 : decode cL_law 192 = .ok (.aload_n 0, 1) := by decide +kernel
theorem dL_law_193 : decode cL_law 193 = .ok (.iload_n 3, 1) := by decide +kernel
theorem dL_law_194 : decode cL_law 194 = .ok (.iconst 2, 1) := by decide +kernel
theorem dL_law_195 : decode cL_law 195 = .ok (.iadd, 1) := by decide +kernel
theorem dL_law_196 : decode cL_law 196 = .ok (.iaload, 1) := by decide +kernel
theorem dL_law_197 : decode cL_law 197 = .ok (.invokevirtual 22, 3) := by decide +kernel
theorem dL_law_200 : decode cL_law 200 = .ok (.aload_n 2, 1) := by decide +kernel
theorem dL_law_201 : decode cL_law 201 = .ok (.aload_n 0, 1) := by decide +kernel
theorem dL_law_202 : decode cL_law 202 = .ok (.iload_n 3, 1) := by decide +kernel
theorem dL_law_203 : decode cL_law 203 = .ok (.iconst 1, 1) := by decide +kernel
theorem dL_law_204 : decode cL_law 204 = .ok (.iadd, 1) := by decide +kernel
theorem dL_law_205 : decode cL_law 205 = .ok (.iaload, 1) := by decide +kernel
theorem dL_law_206 : decode cL_law 206 = .ok (.aload_n 0, 1) := by decide +kernel
theorem dL_law_207 : decode cL_law 207 = .ok (.iload_n 3, 1) := by decide +kernel
theorem dL_law_208 : decode cL_law 208 = .ok (.iconst 2, 1) := by decide +kernel
theorem dL_law_209 : decode cL_law 209 = .ok (.iadd, 1) := by decide +kernel
theorem dL_law_210 : decode cL_law 210 = .ok (.iaload, 1) := by decide +kernel
theorem dL_law_211 : decode cL_law 211 = .ok (.invokevirtual 26, 3) := by decide +kernel
theorem dL_law_214 : decode cL_law 214 = .ok (.if_icmp .eq 243, 3) := by decide +kernel
theorem dL_law_217 : decode cL_law 217 = .ok (.iconst 0, 1) := by decide +kernel
theorem dL_law_218 : decode cL_law 218 = .ok (.ireturn, 1) := by decide +kernel
theorem dL_law_219 : decode cL_law 219 = .ok (.aload_n 1, 1) := by decide +kernel
theorem dL_law_220 : decode cL_law 220 = .ok (.aload_n 0, 1) := by decide +kernel
theorem dL_law_221 : decode cL_law 221 = .ok (.iload_n 3, 1) := by decide +kernel
theorem dL_law_222 : decode cL_law 222 = .ok (.iconst 1, 1) := by decide +kernel
theorem dL_law_223 : decode cL_law 223 = .ok (.iadd, 1) := by decide +kernel
theorem dL_law_224 : decode cL_law 224 = .ok (.iaload, 1) := by decide +kernel
theorem dL_law_225 : decode cL_law 225 = .ok (.aload_n 0, 1) := by decide +kernel
theorem dL_law_226 : decode cL_law 226 = .ok (.iload_n 3, 1) := by decide +kernel
theorem dL_law_227 : decode cL_law 227 = .ok (.iconst 2, 1) := by decide +kernel
theorem dL_law_228 : decode cL_law 228 = .ok (.iadd, 1) := by decide +kernel
theorem dL_law_229 : decode cL_law 229 = .ok (.iaload, 1) := by decide +kernel
theorem dL_law_230 : decode cL_law 230 = .ok (.invokevirtual 27, 3) := by decide +kernel
theorem dL_law_233 : decode cL_law 233 = .ok (.aload_n 2, 1) := by decide +kernel
theorem dL_law_234 : decode cL_law 234 = .ok (.aload_n 0, 1) := by decide +kernel
theorem dL_law_235 : decode cL_law 235 = .ok (.iload_n 3, 1) := by decide +kernel
theorem dL_law_236 : decode cL_law 236 = .ok (.iconst 1, 1) := by decide +kernel
theorem dL_law_237 : decode cL_law 237 = .ok (.iadd, 1) := by decide +kernel
theorem dL_law_238 : decode cL_law 238 = .ok (.iaload, 1) := by decide +kernel
theorem dL_law_239 : decode cL_law 239 = .ok (.aload_n 0, 1) := by decide +kernel
theorem dL_law_240 : decode cL_law 240 = .ok (.iload_n 3, 1) := by decide +kernel
theorem dL_law_241 : decode cL_law 241 = .ok (.iconst 2, 1) := by decide +kernel
theorem dL_law_242 : decode cL_law 242 = .ok (.iadd, 1) := by decide +kernel
theorem dL_law_243 : decode cL_law 243 = .ok (.iaload, 1) := by decide +kernel
theorem dL_law_244 : decode cL_law 244 = .ok (.invokevirtual 30, 3) := by decide +kernel
theorem dL_law_247 : decode cL_law 247 = .ok (.if_icmp .eq 210, 3) := by decide +kernel
theorem dL_law_250 : decode cL_law 250 = .ok (.iconst 0, 1) := by decide +kernel
theorem dL_law_251 : decode cL_law 251 = .ok (.ireturn, 1) := by decide +kernel
theorem dL_law_252 : decode cL_law 252 = .ok (.aload_n 1, 1) := by decide +kernel
theorem dL_law_253 : decode cL_law 253 = .ok (.aload_n 0, 1) := by decide +kernel
theorem dL_law_254 : decode cL_law 254 = .ok (.iload_n 3, 1) := by decide +kernel
theorem dL_law_255 : decode cL_law 255 = .ok (.iconst 1, 1) := by decide +kernel
theorem dL_law_256 : decode cL_law 256 = .ok (.iadd, 1) := by decide +kernel
theorem dL_law_257 : decode cL_law 257 = .ok (.iaload, 1) := by decide +kernel
theorem dL_law_258 : decode cL_law 258 = .ok (.aload_n 0, 1) := by decide +kernel
theorem dL_law_259 : decode cL_law 259 = .ok (.iload_n 3, 1) := by decide +kernel
theorem dL_law_260 : decode cL_law 260 = .ok (.iconst 2, 1) := by decide +kernel
theorem dL_law_261 : decode cL_law 261 = .ok (.iadd, 1) := by decide +kernel
theorem dL_law_262 : decode cL_law 262 = .ok (.iaload, 1) := by decide +kernel
theorem dL_law_263 : decode cL_law 263 = .ok (.invokevirtual 31, 3) := by decide +kernel
theorem dL_law_266 : decode cL_law 266 = .ok (.aload_n 2, 1) := by decide +kernel
theorem dL_law_267 : decode cL_law 267 = .ok (.aload_n 0, 1) := by decide +kernel
theorem dL_law_268 : decode cL_law 268 = .ok (.iload_n 3, 1) := by decide +kernel
theorem dL_law_269 : decode cL_law 269 = .ok (.iconst 1, 1) := by decide +kernel
theorem dL_law_270 : decode cL_law 270 = .ok (.iadd, 1) := by decide +kernel
theorem dL_law_271 : decode cL_law 271 = .ok (.iaload, 1) := by decide +kernel
theorem dL_law_272 : decode cL_law 272 = .ok (.aload_n 0, 1) := by decide +kernel
theorem dL_law_273 : decode cL_law 273 = .ok (.iload_n 3, 1) := by decide +kernel
theorem dL_law_274 : decode cL_law 274 = .ok (.iconst 2, 1) := by decide +kernel
theorem dL_law_275 : decode cL_law 275 = .ok (.iadd, 1) := by decide +kernel
theorem dL_law_276 : decode cL_law 276 = .ok (.iaload, 1) := by decide +kernel
theorem dL_law_277 : decode cL_law 277 = .ok (.invokevirtual 34, 3) := by decide +kernel
theorem dL_law_280 : decode cL_law 280 = .ok (.if_icmp .eq 177, 3) := by decide +kernel
theorem dL_law_283 : decode cL_law 283 = .ok (.iconst 0, 1) := by decide +kernel
theorem dL_law_284 : decode cL_law 284 = .ok (.ireturn, 1) := by decide +kernel
theorem dL_law_285 : decode cL_law 285 = .ok (.aload_n 1, 1) := by decide +kernel
theorem dL_law_286 : decode cL_law 286 = .ok (.invokevirtual 35, 3) := by decide +kernel
theorem dL_law_289 : decode cL_law 289 = .ok (.aload_n 2, 1) := by decide +kernel
theorem dL_law_290 : decode cL_law 290 = .ok (.invokevirtual 38, 3) := by decide +kernel
theorem dL_law_293 : decode cL_law 293 = .ok (.goto 164, 3) := by decide +kernel
theorem dL_law_296 : decode cL_law 296 = .ok (.aload_n 1, 1) := by decide +kernel
theorem dL_law_297 : decode cL_law 297 = .ok (.aload_n 0, 1) := by decide +kernel
theorem dL_law_298 : decode cL_law 298 = .ok (.iload_n 3, 1) := by decide +kernel
theorem dL_law_299 : decode cL_law 299 = .ok (.iconst 1, 1) := by decide +kernel
theorem dL_law_300 : decode cL_law 300 = .ok (.iadd, 1) := by decide +kernel
theorem dL_law_301 : decode cL_law 301 = .ok (.iaload, 1) := by decide +kernel
theorem dL_law_302 : decode cL_law 302 = .ok (.invokevirtual 39, 3) := by decide +kernel
theorem dL_law_305 : decode cL_law 305 = .ok (.aload_n 2, 1) := by decide +kernel
theorem dL_law_306 : decode cL_law 306 = .ok (.aload_n 0, 1) := by decide +kernel
theorem dL_law_307 : decode cL_law 307 = .ok (.iload_n 3, 1) := by decide +kernel
theorem dL_law_308 : decode cL_law 308 = .ok (.iconst 1, 1) := by decide +kernel
theorem dL_law_309 : decode cL_law 309 = .ok (.iadd, 1) := by decide +kernel
theorem dL_law_310 : decode cL_law 310 = .ok (.iaload, 1) := by decide +kernel
theorem dL_law_311 : decode cL_law 311 = .ok (.invokevirtual 43, 3) := by decide +kernel
theorem dL_law_314 : decode cL_law 314 = .ok (.if_icmp .eq 143, 3) := by decide +kernel
theorem dL_law_317 : decode cL_law 317 = .ok (.iconst 0, 1) := by decide +kernel
theorem dL_law_318 : decode cL_law 318 = .ok (.ireturn, 1) := by decide +kernel
theorem dL_law_319 : decode cL_law 319 = .ok (.aload_n 1, 1) := by decide +kernel
theorem dL_law_320 : decode cL_law 320 = .ok (.aload_n 0, 1) := by decide +kernel
theorem dL_law_321 : decode cL_law 321 = .ok (.iload_n 3, 1) := by decide +kernel
theorem dL_law_322 : decode cL_law 322 = .ok (.iconst 1, 1) := by decide +kernel
theorem dL_law_323 : decode cL_law 323 = .ok (.iadd, 1) := by decide +kernel
end
section
set_option maxRecDepth 100000
theorem dL_law_324 : decode cL_law 324 = .ok (.iaload, 1) := by decide +kernel
theorem dL_law_325 : decode cL_law 325 = .ok (.invokevirtual 44, 3) := by decide +kernel
theorem dL_law_328 : decode cL_law 328 = .ok (.aload_n 2, 1) := by decide +kernel
theorem dL_law_329 : decode cL_law 329 = .ok (.aload_n 0, 1) := by decide +kernel
theorem dL_law_330 : decode cL_law 330 = .ok (.iload_n 3, 1) := by decide +kernel
theorem dL_law_331 : decode cL_law 331 = .ok (.iconst 1, 1) := by decide +kernel
theorem dL_law_332 : decode cL_law 332 = .ok (.iadd, 1) := by decide +kernel
theorem dL_law_333 : decode cL_law 333 = .ok (.iaload, 1) := by decide +kernel
theorem dL_law_334 : decode cL_law 334 = .ok (.invokevirtual 48, 3) := by decide +kernel
theorem dL_law_337 : decode cL_law 337 = .ok (.if_icmp .eq 120, 3) := by decide +kernel
theorem dL_law_340 : decode cL_law 340 = .ok (.iconst 0, 1) := by decide +kernel
theorem dL_law_341 : decode cL_law 341 = .ok (.ireturn, 1) := by decide +kernel
theorem dL_law_342 : decode cL_law 342 = .ok (.aload_n 1, 1) := by decide +kernel
theorem dL_law_343 : decode cL_law 343 = .ok (.aload_n 0, 1) := by decide +kernel
theorem dL_law_344 : decode cL_law 344 = .ok (.iload_n 3, 1) := by decide +kernel
theorem dL_law_345 : decode cL_law 345 = .ok (.iconst 1, 1) := by decide +kernel
theorem dL_law_346 : decode cL_law 346 = .ok (.iadd, 1) := by decide +kernel
theorem dL_law_347 : decode cL_law 347 = .ok (.iaload, 1) := by decide +kernel
theorem dL_law_348 : decode cL_law 348 = .ok (.invokevirtual 49, 3) := by decide +kernel
theorem dL_law_351 : decode cL_law 351 = .ok (.aload_n 2, 1) := by decide +kernel
theorem dL_law_352 : decode cL_law 352 = .ok (.aload_n 0, 1) := by decide +kernel
theorem dL_law_353 : decode cL_law 353 = .ok (.iload_n 3, 1) := by decide +kernel
theorem dL_law_354 : decode cL_law 354 = .ok (.iconst 1, 1) := by decide +kernel
theorem dL_law_355 : decode cL_law 355 = .ok (.iadd, 1) := by decide +kernel
theorem dL_law_356 : decode cL_law 356 = .ok (.iaload, 1) := by decide +kernel
theorem dL_law_357 : decode cL_law 357 = .ok (.invokevirtual 52, 3) := by decide +kernel
theorem dL_law_360 : decode cL_law 360 = .ok (.if_icmp .eq 97, 3) := by decide +kernel
theorem dL_law_363 : decode cL_law 363 = .ok (.iconst 0, 1) := by decide +kernel
theorem dL_law_364 : decode cL_law 364 = .ok (.ireturn, 1) := by decide +kernel
theorem dL_law_365 : decode cL_law 365 = .ok (.aload_n 1, 1) := by decide +kernel
theorem dL_law_366 : decode cL_law 366 = .ok (.aload_n 0, 1) := by decide +kernel
theorem dL_law_367 : decode cL_law 367 = .ok (.iload_n 3, 1) := by decide +kernel
theorem dL_law_368 : decode cL_law 368 = .ok (.iconst 1, 1) := by decide +kernel
theorem dL_law_369 : decode cL_law 369 = .ok (.iadd, 1) := by decide +kernel
theorem dL_law_370 : decode cL_law 370 = .ok (.iaload, 1) := by decide +kernel
theorem dL_law_371 : decode cL_law 371 = .ok (.aload_n 0, 1) := by decide +kernel
theorem dL_law_372 : decode cL_law 372 = .ok (.iload_n 3, 1) := by decide +kernel
theorem dL_law_373 : decode cL_law 373 = .ok (.iconst 2, 1) := by decide +kernel
theorem dL_law_374 : decode cL_law 374 = .ok (.iadd, 1) := by decide +kernel
theorem dL_law_375 : decode cL_law 375 = .ok (.iaload, 1) := by decide +kernel
theorem dL_law_376 : decode cL_law 376 = .ok (.invokevirtual 53, 3) := by decide +kernel
theorem dL_law_379 : decode cL_law 379 = .ok (.aload_n 2, 1) := by decide +kernel
theorem dL_law_380 : decode cL_law 380 = .ok (.aload_n 0, 1) := by decide +kernel
theorem dL_law_381 : decode cL_law 381 = .ok (.iload_n 3, 1) := by decide +kernel
theorem dL_law_382 : decode cL_law 382 = .ok (.iconst 1, 1) := by decide +kernel
theorem dL_law_383 : decode cL_law 383 = .ok (.iadd, 1) := by decide +kernel
theorem dL_law_384 : decode cL_law 384 = .ok (.iaload, 1) := by decide +kernel
theorem dL_law_385 : decode cL_law 385 = .ok (.aload_n 0, 1) := by decide +kernel
theorem dL_law_386 : decode cL_law 386 = .ok (.iload_n 3, 1) := by decide +kernel
theorem dL_law_387 : decode cL_law 387 = .ok (.iconst 2, 1) := by decide +kernel
theorem dL_law_388 : decode cL_law 388 = .ok (.iadd, 1) := by decide +kernel
theorem dL_law_389 : decode cL_law 389 = .ok (.iaload, 1) := by decide +kernel
theorem dL_law_390 : decode cL_law 390 = .ok (.invokevirtual 56, 3) := by decide +kernel
theorem dL_law_393 : decode cL_law 393 = .ok (.if_icmp .eq 64, 3) := by decide +kernel
theorem dL_law_396 : decode cL_law 396 = .ok (.iconst 0, 1) := by decide +kernel
theorem dL_law_397 : decode cL_law 397 = .ok (.ireturn, 1) := by decide +kernel
theorem dL_law_398 : decode cL_law 398 = .ok (.aload_n 1, 1) := by decide +kernel
theorem dL_law_399 : decode cL_law 399 = .ok (.aload_n 0, 1) := by decide +kernel
theorem dL_law_400 : decode cL_law 400 = .ok (.iload_n 3, 1) := by decide +kernel
theorem dL_law_401 : decode cL_law 401 = .ok (.iconst 1, 1) := by decide +kernel
theorem dL_law_402 : decode cL_law 402 = .ok (.iadd, 1) := by decide +kernel
theorem dL_law_403 : decode cL_law 403 = .ok (.iaload, 1) := by decide +kernel
theorem dL_law_404 : decode cL_law 404 = .ok (.aload_n 0, 1) := by decide +kernel
theorem dL_law_405 : decode cL_law 405 = .ok (.iload_n 3, 1) := by decide +kernel
theorem dL_law_406 : decode cL_law 406 = .ok (.iconst 2, 1) := by decide +kernel
theorem dL_law_407 : decode cL_law 407 = .ok (.iadd, 1) := by decide +kernel
theorem dL_law_408 : decode cL_law 408 = .ok (.iaload, 1) := by decide +kernel
theorem dL_law_409 : decode cL_law 409 = .ok (.invokevirtual 57, 3) := by decide +kernel
theorem dL_law_412 : decode cL_law 412 = .ok (.aload_n 2, 1) := by decide +kernel
theorem dL_law_413 : decode cL_law 413 = .ok (.aload_n 0, 1) := by decide +kernel
theorem dL_law_414 : decode cL_law 414 = .ok (.iload_n 3, 1) := by decide +kernel
theorem dL_law_415 : decode cL_law 415 = .ok (.iconst 1, 1) := by decide +kernel
theorem dL_law_416 : decode cL_law 416 = .ok (.iadd, 1) := by decide +kernel
theorem dL_law_417 : decode cL_law 417 = .ok (.iaload, 1) := by decide +kernel
theorem dL_law_418 : decode cL_law 418 = .ok (.aload_n 0, 1) := by decide +kernel
theorem dL_law_419 : decode cL_law 419 = .ok (.iload_n 3, 1) := by decide +kernel
theorem dL_law_420 : decode cL_law 420 = .ok (.iconst 2, 1) := by decide +kernel
theorem dL_law_421 : decode cL_law 421 = .ok (.iadd, 1) := by decide +kernel
theorem dL_law_422 : decode cL_law 422 = .ok (.iaload, 1) := by decide +kernel
theorem dL_law_423 : decode cL_law 423 = .ok (.invokevirtual 60, 3) := by decide +kernel
theorem dL_law_426 : decode cL_law 426 = .ok (.if_icmp .eq 31, 3) := by decide +kernel
theorem dL_law_429 : decode cL_law 429 = .ok (.iconst 0, 1) := by decide +kernel
theorem dL_law_430 : decode cL_law 430 = .ok (.ireturn, 1) := by decide +kernel
theorem dL_law_431 : decode cL_law 431 = .ok (.aload_n 1, 1) := by decide +kernel
theorem dL_law_432 : decode cL_law 432 = .ok (.invokevirtual 61, 3) := by decide +kernel
theorem dL_law_435 : decode cL_law 435 = .ok (.aload_n 2, 1) := by decide +kernel
theorem dL_law_436 : decode cL_law 436 = .ok (.invokevirtual 65, 3) := by decide +kernel
theorem dL_law_439 : decode cL_law 439 = .ok (.if_icmp .eq 18, 3) := by decide +kernel
theorem dL_law_442 : decode cL_law 442 = .ok (.iconst 0, 1) := by decide +kernel
theorem dL_law_443 : decode cL_law 443 = .ok (.ireturn, 1) := by decide +kernel
theorem dL_law_444 : decode cL_law 444 = .ok (.aload_n 1, 1) := by decide +kernel
theorem dL_law_445 : decode cL_law 445 = .ok (.invokevirtual 66, 3) := by decide +kernel
theorem dL_law_448 : decode cL_law 448 = .ok (.aload_n 2, 1) := by decide +kernel
theorem dL_law_449 : decode cL_law 449 = .ok (.invokevirtual 69, 3) := by decide +kernel
theorem dL_law_452 : decode cL_law 452 = .ok (.if_icmp .eq 5, 3) := by decide +kernel
theorem dL_law_455 : decode cL_law 455 = .ok (.iconst 0, 1) := by decide +kernel
theorem dL_law_456 : decode cL_law 456 = .ok (.ireturn, 1) := by decide +kernel
theorem dL_law_457 : decode cL_law 457 = .ok (.iinc 3 4, 3) := by decide +kernel
theorem dL_law_460 : decode cL_law 460 = .ok (.goto (-442), 3) := by decide +kernel
theorem dL_law_463 : decode cL_law 463 = .ok (.iconst 1, 1) := by decide +kernel
theorem dL_law_464 : decode cL_law 464 = .ok (.ireturn, 1) := by decide +kernel
end
section
/-! the law's head: out of the skeleton -/
set_option maxRecDepth 100000
def R_law : String := "MutantLabLaw"
def lw_P (b : Addr) (xs : List Int32) (args : Array Value) (s : State) : Prop := args = #[.ref b] ∧ s.IntsAt b xs ∧ xs.length ≤ 256 ∧ (Jvm.Cond.and given_1 narrow_1).before args s = true
def lw_Q (_ : Array Value) (s : State) (o : Outcome) (t : State) : Prop := o = .returned (some (.int 1)) ∧ Framed s o t [] 600000 7290000
def lw_Z (below : List Frame) (a : Array Value) (s : State) : State → Prop := fun t => ∃ o, t.status = .running ∧ Ended t below o ∧ lw_Q a s o t
/-- the law's own end, with 1 on the stack, nothing written that was there before, its room as the claim has it -/
theorem lw_ret {p : Program} {l : Launch} {e : Env} {s : State} {m : MethodId} {below : List Frame} {meth : Method} {c : Code} {b : Nat} (hx : p.tables.exec = Jvm.exec) (hb : c.code = code) (hr : meth.sig.returnType = ret) (hlocks : meth.locks = false) {pc : Nat} {H : Heap} {ls : Array Slot} (hdg : decode code pc = .ok (.ireturn, 1)) : W p l e room_1 s m #[Value.ref b] below meth c H [] 600000 7290000 (lw_Z below #[Value.ref b] s) (F0 m pc ls [.int 1]) := by
  intro T hT X
  obtain ⟨fs, hret, hrun, hended, hW, hframe⟩ := X.leave (v := some (.int 1)) (hlocks := hlocks) (fun h => by rw [hr] at h; cases h)
  have hmeth' : T.vm.method? m = some meth := X.method'
  refine ⟨T.setFrames fs, ?_, .returned (some (.int 1)), hrun, hended, rfl, ⟨_, rfl⟩, hW, hframe⟩
  jvm_step X.here [X.here.top, hx, hb, hdg, hmeth', hr, ret, narrow_b1]
  (try refine ⟨rfl, ?_⟩); (try refine ⟨rfl, ?_⟩)
  first | (intro acts; rw [hret _ acts rfl rfl rfl]) | rw [hret _ _ rfl rfl rfl]
  exact Steps.refl _
/-- what holds at the law's entry: the machine, the code, the tables' words (any of lw_tbl by 'hts w (by decide +kernel)'), the script of L ints xs at the cell b, what the Statement gives of the start (any of its parts by flat_of_before) -/
def lw_At (p : Program) (s : State) (m : MethodId) (meth : Method) (c : Code) (b L : Nat) (xs : Nat → Int32) : Prop :=
  p.tables.exec = Jvm.exec ∧ c.code = code ∧ meth.sig.returnType = ret ∧ c.maxLocals = 4 ∧ s.vm.findClass R_law = some m.cls ∧ (∀ w ∈ lw_tbl, w.before #[Value.ref b] s = true) ∧ va_X b L xs s s.heap ∧ b < s.heap.size ∧ meth.locks = false ∧ (Jvm.Cond.and given_1 narrow_1).before #[Value.ref b] s = true
end
section
/-! the law's cases -/
theorem law_100 {E : gE} {X : gC} {ad bd : Nat → Nat} {b Ln : Nat} {xs : Nat → Int32} (hX : gK E X code 4 R_law room_1) (hB : va_X b Ln xs X.s X.s.heap) (hbl : b < X.s.heap.size) (hbA : ¬ X.A b) (hLn : Ln ≤ 256) (i : Nat) (hi : i + 4 ≤ Ln) (u v : GU) (n T M : Nat) (hw : wf u n T M) (hv : rl u v) (hr : okR u T M)
    (hk : ∀ u' v' : GU, lawI u' v' → G E X 4 34 804 (x0W E ad u' ++ x1W E bd v') 457 [.ref b, .ref (ad 0), .ref (bd 0), .int (nI i)] []) : G E X 4 34 804 (x0W E ad u ++ x1W E bd v) 100 [.ref b, .ref (ad 0), .ref (bd 0), .int (nI i)] [] := by
  refine g_aload_n (pc := 100) (i := 1) hX dL_law_100 rfl rfl ?_
  refine g_aload_n (pc := 101) (i := 0) hX dL_law_101 rfl rfl ?_
  refine g_iload_n (pc := 102) (i := 3) hX dL_law_102 rfl rfl ?_
  refine g_iconst (pc := 103) (v := 1) hX dL_law_103 ci_1 ?_
  refine g_iadd (pc := 104) hX dL_law_104 ?_
  refine G.topi (show nI i + (1 : Int32) = nI (i + 1) from nI_add i 1) ?_
  refine g_sld (pc := 105) hX hB hbl hbA hLn dL_law_105 rfl (by omega) ?_
  refine g_aload_n (pc := 106) (i := 0) hX dL_law_106 rfl rfl ?_
  refine g_iload_n (pc := 107) (i := 3) hX dL_law_107 rfl rfl ?_
  refine g_iconst (pc := 108) (v := 2) hX dL_law_108 ci_2 ?_
  refine g_iadd (pc := 109) hX dL_law_109 ?_
  refine G.topi (show nI i + (2 : Int32) = nI (i + 2) from nI_add i 2) ?_
  refine g_sld (pc := 110) hX hB hbl hbA hLn dL_law_110 rfl (by omega) ?_
  refine g_aload_n (pc := 111) (i := 0) hX dL_law_111 rfl rfl ?_
  refine g_iload_n (pc := 112) (i := 3) hX dL_law_112 rfl rfl ?_
  refine g_iconst (pc := 113) (v := 3) hX dL_law_113 ci_3 ?_
  refine g_iadd (pc := 114) hX dL_law_114 ?_
  refine G.topi (show nI i + (3 : Int32) = nI (i + 3) from nI_add i 3) ?_
  refine g_sld (pc := 115) hX hB hbl hbA hLn dL_law_115 rfl (by omega) ?_
  refine g_calli (pc := 116) (wr := x1W E bd v) hX (m0_emit E ad u n (xs (i + 1)) (xs (i + 2)) (xs (i + 3)) hw.1 hw.2.1) (x0_wf E ad) Y0_emit q121 dL_law_116 rfl rfl (Nat.le_of_ble_eq_true rfl) (by decide) (fun r1 u' h1 => ?_)
  refine g_aload_n (pc := 119) (i := 2) hX dL_law_119 rfl rfl ?_
  refine g_aload_n (pc := 120) (i := 0) hX dL_law_120 rfl rfl ?_
  refine g_iload_n (pc := 121) (i := 3) hX dL_law_121 rfl rfl ?_
  refine g_iconst (pc := 122) (v := 1) hX dL_law_122 ci_1 ?_
  refine g_iadd (pc := 123) hX dL_law_123 ?_
  refine G.topi (show nI i + (1 : Int32) = nI (i + 1) from nI_add i 1) ?_
  refine g_sld (pc := 124) hX hB hbl hbA hLn dL_law_124 rfl (by omega) ?_
  refine g_aload_n (pc := 125) (i := 0) hX dL_law_125 rfl rfl ?_
  refine g_iload_n (pc := 126) (i := 3) hX dL_law_126 rfl rfl ?_
  refine g_iconst (pc := 127) (v := 2) hX dL_law_127 ci_2 ?_
  refine g_iadd (pc := 128) hX dL_law_128 ?_
  refine G.topi (show nI i + (2 : Int32) = nI (i + 2) from nI_add i 2) ?_
  refine g_sld (pc := 129) hX hB hbl hbA hLn dL_law_129 rfl (by omega) ?_
  refine g_aload_n (pc := 130) (i := 0) hX dL_law_130 rfl rfl ?_
  refine g_iload_n (pc := 131) (i := 3) hX dL_law_131 rfl rfl ?_
  refine g_iconst (pc := 132) (v := 3) hX dL_law_132 ci_3 ?_
  refine g_iadd (pc := 133) hX dL_law_133 ?_
  refine G.topi (show nI i + (3 : Int32) = nI (i + 3) from nI_add i 3) ?_
  refine g_sld (pc := 134) hX hB hbl hbA hLn dL_law_134 rfl (by omega) ?_
  refine G.swap ?_
  refine g_calli (pc := 135) (wr := x0W E ad u') hX (m1_emit E bd v n (xs (i + 1)) (xs (i + 2)) (xs (i + 3)) (hv.1.trans hw.1) hw.2.1) (x1_wf E bd) Y1_emit q302 dL_law_135 rfl rfl (Nat.le_of_ble_eq_true rfl) (by decide) (fun r2 v' h2 => ?_)
  refine G.swap ?_
  obtain ⟨hres, hI⟩ := lawI_emit (xs (i + 1)) (xs (i + 2)) (xs (i + 3)) hw hv hr h1 h2
  refine g_icmp_eq (pc := 138) (tgt := 457) hX dL_law_138 (by decide) (fun _ => ?_) (fun c1 => ?_)
  · exact hk u' v' hI
  · exact absurd hres c1
theorem law_143 {E : gE} {X : gC} {ad bd : Nat → Nat} {b Ln : Nat} {xs : Nat → Int32} (hX : gK E X code 4 R_law room_1) (hB : va_X b Ln xs X.s X.s.heap) (hbl : b < X.s.heap.size) (hbA : ¬ X.A b) (hLn : Ln ≤ 256) (i : Nat) (hi : i + 4 ≤ Ln) (u v : GU) (n T M : Nat) (hw : wf u n T M) (hv : rl u v) (hr : okR u T M)
    (hk : ∀ u' v' : GU, lawI u' v' → G E X 4 34 804 (x0W E ad u' ++ x1W E bd v') 457 [.ref b, .ref (ad 0), .ref (bd 0), .int (nI i)] []) : G E X 4 34 804 (x0W E ad u ++ x1W E bd v) 143 [.ref b, .ref (ad 0), .ref (bd 0), .int (nI i)] [] := by
  refine g_aload_n (pc := 143) (i := 1) hX dL_law_143 rfl rfl ?_
  refine g_aload_n (pc := 144) (i := 0) hX dL_law_144 rfl rfl ?_
  refine g_iload_n (pc := 145) (i := 3) hX dL_law_145 rfl rfl ?_
  refine g_iconst (pc := 146) (v := 1) hX dL_law_146 ci_1 ?_
  refine g_iadd (pc := 147) hX dL_law_147 ?_
  refine G.topi (show nI i + (1 : Int32) = nI (i + 1) from nI_add i 1) ?_
  refine g_sld (pc := 148) hX hB hbl hbA hLn dL_law_148 rfl (by omega) ?_
  refine g_aload_n (pc := 149) (i := 0) hX dL_law_149 rfl rfl ?_
  refine g_iload_n (pc := 150) (i := 3) hX dL_law_150 rfl rfl ?_
  refine g_iconst (pc := 151) (v := 2) hX dL_law_151 ci_2 ?_
  refine g_iadd (pc := 152) hX dL_law_152 ?_
  refine G.topi (show nI i + (2 : Int32) = nI (i + 2) from nI_add i 2) ?_
  refine g_sld (pc := 153) hX hB hbl hbA hLn dL_law_153 rfl (by omega) ?_
  refine g_aload_n (pc := 154) (i := 0) hX dL_law_154 rfl rfl ?_
  refine g_iload_n (pc := 155) (i := 3) hX dL_law_155 rfl rfl ?_
  refine g_iconst (pc := 156) (v := 3) hX dL_law_156 ci_3 ?_
  refine g_iadd (pc := 157) hX dL_law_157 ?_
  refine G.topi (show nI i + (3 : Int32) = nI (i + 3) from nI_add i 3) ?_
  refine g_sld (pc := 158) hX hB hbl hbA hLn dL_law_158 rfl (by omega) ?_
  refine g_calli (pc := 159) (wr := x1W E bd v) hX (m0_test E ad u T (xs (i + 1)) (xs (i + 2)) (xs (i + 3)) hw.2.2.1 hw.2.2.2.1) (x0_wf E ad) Y0_test q125 dL_law_159 rfl rfl (Nat.le_of_ble_eq_true rfl) (by decide) (fun r1 u' h1 => ?_)
  refine g_aload_n (pc := 162) (i := 2) hX dL_law_162 rfl rfl ?_
  refine g_aload_n (pc := 163) (i := 0) hX dL_law_163 rfl rfl ?_
  refine g_iload_n (pc := 164) (i := 3) hX dL_law_164 rfl rfl ?_
  refine g_iconst (pc := 165) (v := 1) hX dL_law_165 ci_1 ?_
  refine g_iadd (pc := 166) hX dL_law_166 ?_
  refine G.topi (show nI i + (1 : Int32) = nI (i + 1) from nI_add i 1) ?_
  refine g_sld (pc := 167) hX hB hbl hbA hLn dL_law_167 rfl (by omega) ?_
  refine g_aload_n (pc := 168) (i := 0) hX dL_law_168 rfl rfl ?_
  refine g_iload_n (pc := 169) (i := 3) hX dL_law_169 rfl rfl ?_
  refine g_iconst (pc := 170) (v := 2) hX dL_law_170 ci_2 ?_
  refine g_iadd (pc := 171) hX dL_law_171 ?_
  refine G.topi (show nI i + (2 : Int32) = nI (i + 2) from nI_add i 2) ?_
  refine g_sld (pc := 172) hX hB hbl hbA hLn dL_law_172 rfl (by omega) ?_
  refine g_aload_n (pc := 173) (i := 0) hX dL_law_173 rfl rfl ?_
  refine g_iload_n (pc := 174) (i := 3) hX dL_law_174 rfl rfl ?_
  refine g_iconst (pc := 175) (v := 3) hX dL_law_175 ci_3 ?_
  refine g_iadd (pc := 176) hX dL_law_176 ?_
  refine G.topi (show nI i + (3 : Int32) = nI (i + 3) from nI_add i 3) ?_
  refine g_sld (pc := 177) hX hB hbl hbA hLn dL_law_177 rfl (by omega) ?_
  refine G.swap ?_
  refine g_calli (pc := 178) (wr := x0W E ad u') hX (m1_test E bd v T (xs (i + 1)) (xs (i + 2)) (xs (i + 3)) (hv.2.2.2.2.2.1.trans hw.2.2.1) hw.2.2.2.1) (x1_wf E bd) Y1_test q306 dL_law_178 rfl rfl (Nat.le_of_ble_eq_true rfl) (by decide) (fun r2 v' h2 => ?_)
  refine G.swap ?_
  obtain ⟨hres, hI⟩ := lawI_test (xs (i + 1)) (xs (i + 2)) (xs (i + 3)) hw hv hr h1 h2
  refine g_icmp_eq (pc := 181) (tgt := 457) hX dL_law_181 (by decide) (fun _ => ?_) (fun c1 => ?_)
  · exact hk u' v' hI
  · exact absurd hres c1
theorem law_186 {E : gE} {X : gC} {ad bd : Nat → Nat} {b Ln : Nat} {xs : Nat → Int32} (hX : gK E X code 4 R_law room_1) (hB : va_X b Ln xs X.s X.s.heap) (hbl : b < X.s.heap.size) (hbA : ¬ X.A b) (hLn : Ln ≤ 256) (i : Nat) (hi : i + 4 ≤ Ln) (u v : GU) (n T M : Nat) (hw : wf u n T M) (hv : rl u v) (hr : okR u T M)
    (hk : ∀ u' v' : GU, lawI u' v' → G E X 4 34 804 (x0W E ad u' ++ x1W E bd v') 457 [.ref b, .ref (ad 0), .ref (bd 0), .int (nI i)] []) : G E X 4 34 804 (x0W E ad u ++ x1W E bd v) 186 [.ref b, .ref (ad 0), .ref (bd 0), .int (nI i)] [] := by
  refine g_aload_n (pc := 186) (i := 1) hX dL_law_186 rfl rfl ?_
  refine g_aload_n (pc := 187) (i := 0) hX dL_law_187 rfl rfl ?_
  refine g_iload_n (pc := 188) (i := 3) hX dL_law_188 rfl rfl ?_
  refine g_iconst (pc := 189) (v := 1) hX dL_law_189 ci_1 ?_
  refine g_iadd (pc := 190) hX dL_law_190 ?_
  refine G.topi (show nI i + (1 : Int32) = nI (i + 1) from nI_add i 1) ?_
  refine g_sld (pc := 191) hX hB hbl hbA hLn dL_law_191 rfl (by omega) ?_
  refine g_aload_n (pc := 192) (i := 0) hX dL_law_192 rfl rfl ?_
  refine g_iload_n (pc := 193) (i := 3) hX dL_law_193 rfl rfl ?_
  refine g_iconst (pc := 194) (v := 2) hX dL_law_194 ci_2 ?_
  refine g_iadd (pc := 195) hX dL_law_195 ?_
  refine G.topi (show nI i + (2 : Int32) = nI (i + 2) from nI_add i 2) ?_
  refine g_sld (pc := 196) hX hB hbl hbA hLn dL_law_196 rfl (by omega) ?_
  refine g_calli (pc := 197) (wr := x1W E bd v) hX (m0_snapshotTest E ad u n T M (xs (i + 1)) (xs (i + 2)) hw) (x0_wf E ad) Y0_snapshotTest q133 dL_law_197 rfl rfl (Nat.le_of_ble_eq_true rfl) (by decide) (fun r1 u' h1 => ?_)
  refine g_aload_n (pc := 200) (i := 2) hX dL_law_200 rfl rfl ?_
  refine g_aload_n (pc := 201) (i := 0) hX dL_law_201 rfl rfl ?_
  refine g_iload_n (pc := 202) (i := 3) hX dL_law_202 rfl rfl ?_
  refine g_iconst (pc := 203) (v := 1) hX dL_law_203 ci_1 ?_
  refine g_iadd (pc := 204) hX dL_law_204 ?_
  refine G.topi (show nI i + (1 : Int32) = nI (i + 1) from nI_add i 1) ?_
  refine g_sld (pc := 205) hX hB hbl hbA hLn dL_law_205 rfl (by omega) ?_
  refine g_aload_n (pc := 206) (i := 0) hX dL_law_206 rfl rfl ?_
  refine g_iload_n (pc := 207) (i := 3) hX dL_law_207 rfl rfl ?_
  refine g_iconst (pc := 208) (v := 2) hX dL_law_208 ci_2 ?_
  refine g_iadd (pc := 209) hX dL_law_209 ?_
  refine G.topi (show nI i + (2 : Int32) = nI (i + 2) from nI_add i 2) ?_
  refine g_sld (pc := 210) hX hB hbl hbA hLn dL_law_210 rfl (by omega) ?_
  refine G.swap ?_
  refine g_calli (pc := 211) (wr := x0W E ad u') hX (m1_snapshotTest E bd u v n T M hw hv (xs (i + 1)) (xs (i + 2))) (x1_wf E bd) Y1_snapshotTest q314 dL_law_211 rfl rfl (Nat.le_of_ble_eq_true rfl) (by decide) (fun r2 v' h2 => ?_)
  refine G.swap ?_
  obtain ⟨hres, hI⟩ := lawI_snap (xs (i + 1)) (xs (i + 2)) hw hv hr h1 h2
  refine g_icmp_eq (pc := 214) (tgt := 457) hX dL_law_214 (by decide) (fun _ => ?_) (fun c1 => ?_)
  · exact hk u' v' hI
  · exact absurd hres c1
theorem law_219 {E : gE} {X : gC} {ad bd : Nat → Nat} {b Ln : Nat} {xs : Nat → Int32} (hX : gK E X code 4 R_law room_1) (hB : va_X b Ln xs X.s X.s.heap) (hbl : b < X.s.heap.size) (hbA : ¬ X.A b) (hLn : Ln ≤ 256) (i : Nat) (hi : i + 4 ≤ Ln) (u v : GU) (n T M : Nat) (hw : wf u n T M) (hv : rl u v) (hr : okR u T M)
    (hk : ∀ u' v' : GU, lawI u' v' → G E X 4 34 804 (x0W E ad u' ++ x1W E bd v') 457 [.ref b, .ref (ad 0), .ref (bd 0), .int (nI i)] []) : G E X 4 34 804 (x0W E ad u ++ x1W E bd v) 219 [.ref b, .ref (ad 0), .ref (bd 0), .int (nI i)] [] := by
  refine g_aload_n (pc := 219) (i := 1) hX dL_law_219 rfl rfl ?_
  refine g_aload_n (pc := 220) (i := 0) hX dL_law_220 rfl rfl ?_
  refine g_iload_n (pc := 221) (i := 3) hX dL_law_221 rfl rfl ?_
  refine g_iconst (pc := 222) (v := 1) hX dL_law_222 ci_1 ?_
  refine g_iadd (pc := 223) hX dL_law_223 ?_
  refine G.topi (show nI i + (1 : Int32) = nI (i + 1) from nI_add i 1) ?_
  refine g_sld (pc := 224) hX hB hbl hbA hLn dL_law_224 rfl (by omega) ?_
  refine g_aload_n (pc := 225) (i := 0) hX dL_law_225 rfl rfl ?_
  refine g_iload_n (pc := 226) (i := 3) hX dL_law_226 rfl rfl ?_
  refine g_iconst (pc := 227) (v := 2) hX dL_law_227 ci_2 ?_
  refine g_iadd (pc := 228) hX dL_law_228 ?_
  refine G.topi (show nI i + (2 : Int32) = nI (i + 2) from nI_add i 2) ?_
  refine g_sld (pc := 229) hX hB hbl hbA hLn dL_law_229 rfl (by omega) ?_
  refine g_calli (pc := 230) (wr := x1W E bd v) hX (m0_mutateOp E ad u M (xs (i + 1)) (xs (i + 2)) hw.2.2.2.2.1 hw.2.2.2.2.2.1) (x0_wf E ad) Y0_mutateOp q141 dL_law_230 rfl rfl (Nat.le_of_ble_eq_true rfl) (by decide) (fun r1 u' h1 => ?_)
  refine g_aload_n (pc := 233) (i := 2) hX dL_law_233 rfl rfl ?_
  refine g_aload_n (pc := 234) (i := 0) hX dL_law_234 rfl rfl ?_
  refine g_iload_n (pc := 235) (i := 3) hX dL_law_235 rfl rfl ?_
  refine g_iconst (pc := 236) (v := 1) hX dL_law_236 ci_1 ?_
  refine g_iadd (pc := 237) hX dL_law_237 ?_
  refine G.topi (show nI i + (1 : Int32) = nI (i + 1) from nI_add i 1) ?_
  refine g_sld (pc := 238) hX hB hbl hbA hLn dL_law_238 rfl (by omega) ?_
  refine g_aload_n (pc := 239) (i := 0) hX dL_law_239 rfl rfl ?_
  refine g_iload_n (pc := 240) (i := 3) hX dL_law_240 rfl rfl ?_
  refine g_iconst (pc := 241) (v := 2) hX dL_law_241 ci_2 ?_
  refine g_iadd (pc := 242) hX dL_law_242 ?_
  refine G.topi (show nI i + (2 : Int32) = nI (i + 2) from nI_add i 2) ?_
  refine g_sld (pc := 243) hX hB hbl hbA hLn dL_law_243 rfl (by omega) ?_
  refine G.swap ?_
  refine g_calli (pc := 244) (wr := x0W E ad u') hX (m1_mutateOp E bd v M (xs (i + 1)) (xs (i + 2)) (hv.2.2.2.2.2.2.2.2.2.2.1.trans hw.2.2.2.2.1) hw.2.2.2.2.2.1) (x1_wf E bd) Y1_mutateOp q326 dL_law_244 rfl rfl (Nat.le_of_ble_eq_true rfl) (by decide) (fun r2 v' h2 => ?_)
  refine G.swap ?_
  obtain ⟨hres, hI⟩ := lawI_mOp (xs (i + 1)) (xs (i + 2)) hw hv hr h1 h2
  refine g_icmp_eq (pc := 247) (tgt := 457) hX dL_law_247 (by decide) (fun _ => ?_) (fun c1 => ?_)
  · exact hk u' v' hI
  · exact absurd hres c1
theorem law_252 {E : gE} {X : gC} {ad bd : Nat → Nat} {b Ln : Nat} {xs : Nat → Int32} (hX : gK E X code 4 R_law room_1) (hB : va_X b Ln xs X.s X.s.heap) (hbl : b < X.s.heap.size) (hbA : ¬ X.A b) (hLn : Ln ≤ 256) (i : Nat) (hi : i + 4 ≤ Ln) (u v : GU) (n T M : Nat) (hw : wf u n T M) (hv : rl u v) (hr : okR u T M)
    (hk : ∀ u' v' : GU, lawI u' v' → G E X 4 34 804 (x0W E ad u' ++ x1W E bd v') 457 [.ref b, .ref (ad 0), .ref (bd 0), .int (nI i)] []) : G E X 4 34 804 (x0W E ad u ++ x1W E bd v) 252 [.ref b, .ref (ad 0), .ref (bd 0), .int (nI i)] [] := by
  refine g_aload_n (pc := 252) (i := 1) hX dL_law_252 rfl rfl ?_
  refine g_aload_n (pc := 253) (i := 0) hX dL_law_253 rfl rfl ?_
  refine g_iload_n (pc := 254) (i := 3) hX dL_law_254 rfl rfl ?_
  refine g_iconst (pc := 255) (v := 1) hX dL_law_255 ci_1 ?_
  refine g_iadd (pc := 256) hX dL_law_256 ?_
  refine G.topi (show nI i + (1 : Int32) = nI (i + 1) from nI_add i 1) ?_
  refine g_sld (pc := 257) hX hB hbl hbA hLn dL_law_257 rfl (by omega) ?_
  refine g_aload_n (pc := 258) (i := 0) hX dL_law_258 rfl rfl ?_
  refine g_iload_n (pc := 259) (i := 3) hX dL_law_259 rfl rfl ?_
  refine g_iconst (pc := 260) (v := 2) hX dL_law_260 ci_2 ?_
  refine g_iadd (pc := 261) hX dL_law_261 ?_
  refine G.topi (show nI i + (2 : Int32) = nI (i + 2) from nI_add i 2) ?_
  refine g_sld (pc := 262) hX hB hbl hbA hLn dL_law_262 rfl (by omega) ?_
  refine g_calli (pc := 263) (wr := x1W E bd v) hX (m0_mutateC E ad u M (xs (i + 1)) (xs (i + 2)) hw.2.2.2.2.1 hw.2.2.2.2.2.1) (x0_wf E ad) Y0_mutateC q149 dL_law_263 rfl rfl (Nat.le_of_ble_eq_true rfl) (by decide) (fun r1 u' h1 => ?_)
  refine g_aload_n (pc := 266) (i := 2) hX dL_law_266 rfl rfl ?_
  refine g_aload_n (pc := 267) (i := 0) hX dL_law_267 rfl rfl ?_
  refine g_iload_n (pc := 268) (i := 3) hX dL_law_268 rfl rfl ?_
  refine g_iconst (pc := 269) (v := 1) hX dL_law_269 ci_1 ?_
  refine g_iadd (pc := 270) hX dL_law_270 ?_
  refine G.topi (show nI i + (1 : Int32) = nI (i + 1) from nI_add i 1) ?_
  refine g_sld (pc := 271) hX hB hbl hbA hLn dL_law_271 rfl (by omega) ?_
  refine g_aload_n (pc := 272) (i := 0) hX dL_law_272 rfl rfl ?_
  refine g_iload_n (pc := 273) (i := 3) hX dL_law_273 rfl rfl ?_
  refine g_iconst (pc := 274) (v := 2) hX dL_law_274 ci_2 ?_
  refine g_iadd (pc := 275) hX dL_law_275 ?_
  refine G.topi (show nI i + (2 : Int32) = nI (i + 2) from nI_add i 2) ?_
  refine g_sld (pc := 276) hX hB hbl hbA hLn dL_law_276 rfl (by omega) ?_
  refine G.swap ?_
  refine g_calli (pc := 277) (wr := x0W E ad u') hX (m1_mutateC E bd v M (xs (i + 1)) (xs (i + 2)) (hv.2.2.2.2.2.2.2.2.2.2.1.trans hw.2.2.2.2.1) hw.2.2.2.2.2.1) (x1_wf E bd) Y1_mutateC q334 dL_law_277 rfl rfl (Nat.le_of_ble_eq_true rfl) (by decide) (fun r2 v' h2 => ?_)
  refine G.swap ?_
  obtain ⟨hres, hI⟩ := lawI_mC (xs (i + 1)) (xs (i + 2)) hw hv hr h1 h2
  refine g_icmp_eq (pc := 280) (tgt := 457) hX dL_law_280 (by decide) (fun _ => ?_) (fun c1 => ?_)
  · exact hk u' v' hI
  · exact absurd hres c1
theorem law_285 {E : gE} {X : gC} {ad bd : Nat → Nat} {b Ln : Nat} {xs : Nat → Int32} (hX : gK E X code 4 R_law room_1) (hB : va_X b Ln xs X.s X.s.heap) (hbl : b < X.s.heap.size) (hbA : ¬ X.A b) (hLn : Ln ≤ 256) (i : Nat) (hi : i + 4 ≤ Ln) (u v : GU) (n T M : Nat) (hw : wf u n T M) (hv : rl u v) (hr : okR u T M)
    (hk : ∀ u' v' : GU, lawI u' v' → G E X 4 34 804 (x0W E ad u' ++ x1W E bd v') 457 [.ref b, .ref (ad 0), .ref (bd 0), .int (nI i)] []) : G E X 4 34 804 (x0W E ad u ++ x1W E bd v) 285 [.ref b, .ref (ad 0), .ref (bd 0), .int (nI i)] [] := by
  refine g_aload_n (pc := 285) (i := 1) hX dL_law_285 rfl rfl ?_
  refine g_callv (pc := 286) (wr := x1W E bd v) hX (m0_clear E ad u) (x0_wf E ad) Y0_clear q153 dL_law_286 rfl rfl (Nat.le_of_ble_eq_true rfl) (by decide) (fun u' h1 => ?_)
  refine g_aload_n (pc := 289) (i := 2) hX dL_law_289 rfl rfl ?_
  refine G.swap ?_
  refine g_callv (pc := 290) (wr := x0W E ad u') hX (m1_clear E bd v) (x1_wf E bd) Y1_clear q338 dL_law_290 rfl rfl (Nat.le_of_ble_eq_true rfl) (by decide) (fun v' h2 => ?_)
  refine G.swap ?_
  refine g_goto (pc := 293) (tgt := 457) hX dL_law_293 (by decide) ?_
  subst h1; subst h2
  exact hk _ _ (lawI_clear hw hv)
theorem law_296 {E : gE} {X : gC} {ad bd : Nat → Nat} {b Ln : Nat} {xs : Nat → Int32} (hX : gK E X code 4 R_law room_1) (hB : va_X b Ln xs X.s X.s.heap) (hbl : b < X.s.heap.size) (hbA : ¬ X.A b) (hLn : Ln ≤ 256) (i : Nat) (hi : i + 4 ≤ Ln) (u v : GU) (n T M : Nat) (hw : wf u n T M) (hv : rl u v) (hr : okR u T M)
    (hk : ∀ u' v' : GU, lawI u' v' → G E X 4 34 804 (x0W E ad u' ++ x1W E bd v') 457 [.ref b, .ref (ad 0), .ref (bd 0), .int (nI i)] []) : G E X 4 34 804 (x0W E ad u ++ x1W E bd v) 296 [.ref b, .ref (ad 0), .ref (bd 0), .int (nI i)] [] := by
  refine g_aload_n (pc := 296) (i := 1) hX dL_law_296 rfl rfl ?_
  refine g_aload_n (pc := 297) (i := 0) hX dL_law_297 rfl rfl ?_
  refine g_iload_n (pc := 298) (i := 3) hX dL_law_298 rfl rfl ?_
  refine g_iconst (pc := 299) (v := 1) hX dL_law_299 ci_1 ?_
  refine g_iadd (pc := 300) hX dL_law_300 ?_
  refine G.topi (show nI i + (1 : Int32) = nI (i + 1) from nI_add i 1) ?_
  refine g_sld (pc := 301) hX hB hbl hbA hLn dL_law_301 rfl (by omega) ?_
  refine g_calli (pc := 302) (wr := x1W E bd v) hX (m0_passes E ad u n T M (xs (i + 1)) hw hr) (x0_wf E ad) Y0_passes q157 dL_law_302 rfl rfl (Nat.le_of_ble_eq_true rfl) (by decide) (fun r1 u' h1 => ?_)
  refine g_aload_n (pc := 305) (i := 2) hX dL_law_305 rfl rfl ?_
  refine g_aload_n (pc := 306) (i := 0) hX dL_law_306 rfl rfl ?_
  refine g_iload_n (pc := 307) (i := 3) hX dL_law_307 rfl rfl ?_
  refine g_iconst (pc := 308) (v := 1) hX dL_law_308 ci_1 ?_
  refine g_iadd (pc := 309) hX dL_law_309 ?_
  refine G.topi (show nI i + (1 : Int32) = nI (i + 1) from nI_add i 1) ?_
  refine g_sld (pc := 310) hX hB hbl hbA hLn dL_law_310 rfl (by omega) ?_
  refine G.swap ?_
  refine g_calli (pc := 311) (wr := x0W E ad u') hX (m1_passes E bd u v n T M hw hv (xs (i + 1))) (x1_wf E bd) Y1_passes q342 dL_law_311 rfl rfl (Nat.le_of_ble_eq_true rfl) (by decide) (fun r2 v' h2 => ?_)
  refine G.swap ?_
  have hres : r1 = r2 := h1.2.trans h2.2.symm
  have hI : lawI u' v' := lawI_q hw hv h1.1 h2.1
  refine g_icmp_eq (pc := 314) (tgt := 457) hX dL_law_314 (by decide) (fun _ => ?_) (fun c1 => ?_)
  · exact hk u' v' hI
  · exact absurd hres c1
theorem law_319 {E : gE} {X : gC} {ad bd : Nat → Nat} {b Ln : Nat} {xs : Nat → Int32} (hX : gK E X code 4 R_law room_1) (hB : va_X b Ln xs X.s X.s.heap) (hbl : b < X.s.heap.size) (hbA : ¬ X.A b) (hLn : Ln ≤ 256) (i : Nat) (hi : i + 4 ≤ Ln) (u v : GU) (n T M : Nat) (hw : wf u n T M) (hv : rl u v) (hr : okR u T M)
    (hk : ∀ u' v' : GU, lawI u' v' → G E X 4 34 804 (x0W E ad u' ++ x1W E bd v') 457 [.ref b, .ref (ad 0), .ref (bd 0), .int (nI i)] []) : G E X 4 34 804 (x0W E ad u ++ x1W E bd v) 319 [.ref b, .ref (ad 0), .ref (bd 0), .int (nI i)] [] := by
  refine g_aload_n (pc := 319) (i := 1) hX dL_law_319 rfl rfl ?_
  refine g_aload_n (pc := 320) (i := 0) hX dL_law_320 rfl rfl ?_
  refine g_iload_n (pc := 321) (i := 3) hX dL_law_321 rfl rfl ?_
  refine g_iconst (pc := 322) (v := 1) hX dL_law_322 ci_1 ?_
  refine g_iadd (pc := 323) hX dL_law_323 ?_
  refine G.topi (show nI i + (1 : Int32) = nI (i + 1) from nI_add i 1) ?_
  refine g_sld (pc := 324) hX hB hbl hbA hLn dL_law_324 rfl (by omega) ?_
  refine g_calli (pc := 325) (wr := x1W E bd v) hX (m0_killers E ad u n T M (xs (i + 1)) hw hr) (x0_wf E ad) Y0_killers q185 dL_law_325 rfl rfl (Nat.le_of_ble_eq_true rfl) (by decide) (fun r1 u' h1 => ?_)
  refine g_aload_n (pc := 328) (i := 2) hX dL_law_328 rfl rfl ?_
  refine g_aload_n (pc := 329) (i := 0) hX dL_law_329 rfl rfl ?_
  refine g_iload_n (pc := 330) (i := 3) hX dL_law_330 rfl rfl ?_
  refine g_iconst (pc := 331) (v := 1) hX dL_law_331 ci_1 ?_
  refine g_iadd (pc := 332) hX dL_law_332 ?_
  refine G.topi (show nI i + (1 : Int32) = nI (i + 1) from nI_add i 1) ?_
  refine g_sld (pc := 333) hX hB hbl hbA hLn dL_law_333 rfl (by omega) ?_
  refine G.swap ?_
  refine g_calli (pc := 334) (wr := x0W E ad u') hX (m1_killers E bd u v n T M hw hv (xs (i + 1))) (x1_wf E bd) Y1_killers q354 dL_law_334 rfl rfl (Nat.le_of_ble_eq_true rfl) (by decide) (fun r2 v' h2 => ?_)
  refine G.swap ?_
  have hres : r1 = r2 := h1.2.trans h2.2.symm
  have hI : lawI u' v' := lawI_q hw hv h1.1 h2.1
  refine g_icmp_eq (pc := 337) (tgt := 457) hX dL_law_337 (by decide) (fun _ => ?_) (fun c1 => ?_)
  · exact hk u' v' hI
  · exact absurd hres c1
theorem law_342 {E : gE} {X : gC} {ad bd : Nat → Nat} {b Ln : Nat} {xs : Nat → Int32} (hX : gK E X code 4 R_law room_1) (hB : va_X b Ln xs X.s X.s.heap) (hbl : b < X.s.heap.size) (hbA : ¬ X.A b) (hLn : Ln ≤ 256) (i : Nat) (hi : i + 4 ≤ Ln) (u v : GU) (n T M : Nat) (hw : wf u n T M) (hv : rl u v) (hr : okR u T M)
    (hk : ∀ u' v' : GU, lawI u' v' → G E X 4 34 804 (x0W E ad u' ++ x1W E bd v') 457 [.ref b, .ref (ad 0), .ref (bd 0), .int (nI i)] []) : G E X 4 34 804 (x0W E ad u ++ x1W E bd v) 342 [.ref b, .ref (ad 0), .ref (bd 0), .int (nI i)] [] := by
  refine g_aload_n (pc := 342) (i := 1) hX dL_law_342 rfl rfl ?_
  refine g_aload_n (pc := 343) (i := 0) hX dL_law_343 rfl rfl ?_
  refine g_iload_n (pc := 344) (i := 3) hX dL_law_344 rfl rfl ?_
  refine g_iconst (pc := 345) (v := 1) hX dL_law_345 ci_1 ?_
  refine g_iadd (pc := 346) hX dL_law_346 ?_
  refine G.topi (show nI i + (1 : Int32) = nI (i + 1) from nI_add i 1) ?_
  refine g_sld (pc := 347) hX hB hbl hbA hLn dL_law_347 rfl (by omega) ?_
  refine g_calli (pc := 348) (wr := x1W E bd v) hX (m0_killed E ad u n T M (xs (i + 1)) hw hr) (x0_wf E ad) Y0_killed q205 dL_law_348 rfl rfl (Nat.le_of_ble_eq_true rfl) (by decide) (fun r1 u' h1 => ?_)
  refine g_aload_n (pc := 351) (i := 2) hX dL_law_351 rfl rfl ?_
  refine g_aload_n (pc := 352) (i := 0) hX dL_law_352 rfl rfl ?_
  refine g_iload_n (pc := 353) (i := 3) hX dL_law_353 rfl rfl ?_
  refine g_iconst (pc := 354) (v := 1) hX dL_law_354 ci_1 ?_
  refine g_iadd (pc := 355) hX dL_law_355 ?_
  refine G.topi (show nI i + (1 : Int32) = nI (i + 1) from nI_add i 1) ?_
  refine g_sld (pc := 356) hX hB hbl hbA hLn dL_law_356 rfl (by omega) ?_
  refine G.swap ?_
  refine g_calli (pc := 357) (wr := x0W E ad u') hX (m1_killed E bd u v n T M hw hv (xs (i + 1))) (x1_wf E bd) Y1_killed q362 dL_law_357 rfl rfl (Nat.le_of_ble_eq_true rfl) (by decide) (fun r2 v' h2 => ?_)
  refine G.swap ?_
  have hres : r1 = r2 := h1.2.trans h2.2.symm
  have hI : lawI u' v' := lawI_q hw hv h1.1 h2.1
  refine g_icmp_eq (pc := 360) (tgt := 457) hX dL_law_360 (by decide) (fun _ => ?_) (fun c1 => ?_)
  · exact hk u' v' hI
  · exact absurd hres c1
theorem law_365 {E : gE} {X : gC} {ad bd : Nat → Nat} {b Ln : Nat} {xs : Nat → Int32} (hX : gK E X code 4 R_law room_1) (hB : va_X b Ln xs X.s X.s.heap) (hbl : b < X.s.heap.size) (hbA : ¬ X.A b) (hLn : Ln ≤ 256) (i : Nat) (hi : i + 4 ≤ Ln) (u v : GU) (n T M : Nat) (hw : wf u n T M) (hv : rl u v) (hr : okR u T M)
    (hk : ∀ u' v' : GU, lawI u' v' → G E X 4 34 804 (x0W E ad u' ++ x1W E bd v') 457 [.ref b, .ref (ad 0), .ref (bd 0), .int (nI i)] []) : G E X 4 34 804 (x0W E ad u ++ x1W E bd v) 365 [.ref b, .ref (ad 0), .ref (bd 0), .int (nI i)] [] := by
  refine g_aload_n (pc := 365) (i := 1) hX dL_law_365 rfl rfl ?_
  refine g_aload_n (pc := 366) (i := 0) hX dL_law_366 rfl rfl ?_
  refine g_iload_n (pc := 367) (i := 3) hX dL_law_367 rfl rfl ?_
  refine g_iconst (pc := 368) (v := 1) hX dL_law_368 ci_1 ?_
  refine g_iadd (pc := 369) hX dL_law_369 ?_
  refine G.topi (show nI i + (1 : Int32) = nI (i + 1) from nI_add i 1) ?_
  refine g_sld (pc := 370) hX hB hbl hbA hLn dL_law_370 rfl (by omega) ?_
  refine g_aload_n (pc := 371) (i := 0) hX dL_law_371 rfl rfl ?_
  refine g_iload_n (pc := 372) (i := 3) hX dL_law_372 rfl rfl ?_
  refine g_iconst (pc := 373) (v := 2) hX dL_law_373 ci_2 ?_
  refine g_iadd (pc := 374) hX dL_law_374 ?_
  refine G.topi (show nI i + (2 : Int32) = nI (i + 2) from nI_add i 2) ?_
  refine g_sld (pc := 375) hX hB hbl hbA hLn dL_law_375 rfl (by omega) ?_
  refine g_calli (pc := 376) (wr := x1W E bd v) hX (m0_output E ad u n T M (xs (i + 1)) (xs (i + 2)) hw hr) (x0_wf E ad) Y0_output q212 dL_law_376 rfl rfl (Nat.le_of_ble_eq_true rfl) (by decide) (fun r1 u' h1 => ?_)
  refine g_aload_n (pc := 379) (i := 2) hX dL_law_379 rfl rfl ?_
  refine g_aload_n (pc := 380) (i := 0) hX dL_law_380 rfl rfl ?_
  refine g_iload_n (pc := 381) (i := 3) hX dL_law_381 rfl rfl ?_
  refine g_iconst (pc := 382) (v := 1) hX dL_law_382 ci_1 ?_
  refine g_iadd (pc := 383) hX dL_law_383 ?_
  refine G.topi (show nI i + (1 : Int32) = nI (i + 1) from nI_add i 1) ?_
  refine g_sld (pc := 384) hX hB hbl hbA hLn dL_law_384 rfl (by omega) ?_
  refine g_aload_n (pc := 385) (i := 0) hX dL_law_385 rfl rfl ?_
  refine g_iload_n (pc := 386) (i := 3) hX dL_law_386 rfl rfl ?_
  refine g_iconst (pc := 387) (v := 2) hX dL_law_387 ci_2 ?_
  refine g_iadd (pc := 388) hX dL_law_388 ?_
  refine G.topi (show nI i + (2 : Int32) = nI (i + 2) from nI_add i 2) ?_
  refine g_sld (pc := 389) hX hB hbl hbA hLn dL_law_389 rfl (by omega) ?_
  refine G.swap ?_
  refine g_calli (pc := 390) (wr := x0W E ad u') hX (m1_output E bd u v n T M hw hv (xs (i + 1)) (xs (i + 2))) (x1_wf E bd) Y1_output q367 dL_law_390 rfl rfl (Nat.le_of_ble_eq_true rfl) (by decide) (fun r2 v' h2 => ?_)
  refine G.swap ?_
  have hres : r1 = r2 := h1.2.trans h2.2.symm
  have hI : lawI u' v' := lawI_q hw hv h1.1 h2.1
  refine g_icmp_eq (pc := 393) (tgt := 457) hX dL_law_393 (by decide) (fun _ => ?_) (fun c1 => ?_)
  · exact hk u' v' hI
  · exact absurd hres c1
theorem law_398 {E : gE} {X : gC} {ad bd : Nat → Nat} {b Ln : Nat} {xs : Nat → Int32} (hX : gK E X code 4 R_law room_1) (hB : va_X b Ln xs X.s X.s.heap) (hbl : b < X.s.heap.size) (hbA : ¬ X.A b) (hLn : Ln ≤ 256) (i : Nat) (hi : i + 4 ≤ Ln) (u v : GU) (n T M : Nat) (hw : wf u n T M) (hv : rl u v) (hr : okR u T M)
    (hk : ∀ u' v' : GU, lawI u' v' → G E X 4 34 804 (x0W E ad u' ++ x1W E bd v') 457 [.ref b, .ref (ad 0), .ref (bd 0), .int (nI i)] []) : G E X 4 34 804 (x0W E ad u ++ x1W E bd v) 398 [.ref b, .ref (ad 0), .ref (bd 0), .int (nI i)] [] := by
  refine g_aload_n (pc := 398) (i := 1) hX dL_law_398 rfl rfl ?_
  refine g_aload_n (pc := 399) (i := 0) hX dL_law_399 rfl rfl ?_
  refine g_iload_n (pc := 400) (i := 3) hX dL_law_400 rfl rfl ?_
  refine g_iconst (pc := 401) (v := 1) hX dL_law_401 ci_1 ?_
  refine g_iadd (pc := 402) hX dL_law_402 ?_
  refine G.topi (show nI i + (1 : Int32) = nI (i + 1) from nI_add i 1) ?_
  refine g_sld (pc := 403) hX hB hbl hbA hLn dL_law_403 rfl (by omega) ?_
  refine g_aload_n (pc := 404) (i := 0) hX dL_law_404 rfl rfl ?_
  refine g_iload_n (pc := 405) (i := 3) hX dL_law_405 rfl rfl ?_
  refine g_iconst (pc := 406) (v := 2) hX dL_law_406 ci_2 ?_
  refine g_iadd (pc := 407) hX dL_law_407 ?_
  refine G.topi (show nI i + (2 : Int32) = nI (i + 2) from nI_add i 2) ?_
  refine g_sld (pc := 408) hX hB hbl hbA hLn dL_law_408 rfl (by omega) ?_
  refine g_calli (pc := 409) (wr := x1W E bd v) hX (m0_length E ad u n T M (xs (i + 1)) (xs (i + 2)) hw hr) (x0_wf E ad) Y0_length q216 dL_law_409 rfl rfl (Nat.le_of_ble_eq_true rfl) (by decide) (fun r1 u' h1 => ?_)
  refine g_aload_n (pc := 412) (i := 2) hX dL_law_412 rfl rfl ?_
  refine g_aload_n (pc := 413) (i := 0) hX dL_law_413 rfl rfl ?_
  refine g_iload_n (pc := 414) (i := 3) hX dL_law_414 rfl rfl ?_
  refine g_iconst (pc := 415) (v := 1) hX dL_law_415 ci_1 ?_
  refine g_iadd (pc := 416) hX dL_law_416 ?_
  refine G.topi (show nI i + (1 : Int32) = nI (i + 1) from nI_add i 1) ?_
  refine g_sld (pc := 417) hX hB hbl hbA hLn dL_law_417 rfl (by omega) ?_
  refine g_aload_n (pc := 418) (i := 0) hX dL_law_418 rfl rfl ?_
  refine g_iload_n (pc := 419) (i := 3) hX dL_law_419 rfl rfl ?_
  refine g_iconst (pc := 420) (v := 2) hX dL_law_420 ci_2 ?_
  refine g_iadd (pc := 421) hX dL_law_421 ?_
  refine G.topi (show nI i + (2 : Int32) = nI (i + 2) from nI_add i 2) ?_
  refine g_sld (pc := 422) hX hB hbl hbA hLn dL_law_422 rfl (by omega) ?_
  refine G.swap ?_
  refine g_calli (pc := 423) (wr := x0W E ad u') hX (m1_length E bd u v n T M hw hv (xs (i + 1)) (xs (i + 2))) (x1_wf E bd) Y1_length q371 dL_law_423 rfl rfl (Nat.le_of_ble_eq_true rfl) (by decide) (fun r2 v' h2 => ?_)
  refine G.swap ?_
  have hres : r1 = r2 := h1.2.trans h2.2.symm
  have hI : lawI u' v' := lawI_q hw hv h1.1 h2.1
  refine g_icmp_eq (pc := 426) (tgt := 457) hX dL_law_426 (by decide) (fun _ => ?_) (fun c1 => ?_)
  · exact hk u' v' hI
  · exact absurd hres c1
theorem law_431 {E : gE} {X : gC} {ad bd : Nat → Nat} {b Ln : Nat} {xs : Nat → Int32} (hX : gK E X code 4 R_law room_1) (hB : va_X b Ln xs X.s X.s.heap) (hbl : b < X.s.heap.size) (hbA : ¬ X.A b) (hLn : Ln ≤ 256) (i : Nat) (hi : i + 4 ≤ Ln) (u v : GU) (n T M : Nat) (hw : wf u n T M) (hv : rl u v) (hr : okR u T M)
    (hk : ∀ u' v' : GU, lawI u' v' → G E X 4 34 804 (x0W E ad u' ++ x1W E bd v') 457 [.ref b, .ref (ad 0), .ref (bd 0), .int (nI i)] []) : G E X 4 34 804 (x0W E ad u ++ x1W E bd v) 431 [.ref b, .ref (ad 0), .ref (bd 0), .int (nI i)] [] := by
  obtain ⟨A, hA, hA6⟩ := isA_ex (km u T M) T hw.2.2.2.1
  refine g_aload_n (pc := 431) (i := 1) hX dL_law_431 rfl rfl ?_
  refine g_calli (pc := 432) (wr := x1W E bd v) hX (m0_enough E ad u n T M A hw hr hA hA6) (x0_wf E ad) Y0_enough q220 dL_law_432 rfl rfl (Nat.le_of_ble_eq_true rfl) (by decide) (fun r1 u' h1 => ?_)
  refine g_aload_n (pc := 435) (i := 2) hX dL_law_435 rfl rfl ?_
  refine G.swap ?_
  refine g_calli (pc := 436) (wr := x0W E ad u') hX (m1_enough E bd u v n T M A hw hv hA hA6) (x1_wf E bd) Y1_enough q375 dL_law_436 rfl rfl (Nat.le_of_ble_eq_true rfl) (by decide) (fun r2 v' h2 => ?_)
  refine G.swap ?_
  have hres : r1 = r2 := h1.2.trans h2.2.symm
  have hI : lawI u' v' := lawI_q hw hv h1.1 h2.1
  refine g_icmp_eq (pc := 439) (tgt := 457) hX dL_law_439 (by decide) (fun _ => ?_) (fun c1 => ?_)
  · exact hk u' v' hI
  · exact absurd hres c1
theorem law_444 {E : gE} {X : gC} {ad bd : Nat → Nat} {b Ln : Nat} {xs : Nat → Int32} (hX : gK E X code 4 R_law room_1) (hB : va_X b Ln xs X.s X.s.heap) (hbl : b < X.s.heap.size) (hbA : ¬ X.A b) (hLn : Ln ≤ 256) (i : Nat) (hi : i + 4 ≤ Ln) (u v : GU) (n T M : Nat) (hw : wf u n T M) (hv : rl u v) (hr : okR u T M)
    (hk : ∀ u' v' : GU, lawI u' v' → G E X 4 34 804 (x0W E ad u' ++ x1W E bd v') 457 [.ref b, .ref (ad 0), .ref (bd 0), .int (nI i)] []) : G E X 4 34 804 (x0W E ad u ++ x1W E bd v) 444 [.ref b, .ref (ad 0), .ref (bd 0), .int (nI i)] [] := by
  refine g_aload_n (pc := 444) (i := 1) hX dL_law_444 rfl rfl ?_
  refine g_calli (pc := 445) (wr := x1W E bd v) hX (m0_same E ad u n T M hw hr) (x0_wf E ad) Y0_same q236 dL_law_445 rfl rfl (Nat.le_of_ble_eq_true rfl) (by decide) (fun r1 u' h1 => ?_)
  refine g_aload_n (pc := 448) (i := 2) hX dL_law_448 rfl rfl ?_
  refine G.swap ?_
  refine g_calli (pc := 449) (wr := x0W E ad u') hX (m1_same E bd u v n T M hw hv) (x1_wf E bd) Y1_same q383 dL_law_449 rfl rfl (Nat.le_of_ble_eq_true rfl) (by decide) (fun r2 v' h2 => ?_)
  refine G.swap ?_
  have hres : r1 = r2 := h1.2.trans h2.2.symm
  have hI : lawI u' v' := lawI_q hw hv h1.1 h2.1
  refine g_icmp_eq (pc := 452) (tgt := 457) hX dL_law_452 (by decide) (fun _ => ?_) (fun c1 => ?_)
  · exact hk u' v' hI
  · exact absurd hres c1
end
section
/-! the law's loop, and its start -/
theorem law_loop {E : gE} {X : gC} {ad bd : Nat → Nat} {b Ln : Nat} {xs : Nat → Int32} (hX : gK E X code 4 R_law room_1) (hB : va_X b Ln xs X.s X.s.heap) (hbl : b < X.s.heap.size) (hbA : ¬ X.A b) (hLn : Ln ≤ 256)
    (hE : ∀ (ws : va_W) (L : List Value), G E X 4 34 804 ws 464 L [.int 1]) :
    ∀ (f i : Nat), Ln + 8 ≤ i + 4 * f → i ≤ Ln + 4 → ∀ u v : GU, lawI u v → G E X 4 34 804 (x0W E ad u ++ x1W E bd v) 18 [.ref b, .ref (ad 0), .ref (bd 0), .int (nI i)] [] := by
  intro f
  induction f with
  | zero => intro i h1 h2; omega
  | succ f ih =>
    intro i h1 h2 u v hI
    obtain ⟨n, T, M, hw, hv, hr⟩ := hI
    refine g_iload_n (pc := 18) (i := 3) hX dL_law_18 rfl rfl ?_
    refine g_aload_n (pc := 19) (i := 0) hX dL_law_19 rfl rfl ?_
    refine g_slen (pc := 20) hX hB hbl hbA dL_law_20 ?_
    refine g_iconst (pc := 21) (v := 4) hX dL_law_21 ci_4 ?_
    refine g_isub (pc := 22) hX dL_law_22 ?_
    have hsub : (nI Ln - (4 : Int32)).toInt = (Ln : Int) - 4 := pk_sub_toInt (a := Ln) (b := 4) (by omega) (by decide)
    have hiI : (nI i).toInt = (i : Int) := nI_toInt (by omega)
    refine g_icmp_gt (pc := 23) (tgt := 463) hX dL_law_23 (by decide) (fun c1 => ?_) (fun c1 => ?_)
    · refine g_iconst (pc := 463) (v := 1) hX dL_law_463 ci_1 ?_
      exact hE _ _
    · rw [Int32.lt_iff_toInt_lt, hsub, hiI] at c1
      have hi : i + 4 ≤ Ln := by omega
      have hk : ∀ u' v' : GU, lawI u' v' → G E X 4 34 804 (x0W E ad u' ++ x1W E bd v') 457 [.ref b, .ref (ad 0), .ref (bd 0), .int (nI i)] [] := by
        intro u' v' hI'
        refine g_iincG (pc := 457) (v := nI (i + 4)) (L' := [.ref b, .ref (ad 0), .ref (bd 0), .int (nI (i + 4))]) hX dL_law_457 rfl (nI_add i 4) (by decide) rfl ?_
        refine g_goto (pc := 460) (tgt := 18) hX dL_law_460 (by decide) ?_
        exact ih (i + 4) (by omega) (by omega) u' v' hI'
      refine g_aload_n (pc := 26) (i := 0) hX dL_law_26 rfl rfl ?_
      refine g_iload_n (pc := 27) (i := 3) hX dL_law_27 rfl rfl ?_
      refine g_sld (pc := 28) hX hB hbl hbA hLn dL_law_28 rfl (by omega) ?_
      refine g_bipush (pc := 29) (v := nI 15) hX dL_law_29 cb_15 ?_
      refine g_iand (pc := 31) hX dL_law_31 ?_
      obtain ⟨j, hj, ej⟩ := pk_andE (xs i) (m := nI 15) 4 (by decide)
      refine G.topi ej ?_
      match j, hj with
      | 0, _ =>
        refine g_tin (pc := 32) (tgt := 100) (off := 68) hX dL_law_32 (by decide) (by decide) (by decide) (by decide) ?_
        exact law_100 hX hB hbl hbA hLn i hi u v n T M hw hv hr hk
      | 1, _ =>
        refine g_tin (pc := 32) (tgt := 143) (off := 111) hX dL_law_32 (by decide) (by decide) (by decide) (by decide) ?_
        exact law_143 hX hB hbl hbA hLn i hi u v n T M hw hv hr hk
      | 2, _ =>
        refine g_tin (pc := 32) (tgt := 186) (off := 154) hX dL_law_32 (by decide) (by decide) (by decide) (by decide) ?_
        exact law_186 hX hB hbl hbA hLn i hi u v n T M hw hv hr hk
      | 3, _ =>
        refine g_tin (pc := 32) (tgt := 219) (off := 187) hX dL_law_32 (by decide) (by decide) (by decide) (by decide) ?_
        exact law_219 hX hB hbl hbA hLn i hi u v n T M hw hv hr hk
      | 4, _ =>
        refine g_tin (pc := 32) (tgt := 252) (off := 220) hX dL_law_32 (by decide) (by decide) (by decide) (by decide) ?_
        exact law_252 hX hB hbl hbA hLn i hi u v n T M hw hv hr hk
      | 5, _ =>
        refine g_tin (pc := 32) (tgt := 285) (off := 253) hX dL_law_32 (by decide) (by decide) (by decide) (by decide) ?_
        exact law_285 hX hB hbl hbA hLn i hi u v n T M hw hv hr hk
      | 6, _ =>
        refine g_tin (pc := 32) (tgt := 296) (off := 264) hX dL_law_32 (by decide) (by decide) (by decide) (by decide) ?_
        exact law_296 hX hB hbl hbA hLn i hi u v n T M hw hv hr hk
      | 7, _ =>
        refine g_tin (pc := 32) (tgt := 319) (off := 287) hX dL_law_32 (by decide) (by decide) (by decide) (by decide) ?_
        exact law_319 hX hB hbl hbA hLn i hi u v n T M hw hv hr hk
      | 8, _ =>
        refine g_tin (pc := 32) (tgt := 342) (off := 310) hX dL_law_32 (by decide) (by decide) (by decide) (by decide) ?_
        exact law_342 hX hB hbl hbA hLn i hi u v n T M hw hv hr hk
      | 9, _ =>
        refine g_tin (pc := 32) (tgt := 365) (off := 333) hX dL_law_32 (by decide) (by decide) (by decide) (by decide) ?_
        exact law_365 hX hB hbl hbA hLn i hi u v n T M hw hv hr hk
      | 10, _ =>
        refine g_tin (pc := 32) (tgt := 398) (off := 366) hX dL_law_32 (by decide) (by decide) (by decide) (by decide) ?_
        exact law_398 hX hB hbl hbA hLn i hi u v n T M hw hv hr hk
      | 11, _ =>
        refine g_tin (pc := 32) (tgt := 431) (off := 399) hX dL_law_32 (by decide) (by decide) (by decide) (by decide) ?_
        exact law_431 hX hB hbl hbA hLn i hi u v n T M hw hv hr hk
      | 12, _ =>
        refine g_tin (pc := 32) (tgt := 444) (off := 412) hX dL_law_32 (by decide) (by decide) (by decide) (by decide) ?_
        exact law_444 hX hB hbl hbA hLn i hi u v n T M hw hv hr hk
      | 13, _ =>
        refine g_tout (pc := 32) (tgt := 457) hX dL_law_32 (by decide) (by decide) ?_
        exact hk u v ⟨n, T, M, hw, hv, hr⟩
      | 14, _ =>
        refine g_tout (pc := 32) (tgt := 457) hX dL_law_32 (by decide) (by decide) ?_
        exact hk u v ⟨n, T, M, hw, hv, hr⟩
      | 15, _ =>
        refine g_tout (pc := 32) (tgt := 457) hX dL_law_32 (by decide) (by decide) ?_
        exact hk u v ⟨n, T, M, hw, hv, hr⟩
      | j + 16, h => exact absurd h (by omega)
theorem lw_words {s : State} {b : Nat} (h : ∀ w ∈ lw_tbl, w.before #[Value.ref b] s = true) : ∀ w ∈ lw_all, w.before #[Value.ref b] s = true := fun w hw => h w (lw_all_tbl hw)
/-- the two objects, and arrays of ints and booleans, are known at the start -/
theorem law_known {s : State} {b : Nat} (h : ∀ w ∈ lw_tbl, w.before #[Value.ref b] s = true) : ∃ (D : va_G) (dI dZ : ClassId), va_K D vwCl [(dI, .int), (dZ, .boolean)] s := by
  have hts := lw_words h
  obtain ⟨c0, iS0, hK0⟩ := u_known (C := RX0) (T := TX0) (N := 27) (n := 27) hts in_X0 (hts _ q30)
  obtain ⟨c1, iS1, hK1⟩ := u_known (C := RX1) (T := TX1) (N := 17) (n := 17) hts in_X1 (hts _ q245)
  obtain ⟨dI, kI, compI, a1, a2, a3⟩ := Cond.arrayClass_spec (hts _ q119)
  obtain ⟨dZ, kZ, compZ, z1, z2, z3⟩ := Cond.arrayClass_spec (hts _ q120)
  refine ⟨(fun k => if k = 0 then c0 else c1, fun k => if k = 0 then iS0 else iS1), dI, dZ, ?_, ?_⟩
  · intro k q hq
    match k, hq with
    | 0, hq => cases hq; exact hK0
    | 1, hq => cases hq; exact hK1
    | k + 2, hq => simp [vwCl] at hq
  · intro k q hq
    match k, hq with
    | 0, hq =>
      cases hq
      exact ⟨fun n z => ⟨fun k h => (by cases h), kI, a2, compI, a3⟩, a1⟩
    | 1, hq =>
      cases hq
      exact ⟨fun n z => ⟨fun k h => (by cases h), kZ, z2, compZ, z3⟩, z1⟩
    | k + 2, hq => simp at hq
/-- the law from its first instruction on -/
theorem law_begin {E : gE} {X : gC} {b Ln : Nat} {xs : Nat → Int32} (hX : gK E X code 4 R_law room_1) (hB : va_X b Ln xs X.s X.s.heap) (hbl : b < X.s.heap.size) (hbA : ¬ X.A b) (hLn : Ln ≤ 256)
    (hE : ∀ (ws : va_W) (L : List Value), G E X 4 34 804 ws 464 L [.int 1]) : G E X 4 0 0 [] 0 [.ref b] [] := by
  refine g_newO (pc := 0) (C := RX0) (T := TX0) (N := 27) (ci := 0) (fs := x0D) hX in_X0 tyX0 tyX0_ok q29 q30 q27 rfl x0D_ok (by decide) (by decide) dL_law_0 (fun h0 => ?_)
  refine g_dupr (pc := 3) hX dL_law_3 ?_
  refine g_callI (pc := 4) (wr := []) hX (m0_init E h0) q33 q27 q31 q32 rfl (by decide +kernel) dL_law_4 (Nat.le_of_ble_eq_true rfl) rfl rfl (by decide) (by decide) (fun ad had => ?_)
  subst had
  refine g_astore_n (pc := 7) (i := 1) (L' := [.ref b, .ref (ad 0)]) hX dL_law_7 rfl (Nat.le_refl _) (by decide) rfl ?_
  refine g_newO (pc := 8) (C := RX1) (T := TX1) (N := 17) (ci := 1) (fs := x1D) hX in_X1 tyX1 tyX1_ok q244 q245 q28 rfl x1D_ok (by decide) (by decide) dL_law_8 (fun h1 => ?_)
  refine g_dupr (pc := 11) hX dL_law_11 ?_
  refine g_callI (pc := 12) (wr := [] ++ x0W E ad (fun _ _ => 0)) hX (m1_init E h1) q248 q28 q246 q247 rfl (by decide +kernel) dL_law_12 (Nat.le_of_ble_eq_true rfl) rfl rfl (by decide) (by decide) (fun bd hbd => ?_)
  subst hbd
  refine g_astore_n (pc := 15) (i := 2) (L' := [.ref b, .ref (ad 0), .ref (bd 0)]) hX dL_law_15 rfl (Nat.le_refl _) (by decide) rfl ?_
  refine g_iconst (pc := 16) (v := nI 0) hX dL_law_16 ci_0 ?_
  refine g_istore_n (pc := 17) (i := 3) (L' := [.ref b, .ref (ad 0), .ref (bd 0), .int (nI 0)]) hX dL_law_17 rfl (Nat.le_refl _) (by decide) rfl ?_
  exact law_loop hX hB hbl hbA hLn hE (Ln + 2) 0 (by omega) (by omega) _ _ lawI_0
set_option maxHeartbeats 4000000 in
/-- from the entry, for every script of at most 256 ints, the law comes to its end with true -/
theorem whole_start {p : Program} {e : Env} {s : State} {m : MethodId} {below : List Frame} {meth : Method} {c : Code} (l : Launch) {b L : Nat} {xs : Nat → Int32} (hL : L ≤ 256) (C0 : lw_At p s m meth c b L xs) : W p l e room_1 s m #[Value.ref b] below meth c s.heap [] 0 0 (lw_Z below #[Value.ref b] s) (entryFrame m ([Value.ref b] : List Value).toArray 4) := by
  obtain ⟨hx, hb, hret, hml, hown, hts0, hXs, hbl, hlocks, -⟩ := C0
  obtain ⟨D, dI, dZ, hK⟩ := law_known hts0
  have hX : gK (l, D, dI, dZ) (p, e, room_1, s, m, #[Value.ref b], below, meth, c, fun q => s.heap.size ≤ q, lw_Z below #[Value.ref b] s) code 4 R_law room_1 := ⟨rfl, hx, hb, hml, hlocks, hown, lw_words hts0, fun q h => h, hK⟩
  have hE : ∀ (ws : va_W) (Ls : List Value), G (l, D, dI, dZ) (p, e, room_1, s, m, #[Value.ref b], below, meth, c, fun q => s.heap.size ≤ q, lw_Z below #[Value.ref b] s) 4 34 804 ws 464 Ls [.int 1] := by
    intro ws Ls H locs ls hP hD hS hLs
    exact va_forget (fun q hq => hS.2.2 q hq) (W.widen (by decide) (by decide) (lw_ret hx hb hret hlocks dL_law_464))
  have key := law_begin (b := b) (Ln := L) (xs := xs) hX hXs hbl (fun h => absurd hbl (Nat.not_lt.mpr h)) hL hE
  rw [lg_entry_eq]
  exact key s.heap [] _ (fun k q hk => by simp at hk) ⟨fun i j x y hi => by simp at hi, fun k q hk => by simp at hk⟩ va_S.rf (gL.entry (Nat.le_of_ble_eq_true rfl) (fun v hv => by rw [List.mem_singleton.mp hv]; rfl))
end
section
set_option maxRecDepth 100000
set_option maxHeartbeats 4000000 in
theorem lw_walk (l : Launch) (b : Addr) (xs : List Int32) : MetFree l x (headSpec (Jvm.Cond.code x code maxLocals ret :: tables_1) room_1) (lw_P b xs) (fun _ _ _ _ _ => True) lw_Q := by
  refine MetFree.of_bodyS (code := code) (maxLocals := maxLocals) (ret := ret) (by decide) ?_ ?_
  · intro args s m h hn
    obtain ⟨meth, c, h1, h2, h3, h4, h5, h6, -, -⟩ := Cond.code_spec hn (atoms_spec (ws := Jvm.Cond.code x code maxLocals ret :: tables_1) h _ List.mem_cons_self)
    exact ⟨meth, c, h1, h2, h3, h4, h5, h6⟩
  · intro p e s m args below meth c s₁ B hml0 hP _
    obtain ⟨rfl, hx, hbd, hgv⟩ := hP
    obtain ⟨scr, harrAt, hlist, hof, hsmall⟩ := hx
    obtain ⟨hcb, hkn, -, -⟩ := State.arrayAt?_spec harrAt
    have hown : s.vm.findClass R_law = some m.cls := findClass_of_methodNamed B.named
    have hts0 : ∀ c ∈ (Jvm.Cond.code x code maxLocals ret :: tables_1), c.before #[Value.ref b] s = true := atoms_spec (ws := Jvm.Cond.code x code maxLocals ret :: tables_1) B.pre
    have hts : ∀ w ∈ lw_tbl, w.before #[Value.ref b] s = true := k2_hts_sels lw_privs (fun w hw => hts0 w (List.mem_cons_of_mem _ hw)) lw_privs_ok
    have hml : c.maxLocals = 4 := B.maxLocals_eq (hts0 _ List.mem_cons_self)
    have X₀ : Stand p l e room_1 s m #[Value.ref b] below meth c s₁ [] 0 0 := Stand.of_body B
    have hh0 : s₁.heap = s.heap := by rw [B.state]; rfl
    have hsz : scr.slots.size = xs.length := by rw [← Array.length_toList, hlist, List.length_map]
    have hval : ∀ j : Nat, j < xs.length → scr.slots[j]? = some (.int (xs.getD j 0)) := fun j hj => by
      rw [← Array.getElem?_toList, hlist]
      simp [hj]
    have hbl : b < s.heap.size := (Array.getElem?_eq_some_iff.mp hcb).1
    have hX : va_X b xs.length (fun j => xs.getD j 0) s s.heap := ⟨scr, hcb, hof, hkn, hsz, hval⟩
    have K : W p l e room_1 s m #[Value.ref b] below meth c s₁.heap [] 0 0 (lw_Z below #[Value.ref b] s) (entryFrame m ([Value.ref b] : List Value).toArray 4) := by
      rw [hh0]
      exact whole_start l hbd ⟨B.exec, B.bytes, B.returns, hml, hown, hts, hX, hbl, B.notSynchronized, hgv⟩
    obtain ⟨t, a1, o, b1, b2, b3⟩ := K s₁ rfl X₀
    exact ⟨t, o, a1, b1, b2, b3⟩
theorem lw_pre_spec {args : Array Value} {s : State} (h : (Jvm.Cond.and given_1 narrow_1).before args s = true) (hr : rest_1_c.before args s = true) : ∃ (b : Addr) (xs : List Int32), lw_P b xs args s := by
  have hs := flat_of_before _ h
  have hq := flat_of_before _ hr
  have hc : (Cond.count 1).before args s = true := hs _ (by decide +kernel)
  have harr : (Cond.arrayOf (.arg 0) .int).before args s = true := hs _ (by decide +kernel)
  have hle : (Cond.le (.length (.arg 0)) (.int 256)).before args s = true := hs _ (by decide +kernel)
  have hlen : (Cond.isInt (.length (.arg 0))).before args s = true := hq _ (by decide +kernel)
  have hall : (Cond.all (.arg 0) (.isInt (.elem (.arg 0) (.index 0)))).before args s = true := hq _ (by decide +kernel)
  obtain ⟨b, xs, hb, hx⟩ := State.ints_of_pre rfl harr hlen hall
  have hsm : xs.length < 2 ^ 31 := hx.choose_spec.2.2.2
  have hev : (Term.length (.arg 0)).eval args s none [] s = some (.int xs.length.toInt32) := hx.length_eval hb
  have hv := Cond.le_ints hev (show (Term.int 256).eval args s none [] s = some (.int 256) from rfl)
  have hd : xs.length.toInt32 ≤ 256 := by
    simpa [Cond.before, Cond.holds, hv] using hle
  have hN : xs.length ≤ 256 := (Int32.ofNat_le_ofNat hsm (by decide)).mp (show Int32.ofNat xs.length ≤ Int32.ofNat 256 from hd)
  exact ⟨b, xs, Cond.one_arg hc (show args[0]? = some (.ref b) from hb), hx, hN, h⟩
theorem lw_comes (l : Launch) : Comes l x (Jvm.Cond.code x code maxLocals ret :: tables_1) room_1 (fun tb e args s => Calls_1 tb e args s ∧ rest_1 tb e args s ∧ Pre_1 tb e args s)
    (fun _ _ args s o t => lw_Q args s o t) := by
  intro p e ha hc hk s m args below hf hfit hheap happ hpre
  obtain ⟨b, xs, hP⟩ := lw_pre_spec hpre.2.2 hpre.2.1
  obtain ⟨k, o, h1, h2, h3, hQ⟩ := lw_walk l b xs p e ha hc hk s m args below hf ((Spec.applies_iff_loose hf).mp happ).1 hP trivial
  exact ⟨k, o, h1, h2, h3, hQ⟩
theorem lw_frame {s t : State} {o : Outcome} {args : Array Value} (h : Framed s o t [] 600000 7290000) :
    Framed s o t (fieldLocs frame_1_writes args s ++ arrayLocs frame_1_arrays args s ++ staticLocs frame_1_statics s) 600000 7290000 := h
theorem lw_limb (L : Cond) (hL : ∀ (args : Array Value) (s t : State), L.after args s (.returned (some (.int 1))) t = true) :
    ArmFor flags0 classFile x code maxLocals ret World_1 tables_1 room_1 Calls_1 rest_1 Pre_1
      (fun tb e a s o t => postC L tb e a s o t ∧ Framed s o t (fieldLocs frame_1_writes a s ++ arrayLocs frame_1_arrays a s ++ staticLocs frame_1_statics s) 600000 7290000) := by
  intro l _ _ _ p e ha hc hk s m args below hf hfit hheap happ hpre
  obtain ⟨k, o, h1, h2, h3, rfl, hF⟩ := lw_comes l p e ha hc hk s m args below hf hfit hheap happ hpre
  exact ⟨k, _, h1, h2, h3, hL args s _, lw_frame hF⟩
theorem i_vc : Claimed_1_1 ∧ Claimed_1_2 := ⟨lw_limb limb_1_1 (fun args s t => by simp [limb_1_1, Cond.after, Cond.holds, Cond.value]), lw_limb limb_1_2 (fun args s t => Cond.after_iff.mpr (by
  first | (rw [show limb_1_2 = Cond.eq .result (.int 1) from rfl, Cond.eq_ints (x := 1) (y := 1) rfl rfl]; simp; done) | (simp [limb_1_2, Cond.value, Term.eval]; done)))⟩
end
