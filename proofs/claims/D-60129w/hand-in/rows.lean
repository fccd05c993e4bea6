section
/-- a private method of a class that the tables say can be made, by its rows of tables_1 -/
def lw_okq (q : MethodName × Nat) : Prop := (q.1.cls ≠ "java/lang/invoke/MethodHandle" ∧ q.1.cls ≠ "java/lang/invoke/VarHandle") ∧ Cond.instantiable q.1.cls q.2 ∈ tables_1 ∧ Cond.privateMethod q.1 ∈ tables_1 ∧ Cond.instanceMethod q.1 ∈ tables_1
set_option maxRecDepth 100000
theorem lw_t1 {w : Cond} (h : w ∈ tables_1_1) : w ∈ tables_1 := List.mem_append_left _ h
theorem lw_t2 {w : Cond} (h : w ∈ tables_1_2) : w ∈ tables_1 := List.mem_append_right _ h
theorem lw_p0 : lw_okq (⟨"PforDelta", "badList", "(I)Z"⟩, 8) := ⟨⟨by decide +kernel, by decide +kernel⟩, lw_t1 (List.mem_of_getElem? (i := 4) rfl), lw_t1 (List.mem_of_getElem? (i := 42) rfl), lw_t1 (List.mem_of_getElem? (i := 43) rfl)⟩
theorem lw_p1 : lw_okq (⟨"PforDelta", "badNumber", "(I)Z"⟩, 8) := ⟨⟨by decide +kernel, by decide +kernel⟩, lw_t1 (List.mem_of_getElem? (i := 4) rfl), lw_t1 (List.mem_of_getElem? (i := 46) rfl), lw_t1 (List.mem_of_getElem? (i := 47) rfl)⟩
theorem lw_p2 : lw_okq (⟨"PforDelta", "lastNumber", "(I)I"⟩, 8) := ⟨⟨by decide +kernel, by decide +kernel⟩, lw_t1 (List.mem_of_getElem? (i := 4) rfl), lw_t1 (List.mem_of_getElem? (i := 51) rfl), lw_t1 (List.mem_of_getElem? (i := 52) rfl)⟩
theorem lw_p3 : lw_okq (⟨"PforDelta", "blockCount", "(I)I"⟩, 8) := ⟨⟨by decide +kernel, by decide +kernel⟩, lw_t1 (List.mem_of_getElem? (i := 4) rfl), lw_t1 (List.mem_of_getElem? (i := 55) rfl), lw_t1 (List.mem_of_getElem? (i := 56) rfl)⟩
theorem lw_p4 : lw_okq (⟨"PforDelta", "attach", "(II)V"⟩, 8) := ⟨⟨by decide +kernel, by decide +kernel⟩, lw_t1 (List.mem_of_getElem? (i := 4) rfl), lw_t1 (List.mem_of_getElem? (i := 59) rfl), lw_t1 (List.mem_of_getElem? (i := 60) rfl)⟩
theorem lw_p5 : lw_okq (⟨"PforDelta", "unpack", "(II)V"⟩, 8) := ⟨⟨by decide +kernel, by decide +kernel⟩, lw_t1 (List.mem_of_getElem? (i := 4) rfl), lw_t1 (List.mem_of_getElem? (i := 63) rfl), lw_t1 (List.mem_of_getElem? (i := 64) rfl)⟩
theorem lw_p6 : lw_okq (⟨"PforDelta", "inBlock", "(II)I"⟩, 8) := ⟨⟨by decide +kernel, by decide +kernel⟩, lw_t1 (List.mem_of_getElem? (i := 4) rfl), lw_t1 (List.mem_of_getElem? (i := 67) rfl), lw_t1 (List.mem_of_getElem? (i := 68) rfl)⟩
theorem lw_p7 : lw_okq (⟨"PforDelta", "get", "(II)I"⟩, 8) := ⟨⟨by decide +kernel, by decide +kernel⟩, lw_t1 (List.mem_of_getElem? (i := 4) rfl), lw_t1 (List.mem_of_getElem? (i := 71) rfl), lw_t1 (List.mem_of_getElem? (i := 72) rfl)⟩
theorem lw_p8 : lw_okq (⟨"PforDelta", "pack", "(I)V"⟩, 8) := ⟨⟨by decide +kernel, by decide +kernel⟩, lw_t1 (List.mem_of_getElem? (i := 4) rfl), lw_t1 (List.mem_of_getElem? (i := 75) rfl), lw_t1 (List.mem_of_getElem? (i := 76) rfl)⟩
theorem lw_p9 : lw_okq (⟨"PforDelta", "bestBase", "()I"⟩, 8) := ⟨⟨by decide +kernel, by decide +kernel⟩, lw_t1 (List.mem_of_getElem? (i := 4) rfl), lw_t1 (List.mem_of_getElem? (i := 79) rfl), lw_t1 (List.mem_of_getElem? (i := 80) rfl)⟩
theorem lw_p10 : lw_okq (⟨"PforDelta", "sizeAt", "(I)I"⟩, 8) := ⟨⟨by decide +kernel, by decide +kernel⟩, lw_t1 (List.mem_of_getElem? (i := 4) rfl), lw_t1 (List.mem_of_getElem? (i := 83) rfl), lw_t1 (List.mem_of_getElem? (i := 84) rfl)⟩
theorem lw_p11 : lw_okq (⟨"PforDelta", "width", "(I)I"⟩, 8) := ⟨⟨by decide +kernel, by decide +kernel⟩, lw_t1 (List.mem_of_getElem? (i := 4) rfl), lw_t1 (List.mem_of_getElem? (i := 87) rfl), lw_t1 (List.mem_of_getElem? (i := 88) rfl)⟩
theorem lw_p12 : lw_okq (⟨"PforDelta", "put", "(III)V"⟩, 8) := ⟨⟨by decide +kernel, by decide +kernel⟩, lw_t1 (List.mem_of_getElem? (i := 4) rfl), lw_t1 (List.mem_of_getElem? (i := 91) rfl), lw_t1 (List.mem_of_getElem? (i := 92) rfl)⟩
theorem lw_p13 : lw_okq (⟨"PforDelta", "firstFrom", "(II)I"⟩, 8) := ⟨⟨by decide +kernel, by decide +kernel⟩, lw_t1 (List.mem_of_getElem? (i := 4) rfl), lw_t1 (List.mem_of_getElem? (i := 103) rfl), lw_t1 (List.mem_of_getElem? (i := 104) rfl)⟩
theorem lw_p14 : lw_okq (⟨"PforDelta", "blockFrom", "(II)I"⟩, 8) := ⟨⟨by decide +kernel, by decide +kernel⟩, lw_t1 (List.mem_of_getElem? (i := 4) rfl), lw_t1 (List.mem_of_getElem? (i := 107) rfl), lw_t1 (List.mem_of_getElem? (i := 108) rfl)⟩
theorem lw_p15 : lw_okq (⟨"PforDelta", "numberAt", "(II)I"⟩, 8) := ⟨⟨by decide +kernel, by decide +kernel⟩, lw_t1 (List.mem_of_getElem? (i := 4) rfl), lw_t1 (List.mem_of_getElem? (i := 111) rfl), lw_t1 (List.mem_of_getElem? (i := 112) rfl)⟩
def lw_privs_1 : List (MethodName × Nat) := [(⟨"PforDelta", "badList", "(I)Z"⟩, 8), (⟨"PforDelta", "badNumber", "(I)Z"⟩, 8), (⟨"PforDelta", "lastNumber", "(I)I"⟩, 8), (⟨"PforDelta", "blockCount", "(I)I"⟩, 8), (⟨"PforDelta", "attach", "(II)V"⟩, 8), (⟨"PforDelta", "unpack", "(II)V"⟩, 8), (⟨"PforDelta", "inBlock", "(II)I"⟩, 8), (⟨"PforDelta", "get", "(II)I"⟩, 8), (⟨"PforDelta", "pack", "(I)V"⟩, 8), (⟨"PforDelta", "bestBase", "()I"⟩, 8), (⟨"PforDelta", "sizeAt", "(I)I"⟩, 8), (⟨"PforDelta", "width", "(I)I"⟩, 8), (⟨"PforDelta", "put", "(III)V"⟩, 8), (⟨"PforDelta", "firstFrom", "(II)I"⟩, 8), (⟨"PforDelta", "blockFrom", "(II)I"⟩, 8), (⟨"PforDelta", "numberAt", "(II)I"⟩, 8)]
theorem lw_r1 : ∀ q ∈ lw_privs_1, lw_okq q := List.forall_mem_cons.mpr ⟨lw_p0, List.forall_mem_cons.mpr ⟨lw_p1, List.forall_mem_cons.mpr ⟨lw_p2, List.forall_mem_cons.mpr ⟨lw_p3, List.forall_mem_cons.mpr ⟨lw_p4, List.forall_mem_cons.mpr ⟨lw_p5, List.forall_mem_cons.mpr ⟨lw_p6, List.forall_mem_cons.mpr ⟨lw_p7, List.forall_mem_cons.mpr ⟨lw_p8, List.forall_mem_cons.mpr ⟨lw_p9, List.forall_mem_cons.mpr ⟨lw_p10, List.forall_mem_cons.mpr ⟨lw_p11, List.forall_mem_cons.mpr ⟨lw_p12, List.forall_mem_cons.mpr ⟨lw_p13, List.forall_mem_cons.mpr ⟨lw_p14, List.forall_mem_cons.mpr ⟨lw_p15, fun _ h => absurd h List.not_mem_nil⟩⟩⟩⟩⟩⟩⟩⟩⟩⟩⟩⟩⟩⟩⟩⟩
theorem lw_p16 : lw_okq (⟨"PforDelta", "spread", "(I)V"⟩, 8) := ⟨⟨by decide +kernel, by decide +kernel⟩, lw_t1 (List.mem_of_getElem? (i := 4) rfl), lw_t1 (List.mem_of_getElem? (i := 115) rfl), lw_t1 (List.mem_of_getElem? (i := 116) rfl)⟩
theorem lw_p17 : lw_okq (⟨"PforDelta", "rebuild", "(III)V"⟩, 8) := ⟨⟨by decide +kernel, by decide +kernel⟩, lw_t1 (List.mem_of_getElem? (i := 4) rfl), lw_t1 (List.mem_of_getElem? (i := 119) rfl), lw_t1 (List.mem_of_getElem? (i := 120) rfl)⟩
theorem lw_p18 : lw_okq (⟨"PforDelta", "noBlock", "(II)Z"⟩, 8) := ⟨⟨by decide +kernel, by decide +kernel⟩, lw_t1 (List.mem_of_getElem? (i := 4) rfl), lw_t1 (List.mem_of_getElem? (i := 159) rfl), lw_t1 (List.mem_of_getElem? (i := 160) rfl)⟩
theorem lw_p19 : lw_okq (⟨"PforDelta", "nextCommon", "(I)I"⟩, 8) := ⟨⟨by decide +kernel, by decide +kernel⟩, lw_t1 (List.mem_of_getElem? (i := 4) rfl), lw_t1 (List.mem_of_getElem? (i := 175) rfl), lw_t1 (List.mem_of_getElem? (i := 176) rfl)⟩
theorem lw_p20 : lw_okq (⟨"PforDeltaModel", "isList", "(I)Z"⟩, 2) := ⟨⟨by decide +kernel, by decide +kernel⟩, lw_t1 (List.mem_of_getElem? (i := 188) rfl), lw_t1 (List.mem_of_getElem? (i := 205) rfl), lw_t1 (List.mem_of_getElem? (i := 206) rfl)⟩
theorem lw_p21 : lw_okq (⟨"PforDeltaModel", "isNumber", "(I)Z"⟩, 2) := ⟨⟨by decide +kernel, by decide +kernel⟩, lw_t1 (List.mem_of_getElem? (i := 188) rfl), lw_t1 (List.mem_of_getElem? (i := 209) rfl), lw_t1 (List.mem_of_getElem? (i := 210) rfl)⟩
theorem lw_p22 : lw_okq (⟨"PforDeltaModel", "lastOf", "(I)I"⟩, 2) := ⟨⟨by decide +kernel, by decide +kernel⟩, lw_t1 (List.mem_of_getElem? (i := 188) rfl), lw_t1 (List.mem_of_getElem? (i := 214) rfl), lw_t1 (List.mem_of_getElem? (i := 215) rfl)⟩
theorem lw_p23 : lw_okq (⟨"PforDeltaModel", "put", "(II)V"⟩, 2) := ⟨⟨by decide +kernel, by decide +kernel⟩, lw_t1 (List.mem_of_getElem? (i := 188) rfl), lw_t1 (List.mem_of_getElem? (i := 218) rfl), lw_t1 (List.mem_of_getElem? (i := 219) rfl)⟩
theorem lw_p24 : lw_okq (⟨"PforDeltaModel", "isBlock", "(II)Z"⟩, 2) := ⟨⟨by decide +kernel, by decide +kernel⟩, lw_t1 (List.mem_of_getElem? (i := 188) rfl), lw_t2 (List.mem_of_getElem? (i := 28) rfl), lw_t2 (List.mem_of_getElem? (i := 29) rfl)⟩
theorem lw_p25 : lw_okq (⟨"PforDeltaModel", "bestBase", "(II)I"⟩, 2) := ⟨⟨by decide +kernel, by decide +kernel⟩, lw_t1 (List.mem_of_getElem? (i := 188) rfl), lw_t2 (List.mem_of_getElem? (i := 32) rfl), lw_t2 (List.mem_of_getElem? (i := 33) rfl)⟩
theorem lw_p26 : lw_okq (⟨"PforDeltaModel", "sizeAt", "(III)I"⟩, 2) := ⟨⟨by decide +kernel, by decide +kernel⟩, lw_t1 (List.mem_of_getElem? (i := 188) rfl), lw_t2 (List.mem_of_getElem? (i := 36) rfl), lw_t2 (List.mem_of_getElem? (i := 37) rfl)⟩
theorem lw_p27 : lw_okq (⟨"PforDeltaModel", "codeAt", "(II)I"⟩, 2) := ⟨⟨by decide +kernel, by decide +kernel⟩, lw_t1 (List.mem_of_getElem? (i := 188) rfl), lw_t2 (List.mem_of_getElem? (i := 40) rfl), lw_t2 (List.mem_of_getElem? (i := 41) rfl)⟩
theorem lw_p28 : lw_okq (⟨"PforDeltaModel", "widthOf", "(I)I"⟩, 2) := ⟨⟨by decide +kernel, by decide +kernel⟩, lw_t1 (List.mem_of_getElem? (i := 188) rfl), lw_t2 (List.mem_of_getElem? (i := 44) rfl), lw_t2 (List.mem_of_getElem? (i := 45) rfl)⟩
def lw_privs_2 : List (MethodName × Nat) := [(⟨"PforDelta", "spread", "(I)V"⟩, 8), (⟨"PforDelta", "rebuild", "(III)V"⟩, 8), (⟨"PforDelta", "noBlock", "(II)Z"⟩, 8), (⟨"PforDelta", "nextCommon", "(I)I"⟩, 8), (⟨"PforDeltaModel", "isList", "(I)Z"⟩, 2), (⟨"PforDeltaModel", "isNumber", "(I)Z"⟩, 2), (⟨"PforDeltaModel", "lastOf", "(I)I"⟩, 2), (⟨"PforDeltaModel", "put", "(II)V"⟩, 2), (⟨"PforDeltaModel", "isBlock", "(II)Z"⟩, 2), (⟨"PforDeltaModel", "bestBase", "(II)I"⟩, 2), (⟨"PforDeltaModel", "sizeAt", "(III)I"⟩, 2), (⟨"PforDeltaModel", "codeAt", "(II)I"⟩, 2), (⟨"PforDeltaModel", "widthOf", "(I)I"⟩, 2)]
theorem lw_r2 : ∀ q ∈ lw_privs_2, lw_okq q := List.forall_mem_cons.mpr ⟨lw_p16, List.forall_mem_cons.mpr ⟨lw_p17, List.forall_mem_cons.mpr ⟨lw_p18, List.forall_mem_cons.mpr ⟨lw_p19, List.forall_mem_cons.mpr ⟨lw_p20, List.forall_mem_cons.mpr ⟨lw_p21, List.forall_mem_cons.mpr ⟨lw_p22, List.forall_mem_cons.mpr ⟨lw_p23, List.forall_mem_cons.mpr ⟨lw_p24, List.forall_mem_cons.mpr ⟨lw_p25, List.forall_mem_cons.mpr ⟨lw_p26, List.forall_mem_cons.mpr ⟨lw_p27, List.forall_mem_cons.mpr ⟨lw_p28, fun _ h => absurd h List.not_mem_nil⟩⟩⟩⟩⟩⟩⟩⟩⟩⟩⟩⟩⟩
def lw_privs : List (MethodName × Nat) := lw_privs_1 ++ (lw_privs_2)
def lw_tbl : List Cond := k2_sels lw_privs ++ tables_1
theorem lw_privs_ok : ∀ q ∈ lw_privs, lw_okq q := by
  show ∀ q ∈ lw_privs_1 ++ (lw_privs_2), lw_okq q
  exact List.forall_mem_append.mpr ⟨lw_r1, lw_r2⟩
-- ===== ONE list of words for every method: the tables' words that hold all through a run =====
def lw_all : List Cond := lw_tbl.filter goodWord
/-- a word of the tables by its place: claim/WORDS.tsv -/
theorem lw_w {w : Cond} (i : Nat) (h : lw_tbl[i]? = some w) (g : goodWord w = true) : w ∈ lw_all := List.mem_filter.mpr ⟨List.mem_of_getElem? h, g⟩
theorem lw_all_tbl {w : Cond} (h : w ∈ lw_all) : w ∈ lw_tbl := (List.mem_filter.mp h).1
theorem lw_self : GoodIn lw_all lw_all := fun w h => ⟨h, good_of_word (List.mem_filter.mp h).2⟩
/-- a class's field words, by their places -/
theorem lw_in (ws : List Cond) (ps : List Nat) (hp : ws = ps.filterMap (fun i => lw_tbl[i]?)) (hg : ws.all goodWord = true) : ∀ w ∈ ws, w ∈ lw_all := by
  intro w h
  have h1 := List.all_eq_true.mp hg w h
  rw [hp] at h
  obtain ⟨i, -, hi⟩ := List.mem_filterMap.mp h
  exact lw_w i hi h1
/-- the words of a contract for the method y with code b, L locals, answer r -/
abbrev ws_ (y : MethodName) (b : ByteArray) (L : Nat) (r : Option FieldType) : List Cond := Cond.code y b L r :: lw_all
theorem lw_meth {y : MethodName} {b : ByteArray} {L : Nat} {r : Option FieldType} (h : Cond.code y b L r ∈ lw_all) : GoodIn lw_all (ws_ y b L r) := by
  intro w hw
  rcases List.mem_cons.mp hw with e | e
  · rw [e]
    exact lw_self _ h
  · exact lw_self _ e
theorem lw_app {a c : List Cond} (ha : ∀ w ∈ a, w ∈ lw_all) (hc : GoodIn lw_all c) : GoodIn lw_all (a ++ c) := by
  intro w hw
  rcases List.mem_append.mp hw with e | e
  · exact lw_self w (ha w e)
  · exact hc w e
/-- what a call through an object asks: cwV n hts (lw_V ..) -/
theorem lw_V {own : String} {idx : Nat} {C : String} {y : MethodName} {b : ByteArray} {L : Nat} {r : Option FieldType} (h1 : Cond.methodLink own idx y ∈ lw_all) (h2 : Cond.instanceMethod y ∈ lw_all) (h3 : Cond.selects C y y ∈ lw_all) (h4 : Cond.initialized C ∈ lw_all) (h5 : Cond.code y b L r ∈ lw_all) : GoodIn lw_all (wsV own idx C y (ws_ y b L r)) := by
  refine lw_app ?_ (lw_meth h5)
  intro w hw
  simp only [List.mem_cons, List.not_mem_nil, or_false] at hw
  rcases hw with e | e | e | e
  · rw [e]; exact h1
  · rw [e]; exact h2
  · rw [e]; exact h3
  · rw [e]; exact h4
/-- what a static call asks: va_cwS n hts (lw_S ..) -/
theorem lw_S {own : String} {idx : Nat} {y : MethodName} {b : ByteArray} {L : Nat} {r : Option FieldType} (h1 : Cond.methodLink own idx y ∈ lw_all) (h2 : Cond.static y ∈ lw_all) (h3 : Cond.initialized y.cls ∈ lw_all) (h4 : Cond.code y b L r ∈ lw_all) : GoodIn lw_all (va_wsS own idx y (ws_ y b L r)) := by
  refine lw_app ?_ (lw_meth h4)
  intro w hw
  simp only [List.mem_cons, List.not_mem_nil, or_false] at hw
  rcases hw with e | e | e
  · rw [e]; exact h1
  · rw [e]; exact h2
  · rw [e]; exact h3
/-- the words of a contract for a method WITH HANDLERS (hh: its table) -/
abbrev wsW_ (y : MethodName) (b : ByteArray) (L : Nat) (r : Option FieldType) (hh : List (Nat × Nat × Nat × Nat)) : List Cond := Cond.codeWith y b L r hh :: lw_all
theorem lw_methW {y : MethodName} {b : ByteArray} {L : Nat} {r : Option FieldType} {hh : List (Nat × Nat × Nat × Nat)} (h : Cond.codeWith y b L r hh ∈ lw_all) : GoodIn lw_all (wsW_ y b L r hh) := by
  intro w hw
  rcases List.mem_cons.mp hw with e | e
  · rw [e]
    exact lw_self _ h
  · exact lw_self _ e
/-- any list of words by their places (lw_in), good -/
theorem lw_good {ws : List Cond} (h : ∀ w ∈ ws, w ∈ lw_all) : GoodIn lw_all ws := fun w hw => lw_self w (h w hw)
/-- what a call of a method with handlers asks: vx_cwVW n hts (lw_VW ..), vx_cwSW n hts (lw_SW ..) -/
theorem lw_VW {own : String} {idx : Nat} {C : String} {y : MethodName} {b : ByteArray} {L : Nat} {r : Option FieldType} {hh : List (Nat × Nat × Nat × Nat)} (h1 : Cond.methodLink own idx y ∈ lw_all) (h2 : Cond.instanceMethod y ∈ lw_all) (h3 : Cond.selects C y y ∈ lw_all) (h4 : Cond.initialized C ∈ lw_all) (h5 : Cond.codeWith y b L r hh ∈ lw_all) : GoodIn lw_all (wsV own idx C y (wsW_ y b L r hh)) := by
  refine lw_app ?_ (lw_methW h5)
  intro w hw
  simp only [List.mem_cons, List.not_mem_nil, or_false] at hw
  rcases hw with e | e | e | e
  · rw [e]; exact h1
  · rw [e]; exact h2
  · rw [e]; exact h3
  · rw [e]; exact h4
theorem lw_SW {own : String} {idx : Nat} {y : MethodName} {b : ByteArray} {L : Nat} {r : Option FieldType} {hh : List (Nat × Nat × Nat × Nat)} (h1 : Cond.methodLink own idx y ∈ lw_all) (h2 : Cond.static y ∈ lw_all) (h3 : Cond.initialized y.cls ∈ lw_all) (h4 : Cond.codeWith y b L r hh ∈ lw_all) : GoodIn lw_all (va_wsS own idx y (wsW_ y b L r hh)) := by
  refine lw_app ?_ (lw_methW h4)
  intro w hw
  simp only [List.mem_cons, List.not_mem_nil, or_false] at hw
  rcases hw with e | e | e
  · rw [e]; exact h1
  · rw [e]; exact h2
  · rw [e]; exact h3
/-- a word by its place in its run of the tables -/
theorem lw_at {r : List Cond} (hr : ∀ w ∈ r, w ∈ lw_tbl) {w : Cond} (i : Nat) (h : r[i]? = some w) : w ∈ lw_tbl := hr w (List.mem_of_getElem? h)
theorem lw_g {w : Cond} (h : w ∈ lw_tbl) (g : goodWord w = true) : w ∈ lw_all := List.mem_filter.mpr ⟨h, g⟩
theorem lw_ms : ∀ w ∈ k2_sels lw_privs, w ∈ lw_tbl := fun w h => show w ∈ k2_sels lw_privs ++ tables_1 from List.mem_append_left _ h
theorem lw_m1 : ∀ w ∈ tables_1_1, w ∈ lw_tbl := fun w h => show w ∈ k2_sels lw_privs ++ tables_1 from List.mem_append_right (k2_sels lw_privs) (show w ∈ tables_1 from List.mem_append_left _ h)
theorem lw_m2 : ∀ w ∈ tables_1_2, w ∈ lw_tbl := fun w h => show w ∈ k2_sels lw_privs ++ tables_1 from List.mem_append_right (k2_sels lw_privs) (show w ∈ tables_1 from List.mem_append_right _ h)
theorem qs0 : (Cond.selects "PforDelta" ⟨"PforDelta", "badList", "(I)Z"⟩ ⟨"PforDelta", "badList", "(I)Z"⟩) ∈ lw_all := lw_g (lw_at lw_ms 0 rfl) rfl
theorem qs1 : (Cond.selects "PforDelta" ⟨"PforDelta", "badNumber", "(I)Z"⟩ ⟨"PforDelta", "badNumber", "(I)Z"⟩) ∈ lw_all := lw_g (lw_at lw_ms 1 rfl) rfl
theorem qs2 : (Cond.selects "PforDelta" ⟨"PforDelta", "lastNumber", "(I)I"⟩ ⟨"PforDelta", "lastNumber", "(I)I"⟩) ∈ lw_all := lw_g (lw_at lw_ms 2 rfl) rfl
theorem qs3 : (Cond.selects "PforDelta" ⟨"PforDelta", "blockCount", "(I)I"⟩ ⟨"PforDelta", "blockCount", "(I)I"⟩) ∈ lw_all := lw_g (lw_at lw_ms 3 rfl) rfl
theorem qs4 : (Cond.selects "PforDelta" ⟨"PforDelta", "attach", "(II)V"⟩ ⟨"PforDelta", "attach", "(II)V"⟩) ∈ lw_all := lw_g (lw_at lw_ms 4 rfl) rfl
theorem qs5 : (Cond.selects "PforDelta" ⟨"PforDelta", "unpack", "(II)V"⟩ ⟨"PforDelta", "unpack", "(II)V"⟩) ∈ lw_all := lw_g (lw_at lw_ms 5 rfl) rfl
theorem qs6 : (Cond.selects "PforDelta" ⟨"PforDelta", "inBlock", "(II)I"⟩ ⟨"PforDelta", "inBlock", "(II)I"⟩) ∈ lw_all := lw_g (lw_at lw_ms 6 rfl) rfl
theorem qs7 : (Cond.selects "PforDelta" ⟨"PforDelta", "get", "(II)I"⟩ ⟨"PforDelta", "get", "(II)I"⟩) ∈ lw_all := lw_g (lw_at lw_ms 7 rfl) rfl
theorem qs8 : (Cond.selects "PforDelta" ⟨"PforDelta", "pack", "(I)V"⟩ ⟨"PforDelta", "pack", "(I)V"⟩) ∈ lw_all := lw_g (lw_at lw_ms 8 rfl) rfl
theorem qs9 : (Cond.selects "PforDelta" ⟨"PforDelta", "bestBase", "()I"⟩ ⟨"PforDelta", "bestBase", "()I"⟩) ∈ lw_all := lw_g (lw_at lw_ms 9 rfl) rfl
theorem qs10 : (Cond.selects "PforDelta" ⟨"PforDelta", "sizeAt", "(I)I"⟩ ⟨"PforDelta", "sizeAt", "(I)I"⟩) ∈ lw_all := lw_g (lw_at lw_ms 10 rfl) rfl
theorem qs11 : (Cond.selects "PforDelta" ⟨"PforDelta", "width", "(I)I"⟩ ⟨"PforDelta", "width", "(I)I"⟩) ∈ lw_all := lw_g (lw_at lw_ms 11 rfl) rfl
theorem qs12 : (Cond.selects "PforDelta" ⟨"PforDelta", "put", "(III)V"⟩ ⟨"PforDelta", "put", "(III)V"⟩) ∈ lw_all := lw_g (lw_at lw_ms 12 rfl) rfl
theorem qs13 : (Cond.selects "PforDelta" ⟨"PforDelta", "firstFrom", "(II)I"⟩ ⟨"PforDelta", "firstFrom", "(II)I"⟩) ∈ lw_all := lw_g (lw_at lw_ms 13 rfl) rfl
theorem qs14 : (Cond.selects "PforDelta" ⟨"PforDelta", "blockFrom", "(II)I"⟩ ⟨"PforDelta", "blockFrom", "(II)I"⟩) ∈ lw_all := lw_g (lw_at lw_ms 14 rfl) rfl
theorem qs15 : (Cond.selects "PforDelta" ⟨"PforDelta", "numberAt", "(II)I"⟩ ⟨"PforDelta", "numberAt", "(II)I"⟩) ∈ lw_all := lw_g (lw_at lw_ms 15 rfl) rfl
theorem qs16 : (Cond.selects "PforDelta" ⟨"PforDelta", "spread", "(I)V"⟩ ⟨"PforDelta", "spread", "(I)V"⟩) ∈ lw_all := lw_g (lw_at lw_ms 16 rfl) rfl
theorem qs17 : (Cond.selects "PforDelta" ⟨"PforDelta", "rebuild", "(III)V"⟩ ⟨"PforDelta", "rebuild", "(III)V"⟩) ∈ lw_all := lw_g (lw_at lw_ms 17 rfl) rfl
theorem qs18 : (Cond.selects "PforDelta" ⟨"PforDelta", "noBlock", "(II)Z"⟩ ⟨"PforDelta", "noBlock", "(II)Z"⟩) ∈ lw_all := lw_g (lw_at lw_ms 18 rfl) rfl
theorem qs19 : (Cond.selects "PforDelta" ⟨"PforDelta", "nextCommon", "(I)I"⟩ ⟨"PforDelta", "nextCommon", "(I)I"⟩) ∈ lw_all := lw_g (lw_at lw_ms 19 rfl) rfl
theorem qs20 : (Cond.selects "PforDeltaModel" ⟨"PforDeltaModel", "isList", "(I)Z"⟩ ⟨"PforDeltaModel", "isList", "(I)Z"⟩) ∈ lw_all := lw_g (lw_at lw_ms 20 rfl) rfl
theorem qs21 : (Cond.selects "PforDeltaModel" ⟨"PforDeltaModel", "isNumber", "(I)Z"⟩ ⟨"PforDeltaModel", "isNumber", "(I)Z"⟩) ∈ lw_all := lw_g (lw_at lw_ms 21 rfl) rfl
theorem qs22 : (Cond.selects "PforDeltaModel" ⟨"PforDeltaModel", "lastOf", "(I)I"⟩ ⟨"PforDeltaModel", "lastOf", "(I)I"⟩) ∈ lw_all := lw_g (lw_at lw_ms 22 rfl) rfl
theorem qs23 : (Cond.selects "PforDeltaModel" ⟨"PforDeltaModel", "put", "(II)V"⟩ ⟨"PforDeltaModel", "put", "(II)V"⟩) ∈ lw_all := lw_g (lw_at lw_ms 23 rfl) rfl
theorem qs24 : (Cond.selects "PforDeltaModel" ⟨"PforDeltaModel", "isBlock", "(II)Z"⟩ ⟨"PforDeltaModel", "isBlock", "(II)Z"⟩) ∈ lw_all := lw_g (lw_at lw_ms 24 rfl) rfl
theorem qs25 : (Cond.selects "PforDeltaModel" ⟨"PforDeltaModel", "bestBase", "(II)I"⟩ ⟨"PforDeltaModel", "bestBase", "(II)I"⟩) ∈ lw_all := lw_g (lw_at lw_ms 25 rfl) rfl
theorem qs26 : (Cond.selects "PforDeltaModel" ⟨"PforDeltaModel", "sizeAt", "(III)I"⟩ ⟨"PforDeltaModel", "sizeAt", "(III)I"⟩) ∈ lw_all := lw_g (lw_at lw_ms 26 rfl) rfl
theorem qs27 : (Cond.selects "PforDeltaModel" ⟨"PforDeltaModel", "codeAt", "(II)I"⟩ ⟨"PforDeltaModel", "codeAt", "(II)I"⟩) ∈ lw_all := lw_g (lw_at lw_ms 27 rfl) rfl
theorem qs28 : (Cond.selects "PforDeltaModel" ⟨"PforDeltaModel", "widthOf", "(I)I"⟩ ⟨"PforDeltaModel", "widthOf", "(I)I"⟩) ∈ lw_all := lw_g (lw_at lw_ms 28 rfl) rfl
end
section
set_option maxRecDepth 100000
def RJ0 : String := "java/lang/Object"
abbrev cJ0_init : ByteArray := object_method_1_code
def yJ0_init : MethodName := ⟨RJ0, "<init>", "()V"⟩
theorem q38 : (Jvm.Cond.instanceMethod ({ cls := "java/lang/Object", name := "<init>", desc := "()V" } : Jvm.MethodName)) ∈ lw_all := lw_g (lw_at lw_m1 9 rfl) rfl
theorem q39 : (Jvm.Cond.code ({ cls := "java/lang/Object", name := "<init>", desc := "()V" } : Jvm.MethodName) object_method_1_code (1 : Nat) (Option.none : Option Jvm.ClassFile.FieldType)) ∈ lw_all := lw_g (lw_at lw_m1 10 rfl) rfl
def RX0 : String := "PforDelta"
def TX0 : u_T := fun k => match k with
  | 0 => ("PforDelta", "size", "[I", true)
  | 1 => ("PforDelta", "last", "[I", true)
  | 2 => ("PforDelta", "packed", "[I", true)
  | 3 => ("PforDelta", "held", "I", false)
  | 4 => ("PforDelta", "code", "[I", true)
  | 5 => ("PforDelta", "number", "[I", true)
  | 6 => ("PforDelta", "all", "[I", true)
  | _ => ("PforDelta", "cursor", "I", false)
def tyX0 : Nat → FieldType := fun k => match k with
  | 0 => .array .int
  | 1 => .array .int
  | 2 => .array .int
  | 3 => .int
  | 4 => .array .int
  | 5 => .array .int
  | 6 => .array .int
  | _ => .int
abbrev wsX00 : List Cond := u_ws RX0 TX0 8
theorem nmX0 : ∀ a, a < 8 → ∀ b, b < 8 → a ≠ b → (TX0 a).2.1 ≠ (TX0 b).2.1 := by decide +kernel
theorem tyX0_ok : ∀ k, k < 8 → parseFieldDescriptor (TX0 k).2.2.1 = some (tyX0 k) := by decide +kernel
abbrev cX0_init : ByteArray := prog_1_method_1_code
def yX0_init : MethodName := ⟨RX0, "<init>", "()V"⟩
abbrev cX0_append : ByteArray := prog_1_method_15_code
def yX0_append : MethodName := ⟨RX0, "append", "(II)I"⟩
abbrev cX0_badList : ByteArray := prog_1_method_2_code
def yX0_badList : MethodName := ⟨RX0, "badList", "(I)Z"⟩
abbrev cX0_badNumber : ByteArray := prog_1_method_3_code
def yX0_badNumber : MethodName := ⟨RX0, "badNumber", "(I)Z"⟩
abbrev cX0_lastNumber : ByteArray := prog_1_method_13_code
def yX0_lastNumber : MethodName := ⟨RX0, "lastNumber", "(I)I"⟩
abbrev cX0_blockCount : ByteArray := prog_1_method_4_code
def yX0_blockCount : MethodName := ⟨RX0, "blockCount", "(I)I"⟩
abbrev cX0_attach : ByteArray := prog_1_method_14_code
def yX0_attach : MethodName := ⟨RX0, "attach", "(II)V"⟩
abbrev cX0_unpack : ByteArray := prog_1_method_12_code
def yX0_unpack : MethodName := ⟨RX0, "unpack", "(II)V"⟩
abbrev cX0_inBlock : ByteArray := prog_1_method_5_code
def yX0_inBlock : MethodName := ⟨RX0, "inBlock", "(II)I"⟩
abbrev cX0_get : ByteArray := prog_1_method_7_code
def yX0_get : MethodName := ⟨RX0, "get", "(II)I"⟩
abbrev cX0_pack : ByteArray := prog_1_method_11_code
def yX0_pack : MethodName := ⟨RX0, "pack", "(I)V"⟩
abbrev cX0_bestBase : ByteArray := prog_1_method_10_code
def yX0_bestBase : MethodName := ⟨RX0, "bestBase", "()I"⟩
abbrev cX0_sizeAt : ByteArray := prog_1_method_9_code
def yX0_sizeAt : MethodName := ⟨RX0, "sizeAt", "(I)I"⟩
abbrev cX0_width : ByteArray := prog_1_method_8_code
def yX0_width : MethodName := ⟨RX0, "width", "(I)I"⟩
abbrev cX0_put : ByteArray := prog_1_method_6_code
def yX0_put : MethodName := ⟨RX0, "put", "(III)V"⟩
abbrev cX0_run : ByteArray := prog_1_method_16_code
def yX0_run : MethodName := ⟨RX0, "run", "(III)I"⟩
abbrev cX0_insert : ByteArray := prog_1_method_19_code
def yX0_insert : MethodName := ⟨RX0, "insert", "(II)I"⟩
abbrev cX0_firstFrom : ByteArray := prog_1_method_25_code
def yX0_firstFrom : MethodName := ⟨RX0, "firstFrom", "(II)I"⟩
abbrev cX0_blockFrom : ByteArray := prog_1_method_24_code
def yX0_blockFrom : MethodName := ⟨RX0, "blockFrom", "(II)I"⟩
abbrev cX0_numberAt : ByteArray := prog_1_method_23_code
def yX0_numberAt : MethodName := ⟨RX0, "numberAt", "(II)I"⟩
abbrev cX0_spread : ByteArray := prog_1_method_17_code
def yX0_spread : MethodName := ⟨RX0, "spread", "(I)V"⟩
abbrev cX0_rebuild : ByteArray := prog_1_method_18_code
def yX0_rebuild : MethodName := ⟨RX0, "rebuild", "(III)V"⟩
abbrev cX0_remove : ByteArray := prog_1_method_20_code
def yX0_remove : MethodName := ⟨RX0, "remove", "(II)I"⟩
abbrev cX0_clear : ByteArray := prog_1_method_21_code
def yX0_clear : MethodName := ⟨RX0, "clear", "(I)I"⟩
abbrev cX0_size : ByteArray := prog_1_method_22_code
def yX0_size : MethodName := ⟨RX0, "size", "(I)I"⟩
abbrev cX0_at : ByteArray := prog_1_method_26_code
def yX0_at : MethodName := ⟨RX0, "at", "(II)I"⟩
abbrev cX0_seek : ByteArray := prog_1_method_27_code
def yX0_seek : MethodName := ⟨RX0, "seek", "(II)I"⟩
abbrev cX0_has : ByteArray := prog_1_method_28_code
def yX0_has : MethodName := ⟨RX0, "has", "(II)Z"⟩
abbrev cX0_sum : ByteArray := prog_1_method_29_code
def yX0_sum : MethodName := ⟨RX0, "sum", "(III)I"⟩
abbrev cX0_blocks : ByteArray := prog_1_method_30_code
def yX0_blocks : MethodName := ⟨RX0, "blocks", "(I)I"⟩
abbrev cX0_base : ByteArray := prog_1_method_32_code
def yX0_base : MethodName := ⟨RX0, "base", "(II)I"⟩
abbrev cX0_noBlock : ByteArray := prog_1_method_31_code
def yX0_noBlock : MethodName := ⟨RX0, "noBlock", "(II)Z"⟩
abbrev cX0_blockSize : ByteArray := prog_1_method_33_code
def yX0_blockSize : MethodName := ⟨RX0, "blockSize", "(II)I"⟩
abbrev cX0_packed : ByteArray := prog_1_method_34_code
def yX0_packed : MethodName := ⟨RX0, "packed", "()I"⟩
abbrev cX0_common : ByteArray := prog_1_method_36_code
def yX0_common : MethodName := ⟨RX0, "common", "()I"⟩
abbrev cX0_nextCommon : ByteArray := prog_1_method_35_code
def yX0_nextCommon : MethodName := ⟨RX0, "nextCommon", "(I)I"⟩
abbrev cX0_commonAt : ByteArray := prog_1_method_37_code
def yX0_commonAt : MethodName := ⟨RX0, "commonAt", "(I)I"⟩
abbrev cX0_tail : ByteArray := prog_1_method_38_code
def yX0_tail : MethodName := ⟨RX0, "tail", "(I)I"⟩
theorem q30 : (Jvm.Cond.initialized "PforDelta") ∈ lw_all := lw_g (lw_at lw_m1 1 rfl) rfl
theorem q33 : (Jvm.Cond.instantiable "PforDelta" (8 : Nat)) ∈ lw_all := lw_g (lw_at lw_m1 4 rfl) rfl
theorem q35 : (Jvm.Cond.instanceMethod ({ cls := "PforDelta", name := "<init>", desc := "()V" } : Jvm.MethodName)) ∈ lw_all := lw_g (lw_at lw_m1 6 rfl) rfl
theorem q36 : (Jvm.Cond.code ({ cls := "PforDelta", name := "<init>", desc := "()V" } : Jvm.MethodName) prog_1_method_1_code (1 : Nat) (Option.none : Option Jvm.ClassFile.FieldType)) ∈ lw_all := lw_g (lw_at lw_m1 7 rfl) rfl
theorem q37 : (Jvm.Cond.methodLink "PforDelta" (1 : Nat) ({ cls := "java/lang/Object", name := "<init>", desc := "()V" } : Jvm.MethodName)) ∈ lw_all := lw_g (lw_at lw_m1 8 rfl) rfl
theorem q40 : (Jvm.Cond.fieldLink "PforDelta" (7 : Nat) "PforDelta" "size" "[I") ∈ lw_all := lw_g (lw_at lw_m1 11 rfl) rfl
theorem q41 : (Jvm.Cond.fieldLink "PforDelta" (13 : Nat) "PforDelta" "last" "[I") ∈ lw_all := lw_g (lw_at lw_m1 12 rfl) rfl
theorem q42 : (Jvm.Cond.fieldLink "PforDelta" (16 : Nat) "PforDelta" "packed" "[I") ∈ lw_all := lw_g (lw_at lw_m1 13 rfl) rfl
theorem q43 : (Jvm.Cond.fieldLink "PforDelta" (33 : Nat) "PforDelta" "held" "I") ∈ lw_all := lw_g (lw_at lw_m1 14 rfl) rfl
theorem q44 : (Jvm.Cond.fieldLink "PforDelta" (19 : Nat) "PforDelta" "code" "[I") ∈ lw_all := lw_g (lw_at lw_m1 15 rfl) rfl
theorem q45 : (Jvm.Cond.fieldLink "PforDelta" (22 : Nat) "PforDelta" "number" "[I") ∈ lw_all := lw_g (lw_at lw_m1 16 rfl) rfl
theorem q46 : (Jvm.Cond.fieldLink "PforDelta" (25 : Nat) "PforDelta" "all" "[I") ∈ lw_all := lw_g (lw_at lw_m1 17 rfl) rfl
theorem q47 : (Jvm.Cond.fieldLink "PforDelta" (29 : Nat) "PforDelta" "cursor" "I") ∈ lw_all := lw_g (lw_at lw_m1 18 rfl) rfl
theorem q48 : (Jvm.Cond.laysFinal "PforDelta" "PforDelta" "size" "[I") ∈ lw_all := lw_g (lw_at lw_m1 19 rfl) rfl
theorem q49 : (Jvm.Cond.soleField "PforDelta" "size") ∈ lw_all := lw_g (lw_at lw_m1 20 rfl) rfl
theorem q50 : (Jvm.Cond.laysFinal "PforDelta" "PforDelta" "last" "[I") ∈ lw_all := lw_g (lw_at lw_m1 21 rfl) rfl
theorem q51 : (Jvm.Cond.soleField "PforDelta" "last") ∈ lw_all := lw_g (lw_at lw_m1 22 rfl) rfl
theorem q52 : (Jvm.Cond.laysFinal "PforDelta" "PforDelta" "packed" "[I") ∈ lw_all := lw_g (lw_at lw_m1 23 rfl) rfl
theorem q53 : (Jvm.Cond.soleField "PforDelta" "packed") ∈ lw_all := lw_g (lw_at lw_m1 24 rfl) rfl
theorem q54 : (Jvm.Cond.lays "PforDelta" "PforDelta" "held" "I") ∈ lw_all := lw_g (lw_at lw_m1 25 rfl) rfl
theorem q55 : (Jvm.Cond.soleField "PforDelta" "held") ∈ lw_all := lw_g (lw_at lw_m1 26 rfl) rfl
theorem q56 : (Jvm.Cond.laysFinal "PforDelta" "PforDelta" "code" "[I") ∈ lw_all := lw_g (lw_at lw_m1 27 rfl) rfl
theorem q57 : (Jvm.Cond.soleField "PforDelta" "code") ∈ lw_all := lw_g (lw_at lw_m1 28 rfl) rfl
theorem q58 : (Jvm.Cond.laysFinal "PforDelta" "PforDelta" "number" "[I") ∈ lw_all := lw_g (lw_at lw_m1 29 rfl) rfl
theorem q59 : (Jvm.Cond.soleField "PforDelta" "number") ∈ lw_all := lw_g (lw_at lw_m1 30 rfl) rfl
theorem q60 : (Jvm.Cond.laysFinal "PforDelta" "PforDelta" "all" "[I") ∈ lw_all := lw_g (lw_at lw_m1 31 rfl) rfl
theorem q61 : (Jvm.Cond.soleField "PforDelta" "all") ∈ lw_all := lw_g (lw_at lw_m1 32 rfl) rfl
theorem q62 : (Jvm.Cond.lays "PforDelta" "PforDelta" "cursor" "I") ∈ lw_all := lw_g (lw_at lw_m1 33 rfl) rfl
theorem q63 : (Jvm.Cond.soleField "PforDelta" "cursor") ∈ lw_all := lw_g (lw_at lw_m1 34 rfl) rfl
theorem q64 : (Jvm.Cond.superclass "PforDelta" "java/lang/Object") ∈ lw_all := lw_g (lw_at lw_m1 35 rfl) rfl
theorem q67 : (Jvm.Cond.instanceMethod ({ cls := "PforDelta", name := "append", desc := "(II)I" } : Jvm.MethodName)) ∈ lw_all := lw_g (lw_at lw_m1 38 rfl) rfl
theorem q68 : (Jvm.Cond.selects "PforDelta" ({ cls := "PforDelta", name := "append", desc := "(II)I" } : Jvm.MethodName) ({ cls := "PforDelta", name := "append", desc := "(II)I" } : Jvm.MethodName)) ∈ lw_all := lw_g (lw_at lw_m1 39 rfl) rfl
theorem q69 : (Jvm.Cond.code ({ cls := "PforDelta", name := "append", desc := "(II)I" } : Jvm.MethodName) prog_1_method_15_code (4 : Nat) (Option.some Jvm.ClassFile.FieldType.int)) ∈ lw_all := lw_g (lw_at lw_m1 40 rfl) rfl
theorem q70 : (Jvm.Cond.methodLink "PforDelta" (72 : Nat) ({ cls := "PforDelta", name := "badList", desc := "(I)Z" } : Jvm.MethodName)) ∈ lw_all := lw_g (lw_at lw_m1 41 rfl) rfl
theorem q71 : (Jvm.Cond.privateMethod ({ cls := "PforDelta", name := "badList", desc := "(I)Z" } : Jvm.MethodName)) ∈ lw_tbl := lw_at lw_m1 42 rfl
theorem q72 : (Jvm.Cond.instanceMethod ({ cls := "PforDelta", name := "badList", desc := "(I)Z" } : Jvm.MethodName)) ∈ lw_all := lw_g (lw_at lw_m1 43 rfl) rfl
theorem q73 : (Jvm.Cond.code ({ cls := "PforDelta", name := "badList", desc := "(I)Z" } : Jvm.MethodName) prog_1_method_2_code (2 : Nat) (Option.some Jvm.ClassFile.FieldType.boolean)) ∈ lw_all := lw_g (lw_at lw_m1 44 rfl) rfl
theorem q74 : (Jvm.Cond.methodLink "PforDelta" (76 : Nat) ({ cls := "PforDelta", name := "badNumber", desc := "(I)Z" } : Jvm.MethodName)) ∈ lw_all := lw_g (lw_at lw_m1 45 rfl) rfl
theorem q75 : (Jvm.Cond.privateMethod ({ cls := "PforDelta", name := "badNumber", desc := "(I)Z" } : Jvm.MethodName)) ∈ lw_tbl := lw_at lw_m1 46 rfl
theorem q76 : (Jvm.Cond.instanceMethod ({ cls := "PforDelta", name := "badNumber", desc := "(I)Z" } : Jvm.MethodName)) ∈ lw_all := lw_g (lw_at lw_m1 47 rfl) rfl
theorem q77 : (Jvm.Cond.code ({ cls := "PforDelta", name := "badNumber", desc := "(I)Z" } : Jvm.MethodName) prog_1_method_3_code (2 : Nat) (Option.some Jvm.ClassFile.FieldType.boolean)) ∈ lw_all := lw_g (lw_at lw_m1 48 rfl) rfl
theorem q78 : (Jvm.Cond.constant "PforDelta" (28 : Nat) (1000000 : Int32)) ∈ lw_all := lw_g (lw_at lw_m1 49 rfl) rfl
theorem q79 : (Jvm.Cond.methodLink "PforDelta" (61 : Nat) ({ cls := "PforDelta", name := "lastNumber", desc := "(I)I" } : Jvm.MethodName)) ∈ lw_all := lw_g (lw_at lw_m1 50 rfl) rfl
theorem q80 : (Jvm.Cond.privateMethod ({ cls := "PforDelta", name := "lastNumber", desc := "(I)I" } : Jvm.MethodName)) ∈ lw_tbl := lw_at lw_m1 51 rfl
theorem q81 : (Jvm.Cond.instanceMethod ({ cls := "PforDelta", name := "lastNumber", desc := "(I)I" } : Jvm.MethodName)) ∈ lw_all := lw_g (lw_at lw_m1 52 rfl) rfl
theorem q82 : (Jvm.Cond.code ({ cls := "PforDelta", name := "lastNumber", desc := "(I)I" } : Jvm.MethodName) prog_1_method_13_code (3 : Nat) (Option.some Jvm.ClassFile.FieldType.int)) ∈ lw_all := lw_g (lw_at lw_m1 53 rfl) rfl
theorem q83 : (Jvm.Cond.methodLink "PforDelta" (58 : Nat) ({ cls := "PforDelta", name := "blockCount", desc := "(I)I" } : Jvm.MethodName)) ∈ lw_all := lw_g (lw_at lw_m1 54 rfl) rfl
theorem q84 : (Jvm.Cond.privateMethod ({ cls := "PforDelta", name := "blockCount", desc := "(I)I" } : Jvm.MethodName)) ∈ lw_tbl := lw_at lw_m1 55 rfl
theorem q85 : (Jvm.Cond.instanceMethod ({ cls := "PforDelta", name := "blockCount", desc := "(I)I" } : Jvm.MethodName)) ∈ lw_all := lw_g (lw_at lw_m1 56 rfl) rfl
theorem q86 : (Jvm.Cond.code ({ cls := "PforDelta", name := "blockCount", desc := "(I)I" } : Jvm.MethodName) prog_1_method_4_code (2 : Nat) (Option.some Jvm.ClassFile.FieldType.int)) ∈ lw_all := lw_g (lw_at lw_m1 57 rfl) rfl
theorem q87 : (Jvm.Cond.methodLink "PforDelta" (79 : Nat) ({ cls := "PforDelta", name := "attach", desc := "(II)V" } : Jvm.MethodName)) ∈ lw_all := lw_g (lw_at lw_m1 58 rfl) rfl
theorem q88 : (Jvm.Cond.privateMethod ({ cls := "PforDelta", name := "attach", desc := "(II)V" } : Jvm.MethodName)) ∈ lw_tbl := lw_at lw_m1 59 rfl
theorem q89 : (Jvm.Cond.instanceMethod ({ cls := "PforDelta", name := "attach", desc := "(II)V" } : Jvm.MethodName)) ∈ lw_all := lw_g (lw_at lw_m1 60 rfl) rfl
theorem q90 : (Jvm.Cond.code ({ cls := "PforDelta", name := "attach", desc := "(II)V" } : Jvm.MethodName) prog_1_method_14_code (5 : Nat) (Option.none : Option Jvm.ClassFile.FieldType)) ∈ lw_all := lw_g (lw_at lw_m1 61 rfl) rfl
theorem q91 : (Jvm.Cond.methodLink "PforDelta" (64 : Nat) ({ cls := "PforDelta", name := "unpack", desc := "(II)V" } : Jvm.MethodName)) ∈ lw_all := lw_g (lw_at lw_m1 62 rfl) rfl
theorem q92 : (Jvm.Cond.privateMethod ({ cls := "PforDelta", name := "unpack", desc := "(II)V" } : Jvm.MethodName)) ∈ lw_tbl := lw_at lw_m1 63 rfl
theorem q93 : (Jvm.Cond.instanceMethod ({ cls := "PforDelta", name := "unpack", desc := "(II)V" } : Jvm.MethodName)) ∈ lw_all := lw_g (lw_at lw_m1 64 rfl) rfl
theorem q94 : (Jvm.Cond.code ({ cls := "PforDelta", name := "unpack", desc := "(II)V" } : Jvm.MethodName) prog_1_method_12_code (10 : Nat) (Option.none : Option Jvm.ClassFile.FieldType)) ∈ lw_all := lw_g (lw_at lw_m1 65 rfl) rfl
theorem q95 : (Jvm.Cond.methodLink "PforDelta" (51 : Nat) ({ cls := "PforDelta", name := "inBlock", desc := "(II)I" } : Jvm.MethodName)) ∈ lw_all := lw_g (lw_at lw_m1 66 rfl) rfl
theorem q96 : (Jvm.Cond.privateMethod ({ cls := "PforDelta", name := "inBlock", desc := "(II)I" } : Jvm.MethodName)) ∈ lw_tbl := lw_at lw_m1 67 rfl
theorem q97 : (Jvm.Cond.instanceMethod ({ cls := "PforDelta", name := "inBlock", desc := "(II)I" } : Jvm.MethodName)) ∈ lw_all := lw_g (lw_at lw_m1 68 rfl) rfl
theorem q98 : (Jvm.Cond.code ({ cls := "PforDelta", name := "inBlock", desc := "(II)I" } : Jvm.MethodName) prog_1_method_5_code (4 : Nat) (Option.some Jvm.ClassFile.FieldType.int)) ∈ lw_all := lw_g (lw_at lw_m1 69 rfl) rfl
theorem q99 : (Jvm.Cond.methodLink "PforDelta" (55 : Nat) ({ cls := "PforDelta", name := "get", desc := "(II)I" } : Jvm.MethodName)) ∈ lw_all := lw_g (lw_at lw_m1 70 rfl) rfl
theorem q100 : (Jvm.Cond.privateMethod ({ cls := "PforDelta", name := "get", desc := "(II)I" } : Jvm.MethodName)) ∈ lw_tbl := lw_at lw_m1 71 rfl
theorem q101 : (Jvm.Cond.instanceMethod ({ cls := "PforDelta", name := "get", desc := "(II)I" } : Jvm.MethodName)) ∈ lw_all := lw_g (lw_at lw_m1 72 rfl) rfl
theorem q102 : (Jvm.Cond.code ({ cls := "PforDelta", name := "get", desc := "(II)I" } : Jvm.MethodName) prog_1_method_7_code (6 : Nat) (Option.some Jvm.ClassFile.FieldType.int)) ∈ lw_all := lw_g (lw_at lw_m1 73 rfl) rfl
theorem q103 : (Jvm.Cond.methodLink "PforDelta" (68 : Nat) ({ cls := "PforDelta", name := "pack", desc := "(I)V" } : Jvm.MethodName)) ∈ lw_all := lw_g (lw_at lw_m1 74 rfl) rfl
theorem q104 : (Jvm.Cond.privateMethod ({ cls := "PforDelta", name := "pack", desc := "(I)V" } : Jvm.MethodName)) ∈ lw_tbl := lw_at lw_m1 75 rfl
theorem q105 : (Jvm.Cond.instanceMethod ({ cls := "PforDelta", name := "pack", desc := "(I)V" } : Jvm.MethodName)) ∈ lw_all := lw_g (lw_at lw_m1 76 rfl) rfl
theorem q106 : (Jvm.Cond.code ({ cls := "PforDelta", name := "pack", desc := "(I)V" } : Jvm.MethodName) prog_1_method_11_code (6 : Nat) (Option.none : Option Jvm.ClassFile.FieldType)) ∈ lw_all := lw_g (lw_at lw_m1 77 rfl) rfl
theorem q107 : (Jvm.Cond.methodLink "PforDelta" (43 : Nat) ({ cls := "PforDelta", name := "bestBase", desc := "()I" } : Jvm.MethodName)) ∈ lw_all := lw_g (lw_at lw_m1 78 rfl) rfl
theorem q108 : (Jvm.Cond.privateMethod ({ cls := "PforDelta", name := "bestBase", desc := "()I" } : Jvm.MethodName)) ∈ lw_tbl := lw_at lw_m1 79 rfl
theorem q109 : (Jvm.Cond.instanceMethod ({ cls := "PforDelta", name := "bestBase", desc := "()I" } : Jvm.MethodName)) ∈ lw_all := lw_g (lw_at lw_m1 80 rfl) rfl
theorem q110 : (Jvm.Cond.code ({ cls := "PforDelta", name := "bestBase", desc := "()I" } : Jvm.MethodName) prog_1_method_10_code (5 : Nat) (Option.some Jvm.ClassFile.FieldType.int)) ∈ lw_all := lw_g (lw_at lw_m1 81 rfl) rfl
theorem q111 : (Jvm.Cond.methodLink "PforDelta" (40 : Nat) ({ cls := "PforDelta", name := "sizeAt", desc := "(I)I" } : Jvm.MethodName)) ∈ lw_all := lw_g (lw_at lw_m1 82 rfl) rfl
theorem q112 : (Jvm.Cond.privateMethod ({ cls := "PforDelta", name := "sizeAt", desc := "(I)I" } : Jvm.MethodName)) ∈ lw_tbl := lw_at lw_m1 83 rfl
theorem q113 : (Jvm.Cond.instanceMethod ({ cls := "PforDelta", name := "sizeAt", desc := "(I)I" } : Jvm.MethodName)) ∈ lw_all := lw_g (lw_at lw_m1 84 rfl) rfl
theorem q114 : (Jvm.Cond.code ({ cls := "PforDelta", name := "sizeAt", desc := "(I)I" } : Jvm.MethodName) prog_1_method_9_code (5 : Nat) (Option.some Jvm.ClassFile.FieldType.int)) ∈ lw_all := lw_g (lw_at lw_m1 85 rfl) rfl
theorem q115 : (Jvm.Cond.methodLink "PforDelta" (36 : Nat) ({ cls := "PforDelta", name := "width", desc := "(I)I" } : Jvm.MethodName)) ∈ lw_all := lw_g (lw_at lw_m1 86 rfl) rfl
theorem q116 : (Jvm.Cond.privateMethod ({ cls := "PforDelta", name := "width", desc := "(I)I" } : Jvm.MethodName)) ∈ lw_tbl := lw_at lw_m1 87 rfl
theorem q117 : (Jvm.Cond.instanceMethod ({ cls := "PforDelta", name := "width", desc := "(I)I" } : Jvm.MethodName)) ∈ lw_all := lw_g (lw_at lw_m1 88 rfl) rfl
theorem q118 : (Jvm.Cond.code ({ cls := "PforDelta", name := "width", desc := "(I)I" } : Jvm.MethodName) prog_1_method_8_code (4 : Nat) (Option.some Jvm.ClassFile.FieldType.int)) ∈ lw_all := lw_g (lw_at lw_m1 89 rfl) rfl
theorem q119 : (Jvm.Cond.methodLink "PforDelta" (47 : Nat) ({ cls := "PforDelta", name := "put", desc := "(III)V" } : Jvm.MethodName)) ∈ lw_all := lw_g (lw_at lw_m1 90 rfl) rfl
theorem q120 : (Jvm.Cond.privateMethod ({ cls := "PforDelta", name := "put", desc := "(III)V" } : Jvm.MethodName)) ∈ lw_tbl := lw_at lw_m1 91 rfl
theorem q121 : (Jvm.Cond.instanceMethod ({ cls := "PforDelta", name := "put", desc := "(III)V" } : Jvm.MethodName)) ∈ lw_all := lw_g (lw_at lw_m1 92 rfl) rfl
theorem q122 : (Jvm.Cond.code ({ cls := "PforDelta", name := "put", desc := "(III)V" } : Jvm.MethodName) prog_1_method_6_code (7 : Nat) (Option.none : Option Jvm.ClassFile.FieldType)) ∈ lw_all := lw_g (lw_at lw_m1 93 rfl) rfl
theorem q124 : (Jvm.Cond.instanceMethod ({ cls := "PforDelta", name := "run", desc := "(III)I" } : Jvm.MethodName)) ∈ lw_all := lw_g (lw_at lw_m1 95 rfl) rfl
theorem q125 : (Jvm.Cond.selects "PforDelta" ({ cls := "PforDelta", name := "run", desc := "(III)I" } : Jvm.MethodName) ({ cls := "PforDelta", name := "run", desc := "(III)I" } : Jvm.MethodName)) ∈ lw_all := lw_g (lw_at lw_m1 96 rfl) rfl
theorem q126 : (Jvm.Cond.code ({ cls := "PforDelta", name := "run", desc := "(III)I" } : Jvm.MethodName) prog_1_method_16_code (6 : Nat) (Option.some Jvm.ClassFile.FieldType.int)) ∈ lw_all := lw_g (lw_at lw_m1 97 rfl) rfl
theorem q128 : (Jvm.Cond.instanceMethod ({ cls := "PforDelta", name := "insert", desc := "(II)I" } : Jvm.MethodName)) ∈ lw_all := lw_g (lw_at lw_m1 99 rfl) rfl
theorem q129 : (Jvm.Cond.selects "PforDelta" ({ cls := "PforDelta", name := "insert", desc := "(II)I" } : Jvm.MethodName) ({ cls := "PforDelta", name := "insert", desc := "(II)I" } : Jvm.MethodName)) ∈ lw_all := lw_g (lw_at lw_m1 100 rfl) rfl
theorem q130 : (Jvm.Cond.code ({ cls := "PforDelta", name := "insert", desc := "(II)I" } : Jvm.MethodName) prog_1_method_19_code (6 : Nat) (Option.some Jvm.ClassFile.FieldType.int)) ∈ lw_all := lw_g (lw_at lw_m1 101 rfl) rfl
theorem q131 : (Jvm.Cond.methodLink "PforDelta" (82 : Nat) ({ cls := "PforDelta", name := "firstFrom", desc := "(II)I" } : Jvm.MethodName)) ∈ lw_all := lw_g (lw_at lw_m1 102 rfl) rfl
theorem q132 : (Jvm.Cond.privateMethod ({ cls := "PforDelta", name := "firstFrom", desc := "(II)I" } : Jvm.MethodName)) ∈ lw_tbl := lw_at lw_m1 103 rfl
theorem q133 : (Jvm.Cond.instanceMethod ({ cls := "PforDelta", name := "firstFrom", desc := "(II)I" } : Jvm.MethodName)) ∈ lw_all := lw_g (lw_at lw_m1 104 rfl) rfl
theorem q134 : (Jvm.Cond.code ({ cls := "PforDelta", name := "firstFrom", desc := "(II)I" } : Jvm.MethodName) prog_1_method_25_code (7 : Nat) (Option.some Jvm.ClassFile.FieldType.int)) ∈ lw_all := lw_g (lw_at lw_m1 105 rfl) rfl
theorem q135 : (Jvm.Cond.methodLink "PforDelta" (94 : Nat) ({ cls := "PforDelta", name := "blockFrom", desc := "(II)I" } : Jvm.MethodName)) ∈ lw_all := lw_g (lw_at lw_m1 106 rfl) rfl
theorem q136 : (Jvm.Cond.privateMethod ({ cls := "PforDelta", name := "blockFrom", desc := "(II)I" } : Jvm.MethodName)) ∈ lw_tbl := lw_at lw_m1 107 rfl
theorem q137 : (Jvm.Cond.instanceMethod ({ cls := "PforDelta", name := "blockFrom", desc := "(II)I" } : Jvm.MethodName)) ∈ lw_all := lw_g (lw_at lw_m1 108 rfl) rfl
theorem q138 : (Jvm.Cond.code ({ cls := "PforDelta", name := "blockFrom", desc := "(II)I" } : Jvm.MethodName) prog_1_method_24_code (7 : Nat) (Option.some Jvm.ClassFile.FieldType.int)) ∈ lw_all := lw_g (lw_at lw_m1 109 rfl) rfl
theorem q139 : (Jvm.Cond.methodLink "PforDelta" (85 : Nat) ({ cls := "PforDelta", name := "numberAt", desc := "(II)I" } : Jvm.MethodName)) ∈ lw_all := lw_g (lw_at lw_m1 110 rfl) rfl
theorem q140 : (Jvm.Cond.privateMethod ({ cls := "PforDelta", name := "numberAt", desc := "(II)I" } : Jvm.MethodName)) ∈ lw_tbl := lw_at lw_m1 111 rfl
theorem q141 : (Jvm.Cond.instanceMethod ({ cls := "PforDelta", name := "numberAt", desc := "(II)I" } : Jvm.MethodName)) ∈ lw_all := lw_g (lw_at lw_m1 112 rfl) rfl
theorem q142 : (Jvm.Cond.code ({ cls := "PforDelta", name := "numberAt", desc := "(II)I" } : Jvm.MethodName) prog_1_method_23_code (3 : Nat) (Option.some Jvm.ClassFile.FieldType.int)) ∈ lw_all := lw_g (lw_at lw_m1 113 rfl) rfl
theorem q143 : (Jvm.Cond.methodLink "PforDelta" (88 : Nat) ({ cls := "PforDelta", name := "spread", desc := "(I)V" } : Jvm.MethodName)) ∈ lw_all := lw_g (lw_at lw_m1 114 rfl) rfl
theorem q144 : (Jvm.Cond.privateMethod ({ cls := "PforDelta", name := "spread", desc := "(I)V" } : Jvm.MethodName)) ∈ lw_tbl := lw_at lw_m1 115 rfl
theorem q145 : (Jvm.Cond.instanceMethod ({ cls := "PforDelta", name := "spread", desc := "(I)V" } : Jvm.MethodName)) ∈ lw_all := lw_g (lw_at lw_m1 116 rfl) rfl
theorem q146 : (Jvm.Cond.code ({ cls := "PforDelta", name := "spread", desc := "(I)V" } : Jvm.MethodName) prog_1_method_17_code (5 : Nat) (Option.none : Option Jvm.ClassFile.FieldType)) ∈ lw_all := lw_g (lw_at lw_m1 117 rfl) rfl
theorem q147 : (Jvm.Cond.methodLink "PforDelta" (91 : Nat) ({ cls := "PforDelta", name := "rebuild", desc := "(III)V" } : Jvm.MethodName)) ∈ lw_all := lw_g (lw_at lw_m1 118 rfl) rfl
theorem q148 : (Jvm.Cond.privateMethod ({ cls := "PforDelta", name := "rebuild", desc := "(III)V" } : Jvm.MethodName)) ∈ lw_tbl := lw_at lw_m1 119 rfl
theorem q149 : (Jvm.Cond.instanceMethod ({ cls := "PforDelta", name := "rebuild", desc := "(III)V" } : Jvm.MethodName)) ∈ lw_all := lw_g (lw_at lw_m1 120 rfl) rfl
theorem q150 : (Jvm.Cond.code ({ cls := "PforDelta", name := "rebuild", desc := "(III)V" } : Jvm.MethodName) prog_1_method_18_code (8 : Nat) (Option.none : Option Jvm.ClassFile.FieldType)) ∈ lw_all := lw_g (lw_at lw_m1 121 rfl) rfl
theorem q152 : (Jvm.Cond.instanceMethod ({ cls := "PforDelta", name := "remove", desc := "(II)I" } : Jvm.MethodName)) ∈ lw_all := lw_g (lw_at lw_m1 123 rfl) rfl
theorem q153 : (Jvm.Cond.selects "PforDelta" ({ cls := "PforDelta", name := "remove", desc := "(II)I" } : Jvm.MethodName) ({ cls := "PforDelta", name := "remove", desc := "(II)I" } : Jvm.MethodName)) ∈ lw_all := lw_g (lw_at lw_m1 124 rfl) rfl
theorem q154 : (Jvm.Cond.code ({ cls := "PforDelta", name := "remove", desc := "(II)I" } : Jvm.MethodName) prog_1_method_20_code (7 : Nat) (Option.some Jvm.ClassFile.FieldType.int)) ∈ lw_all := lw_g (lw_at lw_m1 125 rfl) rfl
theorem q156 : (Jvm.Cond.instanceMethod ({ cls := "PforDelta", name := "clear", desc := "(I)I" } : Jvm.MethodName)) ∈ lw_all := lw_g (lw_at lw_m1 127 rfl) rfl
theorem q157 : (Jvm.Cond.selects "PforDelta" ({ cls := "PforDelta", name := "clear", desc := "(I)I" } : Jvm.MethodName) ({ cls := "PforDelta", name := "clear", desc := "(I)I" } : Jvm.MethodName)) ∈ lw_all := lw_g (lw_at lw_m1 128 rfl) rfl
theorem q158 : (Jvm.Cond.code ({ cls := "PforDelta", name := "clear", desc := "(I)I" } : Jvm.MethodName) prog_1_method_21_code (3 : Nat) (Option.some Jvm.ClassFile.FieldType.int)) ∈ lw_all := lw_g (lw_at lw_m1 129 rfl) rfl
theorem q160 : (Jvm.Cond.instanceMethod ({ cls := "PforDelta", name := "size", desc := "(I)I" } : Jvm.MethodName)) ∈ lw_all := lw_g (lw_at lw_m1 131 rfl) rfl
theorem q161 : (Jvm.Cond.selects "PforDelta" ({ cls := "PforDelta", name := "size", desc := "(I)I" } : Jvm.MethodName) ({ cls := "PforDelta", name := "size", desc := "(I)I" } : Jvm.MethodName)) ∈ lw_all := lw_g (lw_at lw_m1 132 rfl) rfl
theorem q162 : (Jvm.Cond.code ({ cls := "PforDelta", name := "size", desc := "(I)I" } : Jvm.MethodName) prog_1_method_22_code (2 : Nat) (Option.some Jvm.ClassFile.FieldType.int)) ∈ lw_all := lw_g (lw_at lw_m1 133 rfl) rfl
theorem q164 : (Jvm.Cond.instanceMethod ({ cls := "PforDelta", name := "at", desc := "(II)I" } : Jvm.MethodName)) ∈ lw_all := lw_g (lw_at lw_m1 135 rfl) rfl
theorem q165 : (Jvm.Cond.selects "PforDelta" ({ cls := "PforDelta", name := "at", desc := "(II)I" } : Jvm.MethodName) ({ cls := "PforDelta", name := "at", desc := "(II)I" } : Jvm.MethodName)) ∈ lw_all := lw_g (lw_at lw_m1 136 rfl) rfl
theorem q166 : (Jvm.Cond.code ({ cls := "PforDelta", name := "at", desc := "(II)I" } : Jvm.MethodName) prog_1_method_26_code (3 : Nat) (Option.some Jvm.ClassFile.FieldType.int)) ∈ lw_all := lw_g (lw_at lw_m1 137 rfl) rfl
theorem q168 : (Jvm.Cond.instanceMethod ({ cls := "PforDelta", name := "seek", desc := "(II)I" } : Jvm.MethodName)) ∈ lw_all := lw_g (lw_at lw_m1 139 rfl) rfl
theorem q169 : (Jvm.Cond.selects "PforDelta" ({ cls := "PforDelta", name := "seek", desc := "(II)I" } : Jvm.MethodName) ({ cls := "PforDelta", name := "seek", desc := "(II)I" } : Jvm.MethodName)) ∈ lw_all := lw_g (lw_at lw_m1 140 rfl) rfl
theorem q170 : (Jvm.Cond.code ({ cls := "PforDelta", name := "seek", desc := "(II)I" } : Jvm.MethodName) prog_1_method_27_code (4 : Nat) (Option.some Jvm.ClassFile.FieldType.int)) ∈ lw_all := lw_g (lw_at lw_m1 141 rfl) rfl
theorem q172 : (Jvm.Cond.instanceMethod ({ cls := "PforDelta", name := "has", desc := "(II)Z" } : Jvm.MethodName)) ∈ lw_all := lw_g (lw_at lw_m1 143 rfl) rfl
theorem q173 : (Jvm.Cond.selects "PforDelta" ({ cls := "PforDelta", name := "has", desc := "(II)Z" } : Jvm.MethodName) ({ cls := "PforDelta", name := "has", desc := "(II)Z" } : Jvm.MethodName)) ∈ lw_all := lw_g (lw_at lw_m1 144 rfl) rfl
theorem q174 : (Jvm.Cond.code ({ cls := "PforDelta", name := "has", desc := "(II)Z" } : Jvm.MethodName) prog_1_method_28_code (4 : Nat) (Option.some Jvm.ClassFile.FieldType.boolean)) ∈ lw_all := lw_g (lw_at lw_m1 145 rfl) rfl
theorem q176 : (Jvm.Cond.instanceMethod ({ cls := "PforDelta", name := "sum", desc := "(III)I" } : Jvm.MethodName)) ∈ lw_all := lw_g (lw_at lw_m1 147 rfl) rfl
theorem q177 : (Jvm.Cond.selects "PforDelta" ({ cls := "PforDelta", name := "sum", desc := "(III)I" } : Jvm.MethodName) ({ cls := "PforDelta", name := "sum", desc := "(III)I" } : Jvm.MethodName)) ∈ lw_all := lw_g (lw_at lw_m1 148 rfl) rfl
theorem q178 : (Jvm.Cond.code ({ cls := "PforDelta", name := "sum", desc := "(III)I" } : Jvm.MethodName) prog_1_method_29_code (9 : Nat) (Option.some Jvm.ClassFile.FieldType.int)) ∈ lw_all := lw_g (lw_at lw_m1 149 rfl) rfl
theorem q180 : (Jvm.Cond.instanceMethod ({ cls := "PforDelta", name := "blocks", desc := "(I)I" } : Jvm.MethodName)) ∈ lw_all := lw_g (lw_at lw_m1 151 rfl) rfl
theorem q181 : (Jvm.Cond.selects "PforDelta" ({ cls := "PforDelta", name := "blocks", desc := "(I)I" } : Jvm.MethodName) ({ cls := "PforDelta", name := "blocks", desc := "(I)I" } : Jvm.MethodName)) ∈ lw_all := lw_g (lw_at lw_m1 152 rfl) rfl
theorem q182 : (Jvm.Cond.code ({ cls := "PforDelta", name := "blocks", desc := "(I)I" } : Jvm.MethodName) prog_1_method_30_code (2 : Nat) (Option.some Jvm.ClassFile.FieldType.int)) ∈ lw_all := lw_g (lw_at lw_m1 153 rfl) rfl
theorem q184 : (Jvm.Cond.instanceMethod ({ cls := "PforDelta", name := "base", desc := "(II)I" } : Jvm.MethodName)) ∈ lw_all := lw_g (lw_at lw_m1 155 rfl) rfl
theorem q185 : (Jvm.Cond.selects "PforDelta" ({ cls := "PforDelta", name := "base", desc := "(II)I" } : Jvm.MethodName) ({ cls := "PforDelta", name := "base", desc := "(II)I" } : Jvm.MethodName)) ∈ lw_all := lw_g (lw_at lw_m1 156 rfl) rfl
theorem q186 : (Jvm.Cond.code ({ cls := "PforDelta", name := "base", desc := "(II)I" } : Jvm.MethodName) prog_1_method_32_code (3 : Nat) (Option.some Jvm.ClassFile.FieldType.int)) ∈ lw_all := lw_g (lw_at lw_m1 157 rfl) rfl
theorem q187 : (Jvm.Cond.methodLink "PforDelta" (97 : Nat) ({ cls := "PforDelta", name := "noBlock", desc := "(II)Z" } : Jvm.MethodName)) ∈ lw_all := lw_g (lw_at lw_m1 158 rfl) rfl
theorem q188 : (Jvm.Cond.privateMethod ({ cls := "PforDelta", name := "noBlock", desc := "(II)Z" } : Jvm.MethodName)) ∈ lw_tbl := lw_at lw_m1 159 rfl
theorem q189 : (Jvm.Cond.instanceMethod ({ cls := "PforDelta", name := "noBlock", desc := "(II)Z" } : Jvm.MethodName)) ∈ lw_all := lw_g (lw_at lw_m1 160 rfl) rfl
theorem q190 : (Jvm.Cond.code ({ cls := "PforDelta", name := "noBlock", desc := "(II)Z" } : Jvm.MethodName) prog_1_method_31_code (3 : Nat) (Option.some Jvm.ClassFile.FieldType.boolean)) ∈ lw_all := lw_g (lw_at lw_m1 161 rfl) rfl
theorem q192 : (Jvm.Cond.instanceMethod ({ cls := "PforDelta", name := "blockSize", desc := "(II)I" } : Jvm.MethodName)) ∈ lw_all := lw_g (lw_at lw_m1 163 rfl) rfl
theorem q193 : (Jvm.Cond.selects "PforDelta" ({ cls := "PforDelta", name := "blockSize", desc := "(II)I" } : Jvm.MethodName) ({ cls := "PforDelta", name := "blockSize", desc := "(II)I" } : Jvm.MethodName)) ∈ lw_all := lw_g (lw_at lw_m1 164 rfl) rfl
theorem q194 : (Jvm.Cond.code ({ cls := "PforDelta", name := "blockSize", desc := "(II)I" } : Jvm.MethodName) prog_1_method_33_code (3 : Nat) (Option.some Jvm.ClassFile.FieldType.int)) ∈ lw_all := lw_g (lw_at lw_m1 165 rfl) rfl
theorem q196 : (Jvm.Cond.instanceMethod ({ cls := "PforDelta", name := "packed", desc := "()I" } : Jvm.MethodName)) ∈ lw_all := lw_g (lw_at lw_m1 167 rfl) rfl
theorem q197 : (Jvm.Cond.selects "PforDelta" ({ cls := "PforDelta", name := "packed", desc := "()I" } : Jvm.MethodName) ({ cls := "PforDelta", name := "packed", desc := "()I" } : Jvm.MethodName)) ∈ lw_all := lw_g (lw_at lw_m1 168 rfl) rfl
theorem q198 : (Jvm.Cond.code ({ cls := "PforDelta", name := "packed", desc := "()I" } : Jvm.MethodName) prog_1_method_34_code (5 : Nat) (Option.some Jvm.ClassFile.FieldType.int)) ∈ lw_all := lw_g (lw_at lw_m1 169 rfl) rfl
theorem q200 : (Jvm.Cond.instanceMethod ({ cls := "PforDelta", name := "common", desc := "()I" } : Jvm.MethodName)) ∈ lw_all := lw_g (lw_at lw_m1 171 rfl) rfl
theorem q201 : (Jvm.Cond.selects "PforDelta" ({ cls := "PforDelta", name := "common", desc := "()I" } : Jvm.MethodName) ({ cls := "PforDelta", name := "common", desc := "()I" } : Jvm.MethodName)) ∈ lw_all := lw_g (lw_at lw_m1 172 rfl) rfl
theorem q202 : (Jvm.Cond.code ({ cls := "PforDelta", name := "common", desc := "()I" } : Jvm.MethodName) prog_1_method_36_code (4 : Nat) (Option.some Jvm.ClassFile.FieldType.int)) ∈ lw_all := lw_g (lw_at lw_m1 173 rfl) rfl
theorem q203 : (Jvm.Cond.methodLink "PforDelta" (101 : Nat) ({ cls := "PforDelta", name := "nextCommon", desc := "(I)I" } : Jvm.MethodName)) ∈ lw_all := lw_g (lw_at lw_m1 174 rfl) rfl
theorem q204 : (Jvm.Cond.privateMethod ({ cls := "PforDelta", name := "nextCommon", desc := "(I)I" } : Jvm.MethodName)) ∈ lw_tbl := lw_at lw_m1 175 rfl
theorem q205 : (Jvm.Cond.instanceMethod ({ cls := "PforDelta", name := "nextCommon", desc := "(I)I" } : Jvm.MethodName)) ∈ lw_all := lw_g (lw_at lw_m1 176 rfl) rfl
theorem q206 : (Jvm.Cond.code ({ cls := "PforDelta", name := "nextCommon", desc := "(I)I" } : Jvm.MethodName) prog_1_method_35_code (7 : Nat) (Option.some Jvm.ClassFile.FieldType.int)) ∈ lw_all := lw_g (lw_at lw_m1 177 rfl) rfl
theorem q208 : (Jvm.Cond.instanceMethod ({ cls := "PforDelta", name := "commonAt", desc := "(I)I" } : Jvm.MethodName)) ∈ lw_all := lw_g (lw_at lw_m1 179 rfl) rfl
theorem q209 : (Jvm.Cond.selects "PforDelta" ({ cls := "PforDelta", name := "commonAt", desc := "(I)I" } : Jvm.MethodName) ({ cls := "PforDelta", name := "commonAt", desc := "(I)I" } : Jvm.MethodName)) ∈ lw_all := lw_g (lw_at lw_m1 180 rfl) rfl
theorem q210 : (Jvm.Cond.code ({ cls := "PforDelta", name := "commonAt", desc := "(I)I" } : Jvm.MethodName) prog_1_method_37_code (4 : Nat) (Option.some Jvm.ClassFile.FieldType.int)) ∈ lw_all := lw_g (lw_at lw_m1 181 rfl) rfl
theorem q212 : (Jvm.Cond.instanceMethod ({ cls := "PforDelta", name := "tail", desc := "(I)I" } : Jvm.MethodName)) ∈ lw_all := lw_g (lw_at lw_m1 183 rfl) rfl
theorem q213 : (Jvm.Cond.selects "PforDelta" ({ cls := "PforDelta", name := "tail", desc := "(I)I" } : Jvm.MethodName) ({ cls := "PforDelta", name := "tail", desc := "(I)I" } : Jvm.MethodName)) ∈ lw_all := lw_g (lw_at lw_m1 184 rfl) rfl
theorem q214 : (Jvm.Cond.code ({ cls := "PforDelta", name := "tail", desc := "(I)I" } : Jvm.MethodName) prog_1_method_38_code (6 : Nat) (Option.some Jvm.ClassFile.FieldType.int)) ∈ lw_all := lw_g (lw_at lw_m1 185 rfl) rfl
theorem q215 : (Jvm.Cond.methodLink "PforDelta" (104 : Nat) ({ cls := "PforDelta", name := "has", desc := "(II)Z" } : Jvm.MethodName)) ∈ lw_all := lw_g (lw_at lw_m1 186 rfl) rfl
theorem in_X0 : ∀ w ∈ wsX00, w ∈ lw_all := lw_in wsX00 [48, 50, 52, 54, 56, 58, 60, 62] (by decide +kernel) (by decide +kernel)
def RX1 : String := "PforDeltaModel"
def TX1 : u_T := fun k => match k with
  | 0 => ("PforDeltaModel", "numbers", "[I", true)
  | _ => ("PforDeltaModel", "sizes", "[I", true)
def tyX1 : Nat → FieldType := fun k => match k with
  | 0 => .array .int
  | _ => .array .int
abbrev wsX10 : List Cond := u_ws RX1 TX1 2
theorem nmX1 : ∀ a, a < 2 → ∀ b, b < 2 → a ≠ b → (TX1 a).2.1 ≠ (TX1 b).2.1 := by decide +kernel
theorem tyX1_ok : ∀ k, k < 2 → parseFieldDescriptor (TX1 k).2.2.1 = some (tyX1 k) := by decide +kernel
abbrev cX1_init : ByteArray := prog_3_method_1_code
def yX1_init : MethodName := ⟨RX1, "<init>", "()V"⟩
abbrev cX1_append : ByteArray := prog_3_method_6_code
def yX1_append : MethodName := ⟨RX1, "append", "(II)I"⟩
abbrev cX1_isList : ByteArray := prog_3_method_2_code
def yX1_isList : MethodName := ⟨RX1, "isList", "(I)Z"⟩
abbrev cX1_isNumber : ByteArray := prog_3_method_3_code
def yX1_isNumber : MethodName := ⟨RX1, "isNumber", "(I)Z"⟩
abbrev cX1_lastOf : ByteArray := prog_3_method_4_code
def yX1_lastOf : MethodName := ⟨RX1, "lastOf", "(I)I"⟩
abbrev cX1_put : ByteArray := prog_3_method_5_code
def yX1_put : MethodName := ⟨RX1, "put", "(II)V"⟩
abbrev cX1_run : ByteArray := prog_3_method_7_code
def yX1_run : MethodName := ⟨RX1, "run", "(III)I"⟩
abbrev cX1_insert : ByteArray := prog_3_method_8_code
def yX1_insert : MethodName := ⟨RX1, "insert", "(II)I"⟩
abbrev cX1_has : ByteArray := prog_3_method_14_code
def yX1_has : MethodName := ⟨RX1, "has", "(II)Z"⟩
abbrev cX1_remove : ByteArray := prog_3_method_9_code
def yX1_remove : MethodName := ⟨RX1, "remove", "(II)I"⟩
abbrev cX1_seek : ByteArray := prog_3_method_13_code
def yX1_seek : MethodName := ⟨RX1, "seek", "(II)I"⟩
abbrev cX1_clear : ByteArray := prog_3_method_10_code
def yX1_clear : MethodName := ⟨RX1, "clear", "(I)I"⟩
abbrev cX1_size : ByteArray := prog_3_method_11_code
def yX1_size : MethodName := ⟨RX1, "size", "(I)I"⟩
abbrev cX1_at : ByteArray := prog_3_method_12_code
def yX1_at : MethodName := ⟨RX1, "at", "(II)I"⟩
abbrev cX1_sum : ByteArray := prog_3_method_15_code
def yX1_sum : MethodName := ⟨RX1, "sum", "(III)I"⟩
abbrev cX1_blocks : ByteArray := prog_3_method_16_code
def yX1_blocks : MethodName := ⟨RX1, "blocks", "(I)I"⟩
abbrev cX1_base : ByteArray := prog_3_method_22_code
def yX1_base : MethodName := ⟨RX1, "base", "(II)I"⟩
abbrev cX1_isBlock : ByteArray := prog_3_method_20_code
def yX1_isBlock : MethodName := ⟨RX1, "isBlock", "(II)Z"⟩
abbrev cX1_bestBase : ByteArray := prog_3_method_21_code
def yX1_bestBase : MethodName := ⟨RX1, "bestBase", "(II)I"⟩
abbrev cX1_sizeAt : ByteArray := prog_3_method_19_code
def yX1_sizeAt : MethodName := ⟨RX1, "sizeAt", "(III)I"⟩
abbrev cX1_codeAt : ByteArray := prog_3_method_17_code
def yX1_codeAt : MethodName := ⟨RX1, "codeAt", "(II)I"⟩
abbrev cX1_widthOf : ByteArray := prog_3_method_18_code
def yX1_widthOf : MethodName := ⟨RX1, "widthOf", "(I)I"⟩
abbrev cX1_blockSize : ByteArray := prog_3_method_23_code
def yX1_blockSize : MethodName := ⟨RX1, "blockSize", "(II)I"⟩
abbrev cX1_packed : ByteArray := prog_3_method_24_code
def yX1_packed : MethodName := ⟨RX1, "packed", "()I"⟩
abbrev cX1_common : ByteArray := prog_3_method_25_code
def yX1_common : MethodName := ⟨RX1, "common", "()I"⟩
abbrev cX1_commonAt : ByteArray := prog_3_method_26_code
def yX1_commonAt : MethodName := ⟨RX1, "commonAt", "(I)I"⟩
abbrev cX1_tail : ByteArray := prog_3_method_27_code
def yX1_tail : MethodName := ⟨RX1, "tail", "(I)I"⟩
theorem q31 : (Jvm.Cond.initialized "PforDeltaModel") ∈ lw_all := lw_g (lw_at lw_m1 2 rfl) rfl
theorem q217 : (Jvm.Cond.instantiable "PforDeltaModel" (2 : Nat)) ∈ lw_all := lw_g (lw_at lw_m1 188 rfl) rfl
theorem q219 : (Jvm.Cond.instanceMethod ({ cls := "PforDeltaModel", name := "<init>", desc := "()V" } : Jvm.MethodName)) ∈ lw_all := lw_g (lw_at lw_m1 190 rfl) rfl
theorem q220 : (Jvm.Cond.code ({ cls := "PforDeltaModel", name := "<init>", desc := "()V" } : Jvm.MethodName) prog_3_method_1_code (1 : Nat) (Option.none : Option Jvm.ClassFile.FieldType)) ∈ lw_all := lw_g (lw_at lw_m1 191 rfl) rfl
theorem q221 : (Jvm.Cond.methodLink "PforDeltaModel" (1 : Nat) ({ cls := "java/lang/Object", name := "<init>", desc := "()V" } : Jvm.MethodName)) ∈ lw_all := lw_g (lw_at lw_m1 192 rfl) rfl
theorem q222 : (Jvm.Cond.fieldLink "PforDeltaModel" (7 : Nat) "PforDeltaModel" "numbers" "[I") ∈ lw_all := lw_g (lw_at lw_m1 193 rfl) rfl
theorem q223 : (Jvm.Cond.fieldLink "PforDeltaModel" (13 : Nat) "PforDeltaModel" "sizes" "[I") ∈ lw_all := lw_g (lw_at lw_m1 194 rfl) rfl
theorem q224 : (Jvm.Cond.laysFinal "PforDeltaModel" "PforDeltaModel" "numbers" "[I") ∈ lw_all := lw_g (lw_at lw_m1 195 rfl) rfl
theorem q225 : (Jvm.Cond.soleField "PforDeltaModel" "numbers") ∈ lw_all := lw_g (lw_at lw_m1 196 rfl) rfl
theorem q226 : (Jvm.Cond.laysFinal "PforDeltaModel" "PforDeltaModel" "sizes" "[I") ∈ lw_all := lw_g (lw_at lw_m1 197 rfl) rfl
theorem q227 : (Jvm.Cond.soleField "PforDeltaModel" "sizes") ∈ lw_all := lw_g (lw_at lw_m1 198 rfl) rfl
theorem q228 : (Jvm.Cond.superclass "PforDeltaModel" "java/lang/Object") ∈ lw_all := lw_g (lw_at lw_m1 199 rfl) rfl
theorem q230 : (Jvm.Cond.instanceMethod ({ cls := "PforDeltaModel", name := "append", desc := "(II)I" } : Jvm.MethodName)) ∈ lw_all := lw_g (lw_at lw_m1 201 rfl) rfl
theorem q231 : (Jvm.Cond.selects "PforDeltaModel" ({ cls := "PforDeltaModel", name := "append", desc := "(II)I" } : Jvm.MethodName) ({ cls := "PforDeltaModel", name := "append", desc := "(II)I" } : Jvm.MethodName)) ∈ lw_all := lw_g (lw_at lw_m1 202 rfl) rfl
theorem q232 : (Jvm.Cond.code ({ cls := "PforDeltaModel", name := "append", desc := "(II)I" } : Jvm.MethodName) prog_3_method_6_code (3 : Nat) (Option.some Jvm.ClassFile.FieldType.int)) ∈ lw_all := lw_g (lw_at lw_m1 203 rfl) rfl
theorem q233 : (Jvm.Cond.methodLink "PforDeltaModel" (17 : Nat) ({ cls := "PforDeltaModel", name := "isList", desc := "(I)Z" } : Jvm.MethodName)) ∈ lw_all := lw_g (lw_at lw_m1 204 rfl) rfl
theorem q234 : (Jvm.Cond.privateMethod ({ cls := "PforDeltaModel", name := "isList", desc := "(I)Z" } : Jvm.MethodName)) ∈ lw_tbl := lw_at lw_m1 205 rfl
theorem q235 : (Jvm.Cond.instanceMethod ({ cls := "PforDeltaModel", name := "isList", desc := "(I)Z" } : Jvm.MethodName)) ∈ lw_all := lw_g (lw_at lw_m1 206 rfl) rfl
theorem q236 : (Jvm.Cond.code ({ cls := "PforDeltaModel", name := "isList", desc := "(I)Z" } : Jvm.MethodName) prog_3_method_2_code (2 : Nat) (Option.some Jvm.ClassFile.FieldType.boolean)) ∈ lw_all := lw_g (lw_at lw_m1 207 rfl) rfl
theorem q237 : (Jvm.Cond.methodLink "PforDeltaModel" (21 : Nat) ({ cls := "PforDeltaModel", name := "isNumber", desc := "(I)Z" } : Jvm.MethodName)) ∈ lw_all := lw_g (lw_at lw_m1 208 rfl) rfl
theorem q238 : (Jvm.Cond.privateMethod ({ cls := "PforDeltaModel", name := "isNumber", desc := "(I)Z" } : Jvm.MethodName)) ∈ lw_tbl := lw_at lw_m1 209 rfl
theorem q239 : (Jvm.Cond.instanceMethod ({ cls := "PforDeltaModel", name := "isNumber", desc := "(I)Z" } : Jvm.MethodName)) ∈ lw_all := lw_g (lw_at lw_m1 210 rfl) rfl
theorem q240 : (Jvm.Cond.code ({ cls := "PforDeltaModel", name := "isNumber", desc := "(I)Z" } : Jvm.MethodName) prog_3_method_3_code (2 : Nat) (Option.some Jvm.ClassFile.FieldType.boolean)) ∈ lw_all := lw_g (lw_at lw_m1 211 rfl) rfl
theorem q241 : (Jvm.Cond.constant "PforDeltaModel" (16 : Nat) (1000000 : Int32)) ∈ lw_all := lw_g (lw_at lw_m1 212 rfl) rfl
theorem q242 : (Jvm.Cond.methodLink "PforDeltaModel" (24 : Nat) ({ cls := "PforDeltaModel", name := "lastOf", desc := "(I)I" } : Jvm.MethodName)) ∈ lw_all := lw_g (lw_at lw_m1 213 rfl) rfl
theorem q243 : (Jvm.Cond.privateMethod ({ cls := "PforDeltaModel", name := "lastOf", desc := "(I)I" } : Jvm.MethodName)) ∈ lw_tbl := lw_at lw_m1 214 rfl
theorem q244 : (Jvm.Cond.instanceMethod ({ cls := "PforDeltaModel", name := "lastOf", desc := "(I)I" } : Jvm.MethodName)) ∈ lw_all := lw_g (lw_at lw_m1 215 rfl) rfl
theorem q245 : (Jvm.Cond.code ({ cls := "PforDeltaModel", name := "lastOf", desc := "(I)I" } : Jvm.MethodName) prog_3_method_4_code (2 : Nat) (Option.some Jvm.ClassFile.FieldType.int)) ∈ lw_all := lw_g (lw_at lw_m1 216 rfl) rfl
theorem q246 : (Jvm.Cond.methodLink "PforDeltaModel" (28 : Nat) ({ cls := "PforDeltaModel", name := "put", desc := "(II)V" } : Jvm.MethodName)) ∈ lw_all := lw_g (lw_at lw_m1 217 rfl) rfl
theorem q247 : (Jvm.Cond.privateMethod ({ cls := "PforDeltaModel", name := "put", desc := "(II)V" } : Jvm.MethodName)) ∈ lw_tbl := lw_at lw_m1 218 rfl
theorem q248 : (Jvm.Cond.instanceMethod ({ cls := "PforDeltaModel", name := "put", desc := "(II)V" } : Jvm.MethodName)) ∈ lw_all := lw_g (lw_at lw_m1 219 rfl) rfl
theorem q249 : (Jvm.Cond.code ({ cls := "PforDeltaModel", name := "put", desc := "(II)V" } : Jvm.MethodName) prog_3_method_5_code (3 : Nat) (Option.none : Option Jvm.ClassFile.FieldType)) ∈ lw_all := lw_g (lw_at lw_m1 220 rfl) rfl
theorem q251 : (Jvm.Cond.instanceMethod ({ cls := "PforDeltaModel", name := "run", desc := "(III)I" } : Jvm.MethodName)) ∈ lw_all := lw_g (lw_at lw_m1 222 rfl) rfl
theorem q252 : (Jvm.Cond.selects "PforDeltaModel" ({ cls := "PforDeltaModel", name := "run", desc := "(III)I" } : Jvm.MethodName) ({ cls := "PforDeltaModel", name := "run", desc := "(III)I" } : Jvm.MethodName)) ∈ lw_all := lw_g (lw_at lw_m1 223 rfl) rfl
theorem q253 : (Jvm.Cond.code ({ cls := "PforDeltaModel", name := "run", desc := "(III)I" } : Jvm.MethodName) prog_3_method_7_code (6 : Nat) (Option.some Jvm.ClassFile.FieldType.int)) ∈ lw_all := lw_g (lw_at lw_m1 224 rfl) rfl
theorem q255 : (Jvm.Cond.instanceMethod ({ cls := "PforDeltaModel", name := "insert", desc := "(II)I" } : Jvm.MethodName)) ∈ lw_all := lw_g (lw_at lw_m1 226 rfl) rfl
theorem q256 : (Jvm.Cond.selects "PforDeltaModel" ({ cls := "PforDeltaModel", name := "insert", desc := "(II)I" } : Jvm.MethodName) ({ cls := "PforDeltaModel", name := "insert", desc := "(II)I" } : Jvm.MethodName)) ∈ lw_all := lw_g (lw_at lw_m1 227 rfl) rfl
theorem q257 : (Jvm.Cond.code ({ cls := "PforDeltaModel", name := "insert", desc := "(II)I" } : Jvm.MethodName) prog_3_method_8_code (5 : Nat) (Option.some Jvm.ClassFile.FieldType.int)) ∈ lw_all := lw_g (lw_at lw_m1 228 rfl) rfl
theorem q258 : (Jvm.Cond.methodLink "PforDeltaModel" (32 : Nat) ({ cls := "PforDeltaModel", name := "has", desc := "(II)Z" } : Jvm.MethodName)) ∈ lw_all := lw_g (lw_at lw_m1 229 rfl) rfl
theorem q259 : (Jvm.Cond.instanceMethod ({ cls := "PforDeltaModel", name := "has", desc := "(II)Z" } : Jvm.MethodName)) ∈ lw_all := lw_g (lw_at lw_m1 230 rfl) rfl
theorem q260 : (Jvm.Cond.selects "PforDeltaModel" ({ cls := "PforDeltaModel", name := "has", desc := "(II)Z" } : Jvm.MethodName) ({ cls := "PforDeltaModel", name := "has", desc := "(II)Z" } : Jvm.MethodName)) ∈ lw_all := lw_g (lw_at lw_m1 231 rfl) rfl
theorem q261 : (Jvm.Cond.code ({ cls := "PforDeltaModel", name := "has", desc := "(II)Z" } : Jvm.MethodName) prog_3_method_14_code (4 : Nat) (Option.some Jvm.ClassFile.FieldType.boolean)) ∈ lw_all := lw_g (lw_at lw_m1 232 rfl) rfl
theorem q263 : (Jvm.Cond.instanceMethod ({ cls := "PforDeltaModel", name := "remove", desc := "(II)I" } : Jvm.MethodName)) ∈ lw_all := lw_g (lw_at lw_m1 234 rfl) rfl
theorem q264 : (Jvm.Cond.selects "PforDeltaModel" ({ cls := "PforDeltaModel", name := "remove", desc := "(II)I" } : Jvm.MethodName) ({ cls := "PforDeltaModel", name := "remove", desc := "(II)I" } : Jvm.MethodName)) ∈ lw_all := lw_g (lw_at lw_m1 235 rfl) rfl
theorem q265 : (Jvm.Cond.code ({ cls := "PforDeltaModel", name := "remove", desc := "(II)I" } : Jvm.MethodName) prog_3_method_9_code (5 : Nat) (Option.some Jvm.ClassFile.FieldType.int)) ∈ lw_all := lw_g (lw_at lw_m1 236 rfl) rfl
theorem q266 : (Jvm.Cond.methodLink "PforDeltaModel" (36 : Nat) ({ cls := "PforDeltaModel", name := "seek", desc := "(II)I" } : Jvm.MethodName)) ∈ lw_all := lw_g (lw_at lw_m1 237 rfl) rfl
theorem q267 : (Jvm.Cond.instanceMethod ({ cls := "PforDeltaModel", name := "seek", desc := "(II)I" } : Jvm.MethodName)) ∈ lw_all := lw_g (lw_at lw_m1 238 rfl) rfl
theorem q268 : (Jvm.Cond.selects "PforDeltaModel" ({ cls := "PforDeltaModel", name := "seek", desc := "(II)I" } : Jvm.MethodName) ({ cls := "PforDeltaModel", name := "seek", desc := "(II)I" } : Jvm.MethodName)) ∈ lw_all := lw_g (lw_at lw_m1 239 rfl) rfl
theorem q269 : (Jvm.Cond.code ({ cls := "PforDeltaModel", name := "seek", desc := "(II)I" } : Jvm.MethodName) prog_3_method_13_code (4 : Nat) (Option.some Jvm.ClassFile.FieldType.int)) ∈ lw_all := lw_g (lw_at lw_m2 0 rfl) rfl
theorem q271 : (Jvm.Cond.instanceMethod ({ cls := "PforDeltaModel", name := "clear", desc := "(I)I" } : Jvm.MethodName)) ∈ lw_all := lw_g (lw_at lw_m2 2 rfl) rfl
theorem q272 : (Jvm.Cond.selects "PforDeltaModel" ({ cls := "PforDeltaModel", name := "clear", desc := "(I)I" } : Jvm.MethodName) ({ cls := "PforDeltaModel", name := "clear", desc := "(I)I" } : Jvm.MethodName)) ∈ lw_all := lw_g (lw_at lw_m2 3 rfl) rfl
theorem q273 : (Jvm.Cond.code ({ cls := "PforDeltaModel", name := "clear", desc := "(I)I" } : Jvm.MethodName) prog_3_method_10_code (3 : Nat) (Option.some Jvm.ClassFile.FieldType.int)) ∈ lw_all := lw_g (lw_at lw_m2 4 rfl) rfl
theorem q275 : (Jvm.Cond.instanceMethod ({ cls := "PforDeltaModel", name := "size", desc := "(I)I" } : Jvm.MethodName)) ∈ lw_all := lw_g (lw_at lw_m2 6 rfl) rfl
theorem q276 : (Jvm.Cond.selects "PforDeltaModel" ({ cls := "PforDeltaModel", name := "size", desc := "(I)I" } : Jvm.MethodName) ({ cls := "PforDeltaModel", name := "size", desc := "(I)I" } : Jvm.MethodName)) ∈ lw_all := lw_g (lw_at lw_m2 7 rfl) rfl
theorem q277 : (Jvm.Cond.code ({ cls := "PforDeltaModel", name := "size", desc := "(I)I" } : Jvm.MethodName) prog_3_method_11_code (2 : Nat) (Option.some Jvm.ClassFile.FieldType.int)) ∈ lw_all := lw_g (lw_at lw_m2 8 rfl) rfl
theorem q279 : (Jvm.Cond.instanceMethod ({ cls := "PforDeltaModel", name := "at", desc := "(II)I" } : Jvm.MethodName)) ∈ lw_all := lw_g (lw_at lw_m2 10 rfl) rfl
theorem q280 : (Jvm.Cond.selects "PforDeltaModel" ({ cls := "PforDeltaModel", name := "at", desc := "(II)I" } : Jvm.MethodName) ({ cls := "PforDeltaModel", name := "at", desc := "(II)I" } : Jvm.MethodName)) ∈ lw_all := lw_g (lw_at lw_m2 11 rfl) rfl
theorem q281 : (Jvm.Cond.code ({ cls := "PforDeltaModel", name := "at", desc := "(II)I" } : Jvm.MethodName) prog_3_method_12_code (3 : Nat) (Option.some Jvm.ClassFile.FieldType.int)) ∈ lw_all := lw_g (lw_at lw_m2 12 rfl) rfl
theorem q285 : (Jvm.Cond.instanceMethod ({ cls := "PforDeltaModel", name := "sum", desc := "(III)I" } : Jvm.MethodName)) ∈ lw_all := lw_g (lw_at lw_m2 16 rfl) rfl
theorem q286 : (Jvm.Cond.selects "PforDeltaModel" ({ cls := "PforDeltaModel", name := "sum", desc := "(III)I" } : Jvm.MethodName) ({ cls := "PforDeltaModel", name := "sum", desc := "(III)I" } : Jvm.MethodName)) ∈ lw_all := lw_g (lw_at lw_m2 17 rfl) rfl
theorem q287 : (Jvm.Cond.code ({ cls := "PforDeltaModel", name := "sum", desc := "(III)I" } : Jvm.MethodName) prog_3_method_15_code (6 : Nat) (Option.some Jvm.ClassFile.FieldType.int)) ∈ lw_all := lw_g (lw_at lw_m2 18 rfl) rfl
theorem q289 : (Jvm.Cond.instanceMethod ({ cls := "PforDeltaModel", name := "blocks", desc := "(I)I" } : Jvm.MethodName)) ∈ lw_all := lw_g (lw_at lw_m2 20 rfl) rfl
theorem q290 : (Jvm.Cond.selects "PforDeltaModel" ({ cls := "PforDeltaModel", name := "blocks", desc := "(I)I" } : Jvm.MethodName) ({ cls := "PforDeltaModel", name := "blocks", desc := "(I)I" } : Jvm.MethodName)) ∈ lw_all := lw_g (lw_at lw_m2 21 rfl) rfl
theorem q291 : (Jvm.Cond.code ({ cls := "PforDeltaModel", name := "blocks", desc := "(I)I" } : Jvm.MethodName) prog_3_method_16_code (2 : Nat) (Option.some Jvm.ClassFile.FieldType.int)) ∈ lw_all := lw_g (lw_at lw_m2 22 rfl) rfl
theorem q293 : (Jvm.Cond.instanceMethod ({ cls := "PforDeltaModel", name := "base", desc := "(II)I" } : Jvm.MethodName)) ∈ lw_all := lw_g (lw_at lw_m2 24 rfl) rfl
theorem q294 : (Jvm.Cond.selects "PforDeltaModel" ({ cls := "PforDeltaModel", name := "base", desc := "(II)I" } : Jvm.MethodName) ({ cls := "PforDeltaModel", name := "base", desc := "(II)I" } : Jvm.MethodName)) ∈ lw_all := lw_g (lw_at lw_m2 25 rfl) rfl
theorem q295 : (Jvm.Cond.code ({ cls := "PforDeltaModel", name := "base", desc := "(II)I" } : Jvm.MethodName) prog_3_method_22_code (3 : Nat) (Option.some Jvm.ClassFile.FieldType.int)) ∈ lw_all := lw_g (lw_at lw_m2 26 rfl) rfl
theorem q296 : (Jvm.Cond.methodLink "PforDeltaModel" (50 : Nat) ({ cls := "PforDeltaModel", name := "isBlock", desc := "(II)Z" } : Jvm.MethodName)) ∈ lw_all := lw_g (lw_at lw_m2 27 rfl) rfl
theorem q297 : (Jvm.Cond.privateMethod ({ cls := "PforDeltaModel", name := "isBlock", desc := "(II)Z" } : Jvm.MethodName)) ∈ lw_tbl := lw_at lw_m2 28 rfl
theorem q298 : (Jvm.Cond.instanceMethod ({ cls := "PforDeltaModel", name := "isBlock", desc := "(II)Z" } : Jvm.MethodName)) ∈ lw_all := lw_g (lw_at lw_m2 29 rfl) rfl
theorem q299 : (Jvm.Cond.code ({ cls := "PforDeltaModel", name := "isBlock", desc := "(II)Z" } : Jvm.MethodName) prog_3_method_20_code (3 : Nat) (Option.some Jvm.ClassFile.FieldType.boolean)) ∈ lw_all := lw_g (lw_at lw_m2 30 rfl) rfl
theorem q300 : (Jvm.Cond.methodLink "PforDeltaModel" (53 : Nat) ({ cls := "PforDeltaModel", name := "bestBase", desc := "(II)I" } : Jvm.MethodName)) ∈ lw_all := lw_g (lw_at lw_m2 31 rfl) rfl
theorem q301 : (Jvm.Cond.privateMethod ({ cls := "PforDeltaModel", name := "bestBase", desc := "(II)I" } : Jvm.MethodName)) ∈ lw_tbl := lw_at lw_m2 32 rfl
theorem q302 : (Jvm.Cond.instanceMethod ({ cls := "PforDeltaModel", name := "bestBase", desc := "(II)I" } : Jvm.MethodName)) ∈ lw_all := lw_g (lw_at lw_m2 33 rfl) rfl
theorem q303 : (Jvm.Cond.code ({ cls := "PforDeltaModel", name := "bestBase", desc := "(II)I" } : Jvm.MethodName) prog_3_method_21_code (5 : Nat) (Option.some Jvm.ClassFile.FieldType.int)) ∈ lw_all := lw_g (lw_at lw_m2 34 rfl) rfl
theorem q304 : (Jvm.Cond.methodLink "PforDeltaModel" (46 : Nat) ({ cls := "PforDeltaModel", name := "sizeAt", desc := "(III)I" } : Jvm.MethodName)) ∈ lw_all := lw_g (lw_at lw_m2 35 rfl) rfl
theorem q305 : (Jvm.Cond.privateMethod ({ cls := "PforDeltaModel", name := "sizeAt", desc := "(III)I" } : Jvm.MethodName)) ∈ lw_tbl := lw_at lw_m2 36 rfl
theorem q306 : (Jvm.Cond.instanceMethod ({ cls := "PforDeltaModel", name := "sizeAt", desc := "(III)I" } : Jvm.MethodName)) ∈ lw_all := lw_g (lw_at lw_m2 37 rfl) rfl
theorem q307 : (Jvm.Cond.code ({ cls := "PforDeltaModel", name := "sizeAt", desc := "(III)I" } : Jvm.MethodName) prog_3_method_19_code (8 : Nat) (Option.some Jvm.ClassFile.FieldType.int)) ∈ lw_all := lw_g (lw_at lw_m2 38 rfl) rfl
theorem q308 : (Jvm.Cond.methodLink "PforDeltaModel" (40 : Nat) ({ cls := "PforDeltaModel", name := "codeAt", desc := "(II)I" } : Jvm.MethodName)) ∈ lw_all := lw_g (lw_at lw_m2 39 rfl) rfl
theorem q309 : (Jvm.Cond.privateMethod ({ cls := "PforDeltaModel", name := "codeAt", desc := "(II)I" } : Jvm.MethodName)) ∈ lw_tbl := lw_at lw_m2 40 rfl
theorem q310 : (Jvm.Cond.instanceMethod ({ cls := "PforDeltaModel", name := "codeAt", desc := "(II)I" } : Jvm.MethodName)) ∈ lw_all := lw_g (lw_at lw_m2 41 rfl) rfl
theorem q311 : (Jvm.Cond.code ({ cls := "PforDeltaModel", name := "codeAt", desc := "(II)I" } : Jvm.MethodName) prog_3_method_17_code (4 : Nat) (Option.some Jvm.ClassFile.FieldType.int)) ∈ lw_all := lw_g (lw_at lw_m2 42 rfl) rfl
theorem q312 : (Jvm.Cond.methodLink "PforDeltaModel" (43 : Nat) ({ cls := "PforDeltaModel", name := "widthOf", desc := "(I)I" } : Jvm.MethodName)) ∈ lw_all := lw_g (lw_at lw_m2 43 rfl) rfl
theorem q313 : (Jvm.Cond.privateMethod ({ cls := "PforDeltaModel", name := "widthOf", desc := "(I)I" } : Jvm.MethodName)) ∈ lw_tbl := lw_at lw_m2 44 rfl
theorem q314 : (Jvm.Cond.instanceMethod ({ cls := "PforDeltaModel", name := "widthOf", desc := "(I)I" } : Jvm.MethodName)) ∈ lw_all := lw_g (lw_at lw_m2 45 rfl) rfl
theorem q315 : (Jvm.Cond.code ({ cls := "PforDeltaModel", name := "widthOf", desc := "(I)I" } : Jvm.MethodName) prog_3_method_18_code (3 : Nat) (Option.some Jvm.ClassFile.FieldType.int)) ∈ lw_all := lw_g (lw_at lw_m2 46 rfl) rfl
theorem q317 : (Jvm.Cond.instanceMethod ({ cls := "PforDeltaModel", name := "blockSize", desc := "(II)I" } : Jvm.MethodName)) ∈ lw_all := lw_g (lw_at lw_m2 48 rfl) rfl
theorem q318 : (Jvm.Cond.selects "PforDeltaModel" ({ cls := "PforDeltaModel", name := "blockSize", desc := "(II)I" } : Jvm.MethodName) ({ cls := "PforDeltaModel", name := "blockSize", desc := "(II)I" } : Jvm.MethodName)) ∈ lw_all := lw_g (lw_at lw_m2 49 rfl) rfl
theorem q319 : (Jvm.Cond.code ({ cls := "PforDeltaModel", name := "blockSize", desc := "(II)I" } : Jvm.MethodName) prog_3_method_23_code (4 : Nat) (Option.some Jvm.ClassFile.FieldType.int)) ∈ lw_all := lw_g (lw_at lw_m2 50 rfl) rfl
theorem q321 : (Jvm.Cond.instanceMethod ({ cls := "PforDeltaModel", name := "packed", desc := "()I" } : Jvm.MethodName)) ∈ lw_all := lw_g (lw_at lw_m2 52 rfl) rfl
theorem q322 : (Jvm.Cond.selects "PforDeltaModel" ({ cls := "PforDeltaModel", name := "packed", desc := "()I" } : Jvm.MethodName) ({ cls := "PforDeltaModel", name := "packed", desc := "()I" } : Jvm.MethodName)) ∈ lw_all := lw_g (lw_at lw_m2 53 rfl) rfl
theorem q323 : (Jvm.Cond.code ({ cls := "PforDeltaModel", name := "packed", desc := "()I" } : Jvm.MethodName) prog_3_method_24_code (4 : Nat) (Option.some Jvm.ClassFile.FieldType.int)) ∈ lw_all := lw_g (lw_at lw_m2 54 rfl) rfl
theorem q324 : (Jvm.Cond.methodLink "PforDeltaModel" (56 : Nat) ({ cls := "PforDeltaModel", name := "blockSize", desc := "(II)I" } : Jvm.MethodName)) ∈ lw_all := lw_g (lw_at lw_m2 55 rfl) rfl
theorem q326 : (Jvm.Cond.instanceMethod ({ cls := "PforDeltaModel", name := "common", desc := "()I" } : Jvm.MethodName)) ∈ lw_all := lw_g (lw_at lw_m2 57 rfl) rfl
theorem q327 : (Jvm.Cond.selects "PforDeltaModel" ({ cls := "PforDeltaModel", name := "common", desc := "()I" } : Jvm.MethodName) ({ cls := "PforDeltaModel", name := "common", desc := "()I" } : Jvm.MethodName)) ∈ lw_all := lw_g (lw_at lw_m2 58 rfl) rfl
theorem q328 : (Jvm.Cond.code ({ cls := "PforDeltaModel", name := "common", desc := "()I" } : Jvm.MethodName) prog_3_method_25_code (3 : Nat) (Option.some Jvm.ClassFile.FieldType.int)) ∈ lw_all := lw_g (lw_at lw_m2 59 rfl) rfl
theorem q330 : (Jvm.Cond.instanceMethod ({ cls := "PforDeltaModel", name := "commonAt", desc := "(I)I" } : Jvm.MethodName)) ∈ lw_all := lw_g (lw_at lw_m2 61 rfl) rfl
theorem q331 : (Jvm.Cond.selects "PforDeltaModel" ({ cls := "PforDeltaModel", name := "commonAt", desc := "(I)I" } : Jvm.MethodName) ({ cls := "PforDeltaModel", name := "commonAt", desc := "(I)I" } : Jvm.MethodName)) ∈ lw_all := lw_g (lw_at lw_m2 62 rfl) rfl
theorem q332 : (Jvm.Cond.code ({ cls := "PforDeltaModel", name := "commonAt", desc := "(I)I" } : Jvm.MethodName) prog_3_method_26_code (4 : Nat) (Option.some Jvm.ClassFile.FieldType.int)) ∈ lw_all := lw_g (lw_at lw_m2 63 rfl) rfl
theorem q334 : (Jvm.Cond.instanceMethod ({ cls := "PforDeltaModel", name := "tail", desc := "(I)I" } : Jvm.MethodName)) ∈ lw_all := lw_g (lw_at lw_m2 65 rfl) rfl
theorem q335 : (Jvm.Cond.selects "PforDeltaModel" ({ cls := "PforDeltaModel", name := "tail", desc := "(I)I" } : Jvm.MethodName) ({ cls := "PforDeltaModel", name := "tail", desc := "(I)I" } : Jvm.MethodName)) ∈ lw_all := lw_g (lw_at lw_m2 66 rfl) rfl
theorem q336 : (Jvm.Cond.code ({ cls := "PforDeltaModel", name := "tail", desc := "(I)I" } : Jvm.MethodName) prog_3_method_27_code (4 : Nat) (Option.some Jvm.ClassFile.FieldType.int)) ∈ lw_all := lw_g (lw_at lw_m2 67 rfl) rfl
theorem in_X1 : ∀ w ∈ wsX10, w ∈ lw_all := lw_in wsX10 [224, 226] (by decide +kernel) (by decide +kernel)
theorem q29 : (Jvm.Cond.initialized "PforDeltaLaw") ∈ lw_all := lw_g (lw_at lw_m1 0 rfl) rfl
theorem q32 : (Jvm.Cond.classLink "PforDeltaLaw" (7 : Nat) "PforDelta") ∈ lw_all := lw_g (lw_at lw_m1 3 rfl) rfl
theorem q34 : (Jvm.Cond.methodLink "PforDeltaLaw" (9 : Nat) ({ cls := "PforDelta", name := "<init>", desc := "()V" } : Jvm.MethodName)) ∈ lw_all := lw_g (lw_at lw_m1 5 rfl) rfl
theorem q66 : (Jvm.Cond.methodLink "PforDeltaLaw" (13 : Nat) ({ cls := "PforDelta", name := "append", desc := "(II)I" } : Jvm.MethodName)) ∈ lw_all := lw_g (lw_at lw_m1 37 rfl) rfl
theorem q123 : (Jvm.Cond.methodLink "PforDeltaLaw" (18 : Nat) ({ cls := "PforDelta", name := "run", desc := "(III)I" } : Jvm.MethodName)) ∈ lw_all := lw_g (lw_at lw_m1 94 rfl) rfl
theorem q127 : (Jvm.Cond.methodLink "PforDeltaLaw" (23 : Nat) ({ cls := "PforDelta", name := "insert", desc := "(II)I" } : Jvm.MethodName)) ∈ lw_all := lw_g (lw_at lw_m1 98 rfl) rfl
theorem q151 : (Jvm.Cond.methodLink "PforDeltaLaw" (27 : Nat) ({ cls := "PforDelta", name := "remove", desc := "(II)I" } : Jvm.MethodName)) ∈ lw_all := lw_g (lw_at lw_m1 122 rfl) rfl
theorem q155 : (Jvm.Cond.methodLink "PforDeltaLaw" (31 : Nat) ({ cls := "PforDelta", name := "clear", desc := "(I)I" } : Jvm.MethodName)) ∈ lw_all := lw_g (lw_at lw_m1 126 rfl) rfl
theorem q159 : (Jvm.Cond.methodLink "PforDeltaLaw" (36 : Nat) ({ cls := "PforDelta", name := "size", desc := "(I)I" } : Jvm.MethodName)) ∈ lw_all := lw_g (lw_at lw_m1 130 rfl) rfl
theorem q163 : (Jvm.Cond.methodLink "PforDeltaLaw" (40 : Nat) ({ cls := "PforDelta", name := "at", desc := "(II)I" } : Jvm.MethodName)) ∈ lw_all := lw_g (lw_at lw_m1 134 rfl) rfl
theorem q167 : (Jvm.Cond.methodLink "PforDeltaLaw" (44 : Nat) ({ cls := "PforDelta", name := "seek", desc := "(II)I" } : Jvm.MethodName)) ∈ lw_all := lw_g (lw_at lw_m1 138 rfl) rfl
theorem q171 : (Jvm.Cond.methodLink "PforDeltaLaw" (48 : Nat) ({ cls := "PforDelta", name := "has", desc := "(II)Z" } : Jvm.MethodName)) ∈ lw_all := lw_g (lw_at lw_m1 142 rfl) rfl
theorem q175 : (Jvm.Cond.methodLink "PforDeltaLaw" (53 : Nat) ({ cls := "PforDelta", name := "sum", desc := "(III)I" } : Jvm.MethodName)) ∈ lw_all := lw_g (lw_at lw_m1 146 rfl) rfl
theorem q179 : (Jvm.Cond.methodLink "PforDeltaLaw" (57 : Nat) ({ cls := "PforDelta", name := "blocks", desc := "(I)I" } : Jvm.MethodName)) ∈ lw_all := lw_g (lw_at lw_m1 150 rfl) rfl
theorem q183 : (Jvm.Cond.methodLink "PforDeltaLaw" (61 : Nat) ({ cls := "PforDelta", name := "base", desc := "(II)I" } : Jvm.MethodName)) ∈ lw_all := lw_g (lw_at lw_m1 154 rfl) rfl
theorem q191 : (Jvm.Cond.methodLink "PforDeltaLaw" (65 : Nat) ({ cls := "PforDelta", name := "blockSize", desc := "(II)I" } : Jvm.MethodName)) ∈ lw_all := lw_g (lw_at lw_m1 162 rfl) rfl
theorem q195 : (Jvm.Cond.methodLink "PforDeltaLaw" (69 : Nat) ({ cls := "PforDelta", name := "packed", desc := "()I" } : Jvm.MethodName)) ∈ lw_all := lw_g (lw_at lw_m1 166 rfl) rfl
theorem q199 : (Jvm.Cond.methodLink "PforDeltaLaw" (74 : Nat) ({ cls := "PforDelta", name := "common", desc := "()I" } : Jvm.MethodName)) ∈ lw_all := lw_g (lw_at lw_m1 170 rfl) rfl
theorem q207 : (Jvm.Cond.methodLink "PforDeltaLaw" (78 : Nat) ({ cls := "PforDelta", name := "commonAt", desc := "(I)I" } : Jvm.MethodName)) ∈ lw_all := lw_g (lw_at lw_m1 178 rfl) rfl
theorem q211 : (Jvm.Cond.methodLink "PforDeltaLaw" (82 : Nat) ({ cls := "PforDelta", name := "tail", desc := "(I)I" } : Jvm.MethodName)) ∈ lw_all := lw_g (lw_at lw_m1 182 rfl) rfl
theorem q216 : (Jvm.Cond.classLink "PforDeltaLaw" (10 : Nat) "PforDeltaModel") ∈ lw_all := lw_g (lw_at lw_m1 187 rfl) rfl
theorem q218 : (Jvm.Cond.methodLink "PforDeltaLaw" (12 : Nat) ({ cls := "PforDeltaModel", name := "<init>", desc := "()V" } : Jvm.MethodName)) ∈ lw_all := lw_g (lw_at lw_m1 189 rfl) rfl
theorem q229 : (Jvm.Cond.methodLink "PforDeltaLaw" (17 : Nat) ({ cls := "PforDeltaModel", name := "append", desc := "(II)I" } : Jvm.MethodName)) ∈ lw_all := lw_g (lw_at lw_m1 200 rfl) rfl
theorem q250 : (Jvm.Cond.methodLink "PforDeltaLaw" (22 : Nat) ({ cls := "PforDeltaModel", name := "run", desc := "(III)I" } : Jvm.MethodName)) ∈ lw_all := lw_g (lw_at lw_m1 221 rfl) rfl
theorem q254 : (Jvm.Cond.methodLink "PforDeltaLaw" (26 : Nat) ({ cls := "PforDeltaModel", name := "insert", desc := "(II)I" } : Jvm.MethodName)) ∈ lw_all := lw_g (lw_at lw_m1 225 rfl) rfl
theorem q262 : (Jvm.Cond.methodLink "PforDeltaLaw" (30 : Nat) ({ cls := "PforDeltaModel", name := "remove", desc := "(II)I" } : Jvm.MethodName)) ∈ lw_all := lw_g (lw_at lw_m1 233 rfl) rfl
theorem q270 : (Jvm.Cond.methodLink "PforDeltaLaw" (35 : Nat) ({ cls := "PforDeltaModel", name := "clear", desc := "(I)I" } : Jvm.MethodName)) ∈ lw_all := lw_g (lw_at lw_m2 1 rfl) rfl
theorem q274 : (Jvm.Cond.methodLink "PforDeltaLaw" (39 : Nat) ({ cls := "PforDeltaModel", name := "size", desc := "(I)I" } : Jvm.MethodName)) ∈ lw_all := lw_g (lw_at lw_m2 5 rfl) rfl
theorem q278 : (Jvm.Cond.methodLink "PforDeltaLaw" (43 : Nat) ({ cls := "PforDeltaModel", name := "at", desc := "(II)I" } : Jvm.MethodName)) ∈ lw_all := lw_g (lw_at lw_m2 9 rfl) rfl
theorem q282 : (Jvm.Cond.methodLink "PforDeltaLaw" (47 : Nat) ({ cls := "PforDeltaModel", name := "seek", desc := "(II)I" } : Jvm.MethodName)) ∈ lw_all := lw_g (lw_at lw_m2 13 rfl) rfl
theorem q283 : (Jvm.Cond.methodLink "PforDeltaLaw" (52 : Nat) ({ cls := "PforDeltaModel", name := "has", desc := "(II)Z" } : Jvm.MethodName)) ∈ lw_all := lw_g (lw_at lw_m2 14 rfl) rfl
theorem q284 : (Jvm.Cond.methodLink "PforDeltaLaw" (56 : Nat) ({ cls := "PforDeltaModel", name := "sum", desc := "(III)I" } : Jvm.MethodName)) ∈ lw_all := lw_g (lw_at lw_m2 15 rfl) rfl
theorem q288 : (Jvm.Cond.methodLink "PforDeltaLaw" (60 : Nat) ({ cls := "PforDeltaModel", name := "blocks", desc := "(I)I" } : Jvm.MethodName)) ∈ lw_all := lw_g (lw_at lw_m2 19 rfl) rfl
theorem q292 : (Jvm.Cond.methodLink "PforDeltaLaw" (64 : Nat) ({ cls := "PforDeltaModel", name := "base", desc := "(II)I" } : Jvm.MethodName)) ∈ lw_all := lw_g (lw_at lw_m2 23 rfl) rfl
theorem q316 : (Jvm.Cond.methodLink "PforDeltaLaw" (68 : Nat) ({ cls := "PforDeltaModel", name := "blockSize", desc := "(II)I" } : Jvm.MethodName)) ∈ lw_all := lw_g (lw_at lw_m2 47 rfl) rfl
theorem q320 : (Jvm.Cond.methodLink "PforDeltaLaw" (73 : Nat) ({ cls := "PforDeltaModel", name := "packed", desc := "()I" } : Jvm.MethodName)) ∈ lw_all := lw_g (lw_at lw_m2 51 rfl) rfl
theorem q325 : (Jvm.Cond.methodLink "PforDeltaLaw" (77 : Nat) ({ cls := "PforDeltaModel", name := "common", desc := "()I" } : Jvm.MethodName)) ∈ lw_all := lw_g (lw_at lw_m2 56 rfl) rfl
theorem q329 : (Jvm.Cond.methodLink "PforDeltaLaw" (81 : Nat) ({ cls := "PforDeltaModel", name := "commonAt", desc := "(I)I" } : Jvm.MethodName)) ∈ lw_all := lw_g (lw_at lw_m2 60 rfl) rfl
theorem q333 : (Jvm.Cond.methodLink "PforDeltaLaw" (85 : Nat) ({ cls := "PforDeltaModel", name := "tail", desc := "(I)I" } : Jvm.MethodName)) ∈ lw_all := lw_g (lw_at lw_m2 64 rfl) rfl
theorem q65 : (Jvm.Cond.arrayClass Jvm.ClassFile.FieldType.int) ∈ lw_all := lw_g (lw_at lw_m1 36 rfl) rfl
abbrev vwCl : List vw_C := [(RX0, TX0, 8), (RX1, TX1, 2)]
end
section
/-! the frame of the walk: values, locals, one-step shapes, the end of a call -/
abbrev AV : Type := Int32 ⊕ Nat
abbrev LV : Type := List (Option AV)
abbrev EN : Type := Nat × Instr × Int32 × Nat
/-- a method: its code, its locals, its answer, frames and locals' words that it needs -/
abbrev MD : Type := ByteArray × Nat × Option FieldType × Nat × Nat
def vl (ad : Nat → Nat) (v : AV) : Value := match v with
  | .inl x => .int x
  | .inr k => .ref (ad k)
theorem vl_cat (ad : Nat → Nat) (v : AV) : (vl ad v).category = 1 := by cases v <;> rfl
def rmD (d : MD) : Room := { frames := d.2.2.2.1, cells := 0, slots := 0, locals := d.2.2.2.2 }
def rok (r : Option FieldType) (v : Int32) : Prop := match r with
  | some ty => narrow ty (.int v) = .int v
  | none => True
def rvv (r : Option FieldType) (v : Int32) : Option Value := match r with
  | some _ => some (.int v)
  | none => none
def rpush (r : Option FieldType) (v : Int32) (st : List AV) : List AV := match r with
  | some _ => .inl v :: st
  | none => st
theorem rpush_map (ad : Nat → Nat) (r : Option FieldType) (v : Int32) (st : List AV) : (rpush r v st).map (vl ad) = (rvv r v).toList ++ st.map (vl ad) := by
  cases r <;> rfl
def Lok (ad : Nat → Nat) (ls : Array Slot) (nL : Nat) (L : LV) : Prop := ls.size = nL ∧ L.length = nL ∧ lv_wf ls ∧ ∀ (i : Nat) (v : AV), L[i]? = some (some v) → ls[i]? = some (.val (vl ad v))
def allv (ls : Array Slot) : List (Nat × Value) := (List.range ls.size).filterMap (fun j : Nat => match (ls[j]? : Option Slot) with
  | some (Slot.val w) => some (j, w)
  | _ => none)
theorem allv_mem {ls : Array Slot} {j : Nat} {w : Value} (h : ls[j]? = some (.val w)) : (j, w) ∈ allv ls := by
  refine List.mem_filterMap.mpr ⟨j, List.mem_range.mpr (lv_lt h), ?_⟩
  simp only [h]
theorem allv_ok {ls : Array Slot} {q : Nat × Value} (h : q ∈ allv ls) : ls[q.1]? = some (.val q.2) := by
  obtain ⟨j, -, h2⟩ := List.mem_filterMap.mp h
  revert h2
  cases hj : ls[j]? with
  | none => intro h2; simp at h2
  | some x =>
    cases x with
    | val w => intro h2; simp at h2; subst h2; exact hj
    | second => intro h2; simp at h2
    | unset => intro h2; simp at h2
theorem allv_has {ad : Nat → Nat} {ls : Array Slot} {nL : Nat} {L : LV} (h : Lok ad ls nL L) : lv_has ls nL (allv ls) := ⟨h.1, h.2.2.1, fun _ hq => allv_ok hq⟩
theorem Lok_set {ad : Nat → Nat} {ls ls' : Array Slot} {nL : Nat} {L : LV} {i : Nat} {v : AV} {lv : List (Nat × Value)} (h : Lok ad ls nL L)
    (h' : lv_has ls' nL ((i, vl ad v) :: lv.filter (fun q => !(q.1 == i) && !(q.1 + 1 == i && q.2.category == 2)))) (hl : ∀ q ∈ allv ls, q ∈ lv) : Lok ad ls' nL (L.set i (some v)) := by
  refine ⟨h'.1, by rw [List.length_set]; exact h.2.1, h'.2.1, fun j w hj => ?_⟩
  by_cases e : j = i
  · subst e
    by_cases hlt : j < L.length
    · rw [List.getElem?_set_self hlt] at hj
      cases hj
      exact h'.2.2 (j, vl ad v) List.mem_cons_self
    · have hn : (L.set j (some v))[j]? = none := by
        rw [List.getElem?_eq_none_iff, List.length_set]
        omega
      rw [hn] at hj
      cases hj
  · rw [List.getElem?_set_ne (Ne.symm e)] at hj
    have h1 := h.2.2.2 j w hj
    refine h'.2.2 (j, vl ad w) (List.mem_cons_of_mem _ (List.mem_filter.mpr ⟨hl _ (allv_mem h1), ?_⟩))
    have hc := vl_cat ad w
    simp [e, hc]
theorem Lok_lt {ad : Nat → Nat} {ls : Array Slot} {nL : Nat} {L : LV} {i : Nat} {v : AV} (h : Lok ad ls nL L) (hi : L[i]? = some (some v)) : i < nL := by
  rw [← h.1]
  exact lv_lt (h.2.2.2 i v hi)
theorem lva_mem : ∀ (vs : List Value) (i j : Nat) (w : Value), (∀ v ∈ vs, v.category = 1) → vs[j]? = some w → (i + j, w) ∈ lv_args i vs
  | [], i, j, w, _, h => by simp at h
  | v :: vs, i, j, w, hc, h => by
    have h1 : v.category = 1 := hc v List.mem_cons_self
    have e : lv_args i (v :: vs) = (i, v) :: lv_args (i + 1) vs := by simp [lv_args, h1]
    rw [e]
    cases j with
    | zero =>
      rw [List.getElem?_cons_zero] at h
      cases h
      exact List.mem_cons_self
    | succ j =>
      rw [List.getElem?_cons_succ] at h
      have h2 := lva_mem vs (i + 1) j w (fun v hv => hc v (List.mem_cons_of_mem _ hv)) h
      rw [show i + (j + 1) = i + 1 + j by omega]
      exact List.mem_cons_of_mem _ h2
theorem lgs_len : ∀ (vs : List Value), (∀ v ∈ vs, v.category = 1) → (lg_sl vs).length = vs.length
  | [], _ => rfl
  | v :: vs, hc => by
    have h1 : v.category = 1 := hc v List.mem_cons_self
    have h2 := lgs_len vs (fun v hv => hc v (List.mem_cons_of_mem _ hv))
    have e : lg_sl (v :: vs) = Slot.val v :: lg_sl vs := by simp [lg_sl, h1]
    rw [e, List.length_cons, List.length_cons, h2]
def enL (xs : List AV) (n : Nat) : LV := xs.map some ++ List.replicate (n - xs.length) none
theorem vls_cat (ad : Nat → Nat) (xs : List AV) : ∀ v ∈ xs.map (vl ad), v.category = 1 := by
  intro v hv
  obtain ⟨x, -, rfl⟩ := List.mem_map.mp hv
  exact vl_cat ad x
theorem Lok_entry (ad : Nat → Nat) (xs : List AV) {n : Nat} (h : xs.length ≤ n) : Lok ad ((lg_sl (xs.map (vl ad)) ++ List.replicate (n - (lg_sl (xs.map (vl ad))).length) Slot.unset).toArray) n (enL xs n) := by
  have hs := lgs_len (xs.map (vl ad)) (vls_cat ad xs)
  have hl := lv_entry (xs.map (vl ad)) (n := n) (by rw [hs, List.length_map]; exact h)
  refine ⟨hl.1, by unfold enL; rw [List.length_append, List.length_map, List.length_replicate]; omega, hl.2.1, fun i v hv => ?_⟩
  have hx : xs[i]? = some v := by
    unfold enL at hv
    by_cases hi : i < xs.length
    · rw [List.getElem?_append_left (by rw [List.length_map]; exact hi), List.getElem?_map] at hv
      cases hxi : xs[i]? with
      | none => rw [hxi] at hv; cases hv
      | some y => rw [hxi] at hv; cases hv; rfl
    · rw [List.getElem?_append_right (by rw [List.length_map]; omega)] at hv
      have := List.eq_of_mem_replicate (List.mem_of_getElem? hv)
      cases this
  have hm := lva_mem (xs.map (vl ad)) 0 i (vl ad v) (vls_cat ad xs) (by rw [List.getElem?_map, hx]; rfl)
  rw [Nat.zero_add] at hm
  exact hl.2.2 (i, vl ad v) hm
theorem vl_args (ad : Nat → Nat) (xs : List Int32) : ((.inr 0 :: xs.map Sum.inl : List AV).map (vl ad)) = Value.ref (ad 0) :: xs.map Value.int := by
  simp [vl, Function.comp_def]
theorem vl_ints (ad : Nat → Nat) (xs : List Int32) : ((xs.map Sum.inl : List AV).map (vl ad)) = xs.map Value.int := by
  simp [vl, Function.comp_def]
/-! shapes of one step -/
def bop (f : Int32 → Int32 → Int32) (st : List AV) (k : List AV → Prop) : Prop := match st with
  | .inl y :: .inl x :: r => k (.inl (f x y) :: r)
  | _ => False
theorem bop_inv {f : Int32 → Int32 → Int32} {st : List AV} {k : List AV → Prop} (h : bop f st k) : ∃ x y r, st = .inl y :: .inl x :: r ∧ k (.inl (f x y) :: r) := by
  unfold bop at h
  split at h
  · exact ⟨_, _, _, rfl, h⟩
  · exact h.elim
def br2 (cd : ClassFile.Cond) (st : List AV) (kt kf : List AV → Prop) : Prop := match st with
  | .inl y :: .inl x :: r => match cd with
    | .eq => (x = y → kt r) ∧ (¬ x = y → kf r)
    | .ne => (x = y → kf r) ∧ (¬ x = y → kt r)
    | .lt => (x < y → kt r) ∧ (¬ x < y → kf r)
    | .ge => (x < y → kf r) ∧ (¬ x < y → kt r)
    | .gt => (y < x → kt r) ∧ (¬ y < x → kf r)
    | .le => (y < x → kf r) ∧ (¬ y < x → kt r)
  | _ => False
theorem br2_inv {cd : ClassFile.Cond} {st : List AV} {kt kf : List AV → Prop} (h : br2 cd st kt kf) : ∃ x y r, st = .inl y :: .inl x :: r := by
  unfold br2 at h
  split at h
  · exact ⟨_, _, _, rfl⟩
  · exact h.elim
def br1 (cd : ClassFile.Cond) (st : List AV) (kt kf : List AV → Prop) : Prop := match st with
  | .inl x :: r => match cd with
    | .eq => (x = 0 → kt r) ∧ (¬ x = 0 → kf r)
    | .ne => (x = 0 → kf r) ∧ (¬ x = 0 → kt r)
    | .lt => (x < 0 → kt r) ∧ (¬ x < 0 → kf r)
    | .ge => (x < 0 → kf r) ∧ (¬ x < 0 → kt r)
    | .gt => (0 < x → kt r) ∧ (¬ 0 < x → kf r)
    | .le => (0 < x → kf r) ∧ (¬ 0 < x → kt r)
  | _ => False
theorem br1_inv {cd : ClassFile.Cond} {st : List AV} {kt kf : List AV → Prop} (h : br1 cd st kt kf) : ∃ x r, st = .inl x :: r := by
  unfold br1 at h
  split at h
  · exact ⟨_, _, rfl⟩
  · exact h.elim
def ldi (L : LV) (i : Nat) (k : Int32 → Prop) : Prop := match L[i]? with
  | some (some (.inl x)) => k x
  | _ => False
theorem ldi_inv {L : LV} {i : Nat} {k : Int32 → Prop} (h : ldi L i k) : ∃ x, L[i]? = some (some (.inl x)) ∧ k x := by
  unfold ldi at h
  split at h
  · next x hx => exact ⟨x, hx, h⟩
  · exact h.elim
def lda (L : LV) (i : Nat) (k : Nat → Prop) : Prop := match L[i]? with
  | some (some (.inr x)) => k x
  | _ => False
theorem lda_inv {L : LV} {i : Nat} {k : Nat → Prop} (h : lda L i k) : ∃ x, L[i]? = some (some (.inr x)) ∧ k x := by
  unfold lda at h
  split at h
  · next x hx => exact ⟨x, hx, h⟩
  · exact h.elim
def sti (i : Nat) (st : List AV) (L : LV) (k : List AV → LV → Prop) : Prop := match L[i]?, st with
  | some _, .inl x :: r => k r (L.set i (some (.inl x)))
  | _, _ => False
theorem sti_inv {i : Nat} {st : List AV} {L : LV} {k : List AV → LV → Prop} (h : sti i st L k) : ∃ x r, st = .inl x :: r ∧ i < L.length ∧ k r (L.set i (some (.inl x))) := by
  unfold sti at h
  split at h
  · next hi => exact ⟨_, _, rfl, (List.getElem?_eq_some_iff.mp hi).1, h⟩
  · exact h.elim
def dvs (st : List AV) (k : List AV → Prop) : Prop := match st with
  | .inl y :: .inl x :: r => ¬ y = 0 ∧ k (.inl (x / y) :: r)
  | _ => False
theorem dvs_inv {st : List AV} {k : List AV → Prop} (h : dvs st k) : ∃ x y r, st = .inl y :: .inl x :: r ∧ ¬ y = 0 ∧ k (.inl (x / y) :: r) := by
  unfold dvs at h
  split at h
  · exact ⟨_, _, _, rfl, h⟩
  · exact h.elim
def du1 (st : List AV) (k : List AV → Prop) : Prop := match st with
  | x :: r => k (x :: x :: r)
  | _ => False
theorem du1_inv {st : List AV} {k : List AV → Prop} (h : du1 st k) : ∃ x r, st = x :: r ∧ k (x :: x :: r) := by
  unfold du1 at h
  split at h
  · exact ⟨_, _, rfl, h⟩
  · exact h.elim
def du2 (st : List AV) (k : List AV → Prop) : Prop := match st with
  | x :: y :: r => k (x :: y :: x :: y :: r)
  | _ => False
theorem du2_inv {st : List AV} {k : List AV → Prop} (h : du2 st k) : ∃ x y r, st = x :: y :: r ∧ k (x :: y :: x :: y :: r) := by
  unfold du2 at h
  split at h
  · exact ⟨_, _, _, rfl, h⟩
  · exact h.elim
def gts (st : List AV) (k : List AV → Prop) : Prop := match st with
  | .inr 0 :: r => k r
  | _ => False
theorem gts_inv {st : List AV} {k : List AV → Prop} (h : gts st k) : ∃ r, st = .inr 0 :: r ∧ k r := by
  unfold gts at h
  split at h
  · exact ⟨_, rfl, h⟩
  · exact h.elim
def pts (st : List AV) (k : Int32 → List AV → Prop) : Prop := match st with
  | .inl v :: .inr 0 :: r => k v r
  | _ => False
theorem pts_inv {st : List AV} {k : Int32 → List AV → Prop} (h : pts st k) : ∃ v r, st = .inl v :: .inr 0 :: r ∧ k v r := by
  unfold pts at h
  split at h
  · exact ⟨_, _, rfl, h⟩
  · exact h.elim
def als (st : List AV) (k : Int32 → Nat → List AV → Prop) : Prop := match st with
  | .inl i :: .inr r :: st => k i r st
  | _ => False
theorem als_inv {st : List AV} {k : Int32 → Nat → List AV → Prop} (h : als st k) : ∃ i r st1, st = .inl i :: .inr r :: st1 ∧ k i r st1 := by
  unfold als at h
  split at h
  · exact ⟨_, _, _, rfl, h⟩
  · exact h.elim
def ass (st : List AV) (k : Int32 → Int32 → Nat → List AV → Prop) : Prop := match st with
  | .inl x :: .inl i :: .inr r :: st => k x i r st
  | _ => False
theorem ass_inv {st : List AV} {k : Int32 → Int32 → Nat → List AV → Prop} (h : ass st k) : ∃ x i r st1, st = .inl x :: .inl i :: .inr r :: st1 ∧ k x i r st1 := by
  unfold ass at h
  split at h
  · exact ⟨_, _, _, _, rfl, h⟩
  · exact h.elim
def rti (rt : Option FieldType) (st : List AV) (k : Int32 → Prop) : Prop := match rt, st with
  | some _, [.inl v] => k v
  | _, _ => False
theorem rti_inv {rt : Option FieldType} {st : List AV} {k : Int32 → Prop} (h : rti rt st k) : ∃ ty v, rt = some ty ∧ st = [.inl v] ∧ k v := by
  unfold rti at h
  split at h
  · exact ⟨_, _, rfl, rfl, h⟩
  · exact h.elim
def rtv (rt : Option FieldType) (st : List AV) (k : Prop) : Prop := match rt, st with
  | none, [] => k
  | _, _ => False
theorem rtv_inv {rt : Option FieldType} {st : List AV} {k : Prop} (h : rtv rt st k) : rt = none ∧ st = [] ∧ k := by
  unfold rtv at h
  split at h
  · exact ⟨rfl, rfl, h⟩
  · exact h.elim
theorem cat_sum (ad : Nat → Nat) (st : List AV) : ((st.map (vl ad)).map fun v => v.category).sum = st.length := by
  induction st with
  | nil => rfl
  | cons v st ih =>
    rw [List.map_cons, List.map_cons, List.sum_cons, ih, vl_cat, List.length_cons, Nat.add_comm]
/-- the end of a call whose answer is an int or nothing -/
def qq {S : Type} (ret : Option FieldType) (post : Int32 → S → Prop) (B : S → State → Prop) (A : Nat → Prop) : Array Value → State → Outcome → State → Prop := fun _ st oc t => (∃ (r : Int32) (u : S), oc = .returned (rvv ret r) ∧ post r u ∧ B u t) ∧ va_F A st t
section QQ
variable {p : Program} {l : Launch} {e : Env} {R : Room} {s : State} {m : MethodId} {args : Array Value} {below : List Frame} {meth : Method} {c : Code} {H : Heap} {locs : List Loc} {cells slots : Nat} {Q : State → Prop}
variable {pc : Nat} {ls : Array Slot} {rest st0 : List Value} {a : Array Value} {A0 A1 : Nat → Prop} {H0 : Heap} {mc ms : Nat} {free : Addr → Prop}
theorem qq_call {S : Type} {ret : Option FieldType} {post : Int32 → S → Prop} {B : S → State → Prop} (hr : va_Run p l e R s m args below meth c H locs cells slots mc ms (F0 m pc ls st0) rest (qq ret post B A1 a) free) (hS : va_S A0 H0 H locs) (hA : ∀ q, q < H.size → A1 q → A0 q) (hf : ∀ q, free q → A0 q)
    (kk : ∀ (r : Int32) (u : S) (t : State) (H1 : Heap) (locs1 : List Loc), t.heap = H1 → s.vm.Alike t.vm → post r u → B u t → H.size ≤ H1.size → (∀ q : Nat, q < H.size → ¬ A1 q → H1[q]? = H[q]?) → va_S A0 H0 H1 locs1 → W p l e R s m args below meth c H1 locs1 (cells + mc) (slots + ms) Q (F0 m (pc + 3) ls ((rvv ret r).toList ++ rest))) : W p l e R s m args below meth c H locs cells slots Q (F0 m pc ls st0) := by
  intro T hT X
  obtain ⟨v, st₀, t, T', L, h0, X', hL, e1, e2, ⟨⟨r, u, hv, hp, hb⟩, hz, hk⟩, st⟩ := hr T hT X
  cases hv
  rw [h0] at hz hk
  obtain ⟨t2, a1, b1⟩ := kk r u t T'.heap (locs ++ L) e1.symm (by rw [← e2]; exact X'.warmed.alike) hp hb (by rw [e1]; exact hz) (fun q h1 h2 => by rw [e1]; exact hk q h1 h2)
    ⟨Nat.le_trans hS.1 (by rw [e1]; exact hz), fun q h1 h2 => by rw [e1, hk q (Nat.lt_of_lt_of_le h1 hS.1) (fun z => h2 (hA q (Nat.lt_of_lt_of_le h1 hS.1) z))]; exact hS.2.1 q h1 h2, fun q hq => by
      rcases List.mem_append.mp hq with h | h
      · exact hS.2.2 q h
      · exact hf _ (hL q h)⟩ T' rfl X'
  exact ⟨t2, st t2 a1, b1⟩
end QQ
def lenI (i : Instr) : Nat := match i with
  | .bipush _ => 2
  | .iload _ => 2
  | .istore _ => 2
  | .ldc _ => 2
  | .sipush _ => 3
  | .iinc _ _ => 3
  | .goto _ => 3
  | .ifCond _ _ => 3
  | .if_icmp _ _ => 3
  | .getfield _ => 3
  | .putfield _ => 3
  | .invokevirtual _ => 3
  | _ => 1
/-- an entry of a method's list is what stands in its code -/
def okE (cc : ByteArray) (ks : Int32 × Nat) (fl : List (Nat × Nat)) (q : EN) : Bool := decide (decode cc q.1 = .ok (q.2.1, lenI q.2.1)) && (match q.2.1 with
  | .iconst n => decide (Int32.ofInt n = q.2.2.1)
  | .bipush n => decide ((Int8.ofInt n).toInt32 = q.2.2.1)
  | .sipush n => decide ((Int16.ofInt n).toInt32 = q.2.2.1)
  | .ldc i => decide (i = ks.2 ∧ q.2.2.1 = ks.1)
  | .iinc _ n => decide (Int32.ofInt n = q.2.2.1)
  | .goto o => decide ((q.1 : Int) + o = (q.2.2.2 : Int))
  | .ifCond _ o => decide ((q.1 : Int) + o = (q.2.2.2 : Int))
  | .if_icmp _ o => decide ((q.1 : Int) + o = (q.2.2.2 : Int))
  | .getfield i => decide ((i, q.2.2.2) ∈ fl)
  | .putfield i => decide ((i, q.2.2.2) ∈ fl)
  | _ => true)
def lkp (pc : Nat) : List EN → Option EN
  | [] => none
  | q :: P => cond (Nat.beq q.1 pc) (some q) (lkp pc P)
theorem lkp_ok {pc : Nat} : ∀ {P : List EN} {q : EN}, lkp pc P = some q → q ∈ P ∧ q.1 = pc
  | [], q, h => by cases h
  | x :: P, q, h => by
    unfold lkp at h
    cases hb : Nat.beq x.1 pc with
    | true =>
      rw [hb] at h
      cases h
      exact ⟨List.mem_cons_self, Nat.eq_of_beq_eq_true hb⟩
    | false =>
      rw [hb] at h
      obtain ⟨h1, h2⟩ := lkp_ok (P := P) h
      exact ⟨List.mem_cons_of_mem _ h1, h2⟩
/-- only the values that are still asked for -/
def msk : List Bool → LV → LV
  | b :: bs, v :: L => cond b v none :: msk bs L
  | [], L => L
  | _ :: _, [] => []
theorem msk_len : ∀ (b : List Bool) (L : LV), (msk b L).length = L.length
  | b :: bs, v :: L => by rw [msk, List.length_cons, List.length_cons, msk_len bs L]
  | [], L => by rw [msk]
  | _ :: _, [] => rfl
theorem msk_get : ∀ (b : List Bool) (L : LV) (i : Nat) (v : AV), (msk b L)[i]? = some (some v) → L[i]? = some (some v)
  | b :: bs, w :: L, 0, v, h => by
    cases b with
    | true => exact h
    | false => exact absurd h (by simp [msk])
  | b :: bs, w :: L, i + 1, v, h => by
    rw [List.getElem?_cons_succ]
    rw [msk, List.getElem?_cons_succ] at h
    exact msk_get bs L i v h
  | [], L, i, v, h => by rw [msk] at h; exact h
  | _ :: _, [], i, v, h => by rw [msk] at h; exact h
theorem msk_ok {ad : Nat → Nat} {ls : Array Slot} {nL : Nat} {L : LV} {b : List Bool} (h : Lok ad ls nL L) : Lok ad ls nL (msk b L) := ⟨h.1, by rw [msk_len]; exact h.2.1, h.2.2.1, fun i v hi => h.2.2.2 i v (msk_get b L i v hi)⟩
def lkc (pc : Nat) : List (Nat × List Bool) → Option (List Bool)
  | [] => none
  | q :: P => cond (Nat.beq q.1 pc) (some q.2) (lkc pc P)
end
section
/-! the walk of the first: its cells, a step, a call -/
abbrev SX : Type := (Nat → Int32) × (Nat → Int32) × (Nat → Int32) × Int32 × (Nat → Int32) × (Nat → Int32) × (Nat → Int32) × Int32
def pX (ad : Nat → Nat) (dA : Nat → ClassId) (S : SX) : va_W := [(ad 0, .inr (0, [.ref (ad 1), .ref (ad 2), .ref (ad 3), .int S.2.2.2.1, .ref (ad 4), .ref (ad 5), .ref (ad 6), .int S.2.2.2.2.2.2.2])), (ad 1, .inl (dA 1, 2, .inl S.1)), (ad 2, .inl (dA 2, 16, .inl S.2.1)), (ad 3, .inl (dA 3, 96, .inl S.2.2.1)), (ad 4, .inl (dA 4, 8, .inl S.2.2.2.2.1)), (ad 5, .inl (dA 5, 8, .inl S.2.2.2.2.2.1)), (ad 6, .inl (dA 6, 65, .inl S.2.2.2.2.2.2.1))]
def tX (dA : Nat → ClassId) : List (ClassId × FieldType) := [(dA 1, .int), (dA 2, .int), (dA 3, .int), (dA 4, .int), (dA 5, .int), (dA 6, .int)]
def gfX (k : Nat) (S : SX) : AV := match k with
  | 0 => .inr 1
  | 1 => .inr 2
  | 2 => .inr 3
  | 3 => .inl S.2.2.2.1
  | 4 => .inr 4
  | 5 => .inr 5
  | 6 => .inr 6
  | _ => .inl S.2.2.2.2.2.2.2
def pfX (t : Nat) (v : Int32) (S : SX) (k : SX → Prop) : Prop := match t with
  | 3 => k (S.1, S.2.1, S.2.2.1, v, S.2.2.2.2.1, S.2.2.2.2.2.1, S.2.2.2.2.2.2.1, S.2.2.2.2.2.2.2)
  | 7 => k (S.1, S.2.1, S.2.2.1, S.2.2.2.1, S.2.2.2.2.1, S.2.2.2.2.2.1, S.2.2.2.2.2.2.1, v)
  | _ => False
def aldX (r : Nat) (i : Int32) (S : SX) (k : Int32 → Prop) : Prop := match r with
  | 1 => vp_in i 2 ∧ k (S.1 i.toNatClampNeg)
  | 2 => vp_in i 16 ∧ k (S.2.1 i.toNatClampNeg)
  | 3 => vp_in i 96 ∧ k (S.2.2.1 i.toNatClampNeg)
  | 4 => vp_in i 8 ∧ k (S.2.2.2.2.1 i.toNatClampNeg)
  | 5 => vp_in i 8 ∧ k (S.2.2.2.2.2.1 i.toNatClampNeg)
  | 6 => vp_in i 65 ∧ k (S.2.2.2.2.2.2.1 i.toNatClampNeg)
  | _ => False
theorem aldX_inv {r : Nat} {i : Int32} {S : SX} {k : Int32 → Prop} (h : aldX r i S k) : (r = 1 ∧ vp_in i 2 ∧ k (S.1 i.toNatClampNeg)) ∨ (r = 2 ∧ vp_in i 16 ∧ k (S.2.1 i.toNatClampNeg)) ∨ (r = 3 ∧ vp_in i 96 ∧ k (S.2.2.1 i.toNatClampNeg)) ∨ (r = 4 ∧ vp_in i 8 ∧ k (S.2.2.2.2.1 i.toNatClampNeg)) ∨ (r = 5 ∧ vp_in i 8 ∧ k (S.2.2.2.2.2.1 i.toNatClampNeg)) ∨ (r = 6 ∧ vp_in i 65 ∧ k (S.2.2.2.2.2.2.1 i.toNatClampNeg)) := by
  unfold aldX at h
  split at h
  · exact Or.inl ⟨rfl, h⟩
  · exact Or.inr (Or.inl ⟨rfl, h⟩)
  · exact Or.inr (Or.inr (Or.inl ⟨rfl, h⟩))
  · exact Or.inr (Or.inr (Or.inr (Or.inl ⟨rfl, h⟩)))
  · exact Or.inr (Or.inr (Or.inr (Or.inr (Or.inl ⟨rfl, h⟩))))
  · exact Or.inr (Or.inr (Or.inr (Or.inr (Or.inr (⟨rfl, h⟩)))))
  · exact h.elim
def astX (r : Nat) (i x : Int32) (S : SX) (k : SX → Prop) : Prop := match r with
  | 1 => vp_in i 2 ∧ k (upd (S.1) i.toNatClampNeg x, S.2.1, S.2.2.1, S.2.2.2.1, S.2.2.2.2.1, S.2.2.2.2.2.1, S.2.2.2.2.2.2.1, S.2.2.2.2.2.2.2)
  | 2 => vp_in i 16 ∧ k (S.1, upd (S.2.1) i.toNatClampNeg x, S.2.2.1, S.2.2.2.1, S.2.2.2.2.1, S.2.2.2.2.2.1, S.2.2.2.2.2.2.1, S.2.2.2.2.2.2.2)
  | 3 => vp_in i 96 ∧ k (S.1, S.2.1, upd (S.2.2.1) i.toNatClampNeg x, S.2.2.2.1, S.2.2.2.2.1, S.2.2.2.2.2.1, S.2.2.2.2.2.2.1, S.2.2.2.2.2.2.2)
  | 4 => vp_in i 8 ∧ k (S.1, S.2.1, S.2.2.1, S.2.2.2.1, upd (S.2.2.2.2.1) i.toNatClampNeg x, S.2.2.2.2.2.1, S.2.2.2.2.2.2.1, S.2.2.2.2.2.2.2)
  | 5 => vp_in i 8 ∧ k (S.1, S.2.1, S.2.2.1, S.2.2.2.1, S.2.2.2.2.1, upd (S.2.2.2.2.2.1) i.toNatClampNeg x, S.2.2.2.2.2.2.1, S.2.2.2.2.2.2.2)
  | 6 => vp_in i 65 ∧ k (S.1, S.2.1, S.2.2.1, S.2.2.2.1, S.2.2.2.2.1, S.2.2.2.2.2.1, upd (S.2.2.2.2.2.2.1) i.toNatClampNeg x, S.2.2.2.2.2.2.2)
  | _ => False
theorem astX_inv {r : Nat} {i x : Int32} {S : SX} {k : SX → Prop} (h : astX r i x S k) : (r = 1 ∧ vp_in i 2 ∧ k (upd (S.1) i.toNatClampNeg x, S.2.1, S.2.2.1, S.2.2.2.1, S.2.2.2.2.1, S.2.2.2.2.2.1, S.2.2.2.2.2.2.1, S.2.2.2.2.2.2.2)) ∨ (r = 2 ∧ vp_in i 16 ∧ k (S.1, upd (S.2.1) i.toNatClampNeg x, S.2.2.1, S.2.2.2.1, S.2.2.2.2.1, S.2.2.2.2.2.1, S.2.2.2.2.2.2.1, S.2.2.2.2.2.2.2)) ∨ (r = 3 ∧ vp_in i 96 ∧ k (S.1, S.2.1, upd (S.2.2.1) i.toNatClampNeg x, S.2.2.2.1, S.2.2.2.2.1, S.2.2.2.2.2.1, S.2.2.2.2.2.2.1, S.2.2.2.2.2.2.2)) ∨ (r = 4 ∧ vp_in i 8 ∧ k (S.1, S.2.1, S.2.2.1, S.2.2.2.1, upd (S.2.2.2.2.1) i.toNatClampNeg x, S.2.2.2.2.2.1, S.2.2.2.2.2.2.1, S.2.2.2.2.2.2.2)) ∨ (r = 5 ∧ vp_in i 8 ∧ k (S.1, S.2.1, S.2.2.1, S.2.2.2.1, S.2.2.2.2.1, upd (S.2.2.2.2.2.1) i.toNatClampNeg x, S.2.2.2.2.2.2.1, S.2.2.2.2.2.2.2)) ∨ (r = 6 ∧ vp_in i 65 ∧ k (S.1, S.2.1, S.2.2.1, S.2.2.2.1, S.2.2.2.2.1, S.2.2.2.2.2.1, upd (S.2.2.2.2.2.2.1) i.toNatClampNeg x, S.2.2.2.2.2.2.2)) := by
  unfold astX at h
  split at h
  · exact Or.inl ⟨rfl, h⟩
  · exact Or.inr (Or.inl ⟨rfl, h⟩)
  · exact Or.inr (Or.inr (Or.inl ⟨rfl, h⟩))
  · exact Or.inr (Or.inr (Or.inr (Or.inl ⟨rfl, h⟩)))
  · exact Or.inr (Or.inr (Or.inr (Or.inr (Or.inl ⟨rfl, h⟩))))
  · exact Or.inr (Or.inr (Or.inr (Or.inr (Or.inr (⟨rfl, h⟩)))))
  · exact h.elim
def flX : List (Nat × Nat) := [(7, 0), (13, 1), (16, 2), (33, 3), (19, 4), (22, 5), (25, 6), (29, 7)]
def ksX : Int32 × Nat := (1000000, 28)
def stpX (rt : Option FieldType) (post : Int32 → SX → Prop) (ins : Instr) (c : Int32) (t pc : Nat) (st : List AV) (L : LV) (S : SX) (k : Nat → List AV → LV → SX → Prop) : Prop := match ins with
  | .iconst _ => k (pc + 1) (.inl c :: st) L S
  | .bipush _ => k (pc + 2) (.inl c :: st) L S
  | .sipush _ => k (pc + 3) (.inl c :: st) L S
  | .ldc _ => k (pc + 2) (.inl c :: st) L S
  | .iload_n i => ldi L i.val (fun v => k (pc + 1) (.inl v :: st) L S)
  | .iload i => ldi L i (fun v => k (pc + 2) (.inl v :: st) L S)
  | .aload_n i => lda L i.val (fun v => k (pc + 1) (.inr v :: st) L S)
  | .istore_n i => sti i.val st L (fun st L => k (pc + 1) st L S)
  | .istore i => sti i st L (fun st L => k (pc + 2) st L S)
  | .iinc i _ => ldi L i (fun v => k (pc + 3) st (L.set i (some (.inl (v + c)))) S)
  | .iadd => bop (fun x y => x + y) st (fun st => k (pc + 1) st L S)
  | .isub => bop (fun x y => x - y) st (fun st => k (pc + 1) st L S)
  | .imul => bop (fun x y => x * y) st (fun st => k (pc + 1) st L S)
  | .iand => bop (fun x y => x &&& y) st (fun st => k (pc + 1) st L S)
  | .ior => bop (fun x y => x ||| y) st (fun st => k (pc + 1) st L S)
  | .ixor => bop (fun x y => x ^^^ y) st (fun st => k (pc + 1) st L S)
  | .ishl => bop (fun x y => x <<< (y &&& 31)) st (fun st => k (pc + 1) st L S)
  | .ishr => bop (fun x y => x >>> (y &&& 31)) st (fun st => k (pc + 1) st L S)
  | .idiv => dvs st (fun st => k (pc + 1) st L S)
  | .dup => du1 st (fun st => k (pc + 1) st L S)
  | .dup2 => du2 st (fun st => k (pc + 1) st L S)
  | .goto _ => k t st L S
  | .ifCond cd _ => br1 cd st (fun r => k t r L S) (fun r => k (pc + 3) r L S)
  | .if_icmp cd _ => br2 cd st (fun r => k t r L S) (fun r => k (pc + 3) r L S)
  | .getfield _ => gts st (fun r => k (pc + 3) (gfX t S :: r) L S)
  | .putfield _ => pts st (fun v r => pfX t v S (fun S => k (pc + 3) r L S))
  | .iaload => als st (fun i r st => aldX r i S (fun v => k (pc + 1) (.inl v :: st) L S))
  | .iastore => ass st (fun x i r st => astX r i x S (fun S => k (pc + 1) st L S))
  | .ireturn => rti rt st (fun v => post v S)
  | .return_ => rtv rt st (post 0 S)
  | _ => False
def cxX (d : MD) (p : Program) (s : State) (m : MethodId) (args : Array Value) (meth : Method) (c : Code) (D : va_G) (dA : Nat → ClassId) (A : Nat → Prop) : Prop := p.tables.exec = Jvm.exec ∧ c.code = d.1 ∧ meth.sig.returnType = d.2.2.1 ∧ meth.locks = false ∧ c.maxLocals = d.2.1 ∧ s.vm.findClass RX0 = some m.cls ∧ (∀ w ∈ lw_all, w.before args s = true) ∧ (∀ q : Nat, s.heap.size ≤ q → A q) ∧ va_K D vwCl (tX dA) s
def piX (D : va_G) (dA : Nat → ClassId) (ad : Nat → Nat) (A : Nat → Prop) (s : State) (S : SX) (H : Heap) (locs : List Loc) : Prop := va_P D vwCl (pX ad dA S) H ∧ va_D A (pX ad dA S) ∧ va_S A s.heap H locs
def BX (D : va_G) (dA : Nat → ClassId) (ad : Nat → Nat) (A : Nat → Prop) (u : SX) (t : State) : Prop := va_P D vwCl (pX ad dA u) t.heap ∧ va_K D vwCl (tX dA) t ∧ va_D A (pX ad dA u)
/-- from pc on, with this stack, these values and these cells, the method comes to its end with post -/
def VX (d : MD) (post : Int32 → SX → Prop) (pc : Nat) (st : List AV) (L : LV) (S : SX) : Prop := (∀ v S1, post v S1 → rok d.2.2.1 v) → ∀ (p : Program) (l : Launch) (e : Env) (s : State) (m : MethodId) (args : Array Value) (below : List Frame) (meth : Method) (c : Code) (D : va_G) (dA : Nat → ClassId) (ad : Nat → Nat) (A : Nat → Prop), cxX d p s m args meth c D dA A → ∀ (H : Heap) (locs : List Loc) (ls : Array Slot), piX D dA ad A s S H locs → Lok ad ls d.2.1 L → W p l e (rmD d) s m args below meth c H locs 0 0 (MQ below (qq d.2.2.1 post (BX D dA ad A) A) args s 0 0 A) (F0 m pc ls (st.map (vl ad)))
set_option maxHeartbeats 4000000 in
theorem stpX_sound {d : MD} {post : Int32 → SX → Prop} {ins : Instr} {c : Int32} {t pc : Nat} {st : List AV} {L : LV} {S : SX} {k : Nat → List AV → LV → SX → Prop} (hE : okE d.1 ksX flX (pc, ins, c, t) = true) (hk : ∀ pc st L S, k pc st L S → VX d post pc st L S) (h : stpX d.2.2.1 post ins c t pc st L S k) : VX d post pc st L S := by
  obtain ⟨hd0, hw⟩ := Bool.and_eq_true_iff.mp hE
  have hd := of_decide_eq_true hd0
  clear hd0 hE
  dsimp only at hd hw
  cases ins with
  | iconst n =>
    have hw : Int32.ofInt n = c := of_decide_eq_true hw
    have h : k (pc + 1) (.inl c :: st) L S := h
    intro hrt p l e s m args below meth cd D dA ad A hc H locs ls hp hl
    exact lv_iconst hc.1 hc.2.1 hd hw (hk _ _ _ _ h hrt p l e s m args below meth cd D dA ad A hc H locs ls hp hl)
  | bipush n =>
    have hw : (Int8.ofInt n).toInt32 = c := of_decide_eq_true hw
    have h : k (pc + 2) (.inl c :: st) L S := h
    intro hrt p l e s m args below meth cd D dA ad A hc H locs ls hp hl
    exact lv_bipush hc.1 hc.2.1 hd hw (hk _ _ _ _ h hrt p l e s m args below meth cd D dA ad A hc H locs ls hp hl)
  | sipush n =>
    have hw : (Int16.ofInt n).toInt32 = c := of_decide_eq_true hw
    have h : k (pc + 3) (.inl c :: st) L S := h
    intro hrt p l e s m args below meth cd D dA ad A hc H locs ls hp hl
    exact lv_sipush hc.1 hc.2.1 hd hw (hk _ _ _ _ h hrt p l e s m args below meth cd D dA ad A hc H locs ls hp hl)
  | ldc i =>
    have hw : i = ksX.2 ∧ c = ksX.1 := of_decide_eq_true hw
    obtain ⟨rfl, rfl⟩ := hw
    have h : k (pc + 2) (.inl ksX.1 :: st) L S := h
    intro hrt p l e s m args below meth cd D dA ad A hc H locs ls hp hl
    exact lv_ldc hc.1 hc.2.1 hc.2.2.2.2.2.1 (hc.2.2.2.2.2.2.1 _ q78) hd (hk _ _ _ _ h hrt p l e s m args below meth cd D dA ad A hc H locs ls hp hl)
  | iload_n i =>
    have h : ldi L i.val (fun v => k (pc + 1) (.inl v :: st) L S) := h
    obtain ⟨x, hx, h⟩ := ldi_inv h
    intro hrt p l e s m args below meth cd D dA ad A hc H locs ls hp hl
    exact lv_iload_n hc.1 hc.2.1 hd rfl (hl.2.2.2 _ _ hx) (hk _ _ _ _ h hrt p l e s m args below meth cd D dA ad A hc H locs ls hp hl)
  | iload i =>
    have h : ldi L i (fun v => k (pc + 2) (.inl v :: st) L S) := h
    obtain ⟨x, hx, h⟩ := ldi_inv h
    intro hrt p l e s m args below meth cd D dA ad A hc H locs ls hp hl
    exact lv_iload hc.1 hc.2.1 hd (hl.2.2.2 _ _ hx) (hk _ _ _ _ h hrt p l e s m args below meth cd D dA ad A hc H locs ls hp hl)
  | aload_n i =>
    have h : lda L i.val (fun v => k (pc + 1) (.inr v :: st) L S) := h
    obtain ⟨x, hx, h⟩ := lda_inv h
    intro hrt p l e s m args below meth cd D dA ad A hc H locs ls hp hl
    exact lv_aload_n hc.1 hc.2.1 hd rfl (hl.2.2.2 _ _ hx) (hk _ _ _ _ h hrt p l e s m args below meth cd D dA ad A hc H locs ls hp hl)
  | istore_n i =>
    have h : sti i.val st L (fun st L => k (pc + 1) st L S) := h
    obtain ⟨x, r, rfl, hi, h⟩ := sti_inv h
    intro hrt p l e s m args below meth cd D dA ad A hc H locs ls hp hl
    exact lv_istore_n hc.1 hc.2.1 hd rfl (allv_has hl) (hl.2.1 ▸ hi) rfl (fun ls1 hl1 => hk _ _ _ _ h hrt p l e s m args below meth cd D dA ad A hc H locs ls1 hp (Lok_set (v := .inl x) hl hl1 (fun _ q => q)))
  | istore i =>
    have h : sti i st L (fun st L => k (pc + 2) st L S) := h
    obtain ⟨x, r, rfl, hi, h⟩ := sti_inv h
    intro hrt p l e s m args below meth cd D dA ad A hc H locs ls hp hl
    exact lv_istore hc.1 hc.2.1 hd (allv_has hl) (hl.2.1 ▸ hi) rfl (fun ls1 hl1 => hk _ _ _ _ h hrt p l e s m args below meth cd D dA ad A hc H locs ls1 hp (Lok_set (v := .inl x) hl hl1 (fun _ q => q)))
  | iinc i n =>
    have h : ldi L i (fun v => k (pc + 3) st (L.set i (some (.inl (v + c)))) S) := h
    have hw : Int32.ofInt n = c := of_decide_eq_true hw
    obtain ⟨x, hx, h⟩ := ldi_inv h
    intro hrt p l e s m args below meth cd D dA ad A hc H locs ls hp hl
    exact lv_iinc (k := 0) (lv := (i, .int x) :: allv ls) (v := x + c) hc.1 hc.2.1 hd ⟨hl.1, hl.2.2.1, List.forall_mem_cons.mpr ⟨hl.2.2.2 _ _ hx, fun _ hq => allv_ok hq⟩⟩ rfl (by rw [hw]) (Lok_lt hl hx) rfl (fun ls1 hl1 => hk _ _ _ _ h hrt p l e s m args below meth cd D dA ad A hc H locs ls1 hp (Lok_set (v := .inl (x + c)) hl hl1 (fun _ q => List.mem_cons_of_mem _ q)))
  | iadd =>
    have h : bop (fun x y => x + y) st (fun st => k (pc + 1) st L S) := h
    obtain ⟨x, y, r, rfl, h⟩ := bop_inv h
    intro hrt p l e s m args below meth cd D dA ad A hc H locs ls hp hl
    exact lv_iadd hc.1 hc.2.1 hd (hk _ _ _ _ h hrt p l e s m args below meth cd D dA ad A hc H locs ls hp hl)
  | isub =>
    have h : bop (fun x y => x - y) st (fun st => k (pc + 1) st L S) := h
    obtain ⟨x, y, r, rfl, h⟩ := bop_inv h
    intro hrt p l e s m args below meth cd D dA ad A hc H locs ls hp hl
    exact lv_isub hc.1 hc.2.1 hd (hk _ _ _ _ h hrt p l e s m args below meth cd D dA ad A hc H locs ls hp hl)
  | imul =>
    have h : bop (fun x y => x * y) st (fun st => k (pc + 1) st L S) := h
    obtain ⟨x, y, r, rfl, h⟩ := bop_inv h
    intro hrt p l e s m args below meth cd D dA ad A hc H locs ls hp hl
    exact lv_imul hc.1 hc.2.1 hd (hk _ _ _ _ h hrt p l e s m args below meth cd D dA ad A hc H locs ls hp hl)
  | iand =>
    have h : bop (fun x y => x &&& y) st (fun st => k (pc + 1) st L S) := h
    obtain ⟨x, y, r, rfl, h⟩ := bop_inv h
    intro hrt p l e s m args below meth cd D dA ad A hc H locs ls hp hl
    exact lv_iand hc.1 hc.2.1 hd (hk _ _ _ _ h hrt p l e s m args below meth cd D dA ad A hc H locs ls hp hl)
  | ior =>
    have h : bop (fun x y => x ||| y) st (fun st => k (pc + 1) st L S) := h
    obtain ⟨x, y, r, rfl, h⟩ := bop_inv h
    intro hrt p l e s m args below meth cd D dA ad A hc H locs ls hp hl
    exact lv_ior hc.1 hc.2.1 hd (hk _ _ _ _ h hrt p l e s m args below meth cd D dA ad A hc H locs ls hp hl)
  | ixor =>
    have h : bop (fun x y => x ^^^ y) st (fun st => k (pc + 1) st L S) := h
    obtain ⟨x, y, r, rfl, h⟩ := bop_inv h
    intro hrt p l e s m args below meth cd D dA ad A hc H locs ls hp hl
    exact lv_ixor hc.1 hc.2.1 hd (hk _ _ _ _ h hrt p l e s m args below meth cd D dA ad A hc H locs ls hp hl)
  | ishl =>
    have h : bop (fun x y => x <<< (y &&& 31)) st (fun st => k (pc + 1) st L S) := h
    obtain ⟨x, y, r, rfl, h⟩ := bop_inv h
    intro hrt p l e s m args below meth cd D dA ad A hc H locs ls hp hl
    exact lv_ishl hc.1 hc.2.1 hd (hk _ _ _ _ h hrt p l e s m args below meth cd D dA ad A hc H locs ls hp hl)
  | ishr =>
    have h : bop (fun x y => x >>> (y &&& 31)) st (fun st => k (pc + 1) st L S) := h
    obtain ⟨x, y, r, rfl, h⟩ := bop_inv h
    intro hrt p l e s m args below meth cd D dA ad A hc H locs ls hp hl
    exact lv_ishr hc.1 hc.2.1 hd (hk _ _ _ _ h hrt p l e s m args below meth cd D dA ad A hc H locs ls hp hl)
  | idiv =>
    have h : dvs st (fun st => k (pc + 1) st L S) := h
    obtain ⟨x, y, r, rfl, h0, h⟩ := dvs_inv h
    intro hrt p l e s m args below meth cd D dA ad A hc H locs ls hp hl
    exact lv_idiv hc.1 hc.2.1 hd h0 (hk _ _ _ _ h hrt p l e s m args below meth cd D dA ad A hc H locs ls hp hl)
  | dup =>
    have h : du1 st (fun st => k (pc + 1) st L S) := h
    obtain ⟨x, r, rfl, h⟩ := du1_inv h
    intro hrt p l e s m args below meth cd D dA ad A hc H locs ls hp hl
    exact lv_dup hc.1 hc.2.1 hd (vl_cat ad x) (hk _ _ _ _ h hrt p l e s m args below meth cd D dA ad A hc H locs ls hp hl)
  | dup2 =>
    have h : du2 st (fun st => k (pc + 1) st L S) := h
    obtain ⟨x, y, r, rfl, h⟩ := du2_inv h
    intro hrt p l e s m args below meth cd D dA ad A hc H locs ls hp hl
    exact lv_dup2_11 hc.1 hc.2.1 hd (vl_cat ad x) (vl_cat ad y) (hk _ _ _ _ h hrt p l e s m args below meth cd D dA ad A hc H locs ls hp hl)
  | goto o =>
    have hw2 : (pc : Int) + o = (t : Int) := of_decide_eq_true hw
    have h : k t st L S := h
    intro hrt p l e s m args below meth cd D dA ad A hc H locs ls hp hl
    exact lv_goto hc.1 hc.2.1 hd hw2 (hk _ _ _ _ h hrt p l e s m args below meth cd D dA ad A hc H locs ls hp hl)
  | ifCond cd o =>
    have h : br1 cd st (fun r => k t r L S) (fun r => k (pc + 3) r L S) := h
    have hw2 : (pc : Int) + o = (t : Int) := of_decide_eq_true hw
    obtain ⟨x, r, rfl⟩ := br1_inv h
    cases cd with
    | eq =>
      have h : (x = 0 → k t r L S) ∧ (¬ x = 0 → k (pc + 3) r L S) := h
      intro hrt p l e s m args below meth cod D dA ad A hc H locs ls hp hl
      exact lv_if_eq hc.1 hc.2.1 hd hw2 (fun z => hk _ _ _ _ (h.1 z) hrt p l e s m args below meth cod D dA ad A hc H locs ls hp hl) (fun z => hk _ _ _ _ (h.2 z) hrt p l e s m args below meth cod D dA ad A hc H locs ls hp hl)
    | ne =>
      have h : (x = 0 → k (pc + 3) r L S) ∧ (¬ x = 0 → k t r L S) := h
      intro hrt p l e s m args below meth cod D dA ad A hc H locs ls hp hl
      exact lv_if_ne hc.1 hc.2.1 hd hw2 (fun z => hk _ _ _ _ (h.2 z) hrt p l e s m args below meth cod D dA ad A hc H locs ls hp hl) (fun z => hk _ _ _ _ (h.1 z) hrt p l e s m args below meth cod D dA ad A hc H locs ls hp hl)
    | lt =>
      have h : (x < 0 → k t r L S) ∧ (¬ x < 0 → k (pc + 3) r L S) := h
      intro hrt p l e s m args below meth cod D dA ad A hc H locs ls hp hl
      exact lv_if_lt hc.1 hc.2.1 hd hw2 (fun z => hk _ _ _ _ (h.1 z) hrt p l e s m args below meth cod D dA ad A hc H locs ls hp hl) (fun z => hk _ _ _ _ (h.2 z) hrt p l e s m args below meth cod D dA ad A hc H locs ls hp hl)
    | ge =>
      have h : (x < 0 → k (pc + 3) r L S) ∧ (¬ x < 0 → k t r L S) := h
      intro hrt p l e s m args below meth cod D dA ad A hc H locs ls hp hl
      exact lv_if_ge hc.1 hc.2.1 hd hw2 (fun z => hk _ _ _ _ (h.2 (Int32.not_lt.mpr z)) hrt p l e s m args below meth cod D dA ad A hc H locs ls hp hl) (fun z => hk _ _ _ _ (h.1 (Int32.not_le.mp z)) hrt p l e s m args below meth cod D dA ad A hc H locs ls hp hl)
    | gt =>
      have h : (0 < x → k t r L S) ∧ (¬ 0 < x → k (pc + 3) r L S) := h
      intro hrt p l e s m args below meth cod D dA ad A hc H locs ls hp hl
      exact lv_if_gt hc.1 hc.2.1 hd hw2 (fun z => hk _ _ _ _ (h.1 z) hrt p l e s m args below meth cod D dA ad A hc H locs ls hp hl) (fun z => hk _ _ _ _ (h.2 z) hrt p l e s m args below meth cod D dA ad A hc H locs ls hp hl)
    | le =>
      have h : (0 < x → k (pc + 3) r L S) ∧ (¬ 0 < x → k t r L S) := h
      intro hrt p l e s m args below meth cod D dA ad A hc H locs ls hp hl
      exact lv_if_le hc.1 hc.2.1 hd hw2 (fun z => hk _ _ _ _ (h.2 (Int32.not_lt.mpr z)) hrt p l e s m args below meth cod D dA ad A hc H locs ls hp hl) (fun z => hk _ _ _ _ (h.1 (Int32.not_le.mp z)) hrt p l e s m args below meth cod D dA ad A hc H locs ls hp hl)
  | if_icmp cd o =>
    have h : br2 cd st (fun r => k t r L S) (fun r => k (pc + 3) r L S) := h
    have hw2 : (pc : Int) + o = (t : Int) := of_decide_eq_true hw
    obtain ⟨x, y, r, rfl⟩ := br2_inv h
    cases cd with
    | eq =>
      have h : (x = y → k t r L S) ∧ (¬ x = y → k (pc + 3) r L S) := h
      intro hrt p l e s m args below meth cod D dA ad A hc H locs ls hp hl
      exact lv_icmp_eq hc.1 hc.2.1 hd hw2 (fun z => hk _ _ _ _ (h.1 z) hrt p l e s m args below meth cod D dA ad A hc H locs ls hp hl) (fun z => hk _ _ _ _ (h.2 z) hrt p l e s m args below meth cod D dA ad A hc H locs ls hp hl)
    | ne =>
      have h : (x = y → k (pc + 3) r L S) ∧ (¬ x = y → k t r L S) := h
      intro hrt p l e s m args below meth cod D dA ad A hc H locs ls hp hl
      exact lv_icmp_ne hc.1 hc.2.1 hd hw2 (fun z => hk _ _ _ _ (h.2 z) hrt p l e s m args below meth cod D dA ad A hc H locs ls hp hl) (fun z => hk _ _ _ _ (h.1 z) hrt p l e s m args below meth cod D dA ad A hc H locs ls hp hl)
    | lt =>
      have h : (x < y → k t r L S) ∧ (¬ x < y → k (pc + 3) r L S) := h
      intro hrt p l e s m args below meth cod D dA ad A hc H locs ls hp hl
      exact lv_icmp_lt hc.1 hc.2.1 hd hw2 (fun z => hk _ _ _ _ (h.1 z) hrt p l e s m args below meth cod D dA ad A hc H locs ls hp hl) (fun z => hk _ _ _ _ (h.2 z) hrt p l e s m args below meth cod D dA ad A hc H locs ls hp hl)
    | ge =>
      have h : (x < y → k (pc + 3) r L S) ∧ (¬ x < y → k t r L S) := h
      intro hrt p l e s m args below meth cod D dA ad A hc H locs ls hp hl
      exact lv_icmp_ge hc.1 hc.2.1 hd hw2 (fun z => hk _ _ _ _ (h.2 (Int32.not_lt.mpr z)) hrt p l e s m args below meth cod D dA ad A hc H locs ls hp hl) (fun z => hk _ _ _ _ (h.1 (Int32.not_le.mp z)) hrt p l e s m args below meth cod D dA ad A hc H locs ls hp hl)
    | gt =>
      have h : (y < x → k t r L S) ∧ (¬ y < x → k (pc + 3) r L S) := h
      intro hrt p l e s m args below meth cod D dA ad A hc H locs ls hp hl
      exact lv_icmp_gt hc.1 hc.2.1 hd hw2 (fun z => hk _ _ _ _ (h.1 z) hrt p l e s m args below meth cod D dA ad A hc H locs ls hp hl) (fun z => hk _ _ _ _ (h.2 z) hrt p l e s m args below meth cod D dA ad A hc H locs ls hp hl)
    | le =>
      have h : (y < x → k (pc + 3) r L S) ∧ (¬ y < x → k t r L S) := h
      intro hrt p l e s m args below meth cod D dA ad A hc H locs ls hp hl
      exact lv_icmp_le hc.1 hc.2.1 hd hw2 (fun z => hk _ _ _ _ (h.2 (Int32.not_lt.mpr z)) hrt p l e s m args below meth cod D dA ad A hc H locs ls hp hl) (fun z => hk _ _ _ _ (h.1 (Int32.not_le.mp z)) hrt p l e s m args below meth cod D dA ad A hc H locs ls hp hl)
  | getfield i =>
    have h : gts st (fun r => k (pc + 3) (gfX t S :: r) L S) := h
    have hw2 : (i, t) ∈ flX := of_decide_eq_true hw
    obtain ⟨r, rfl, h⟩ := gts_inv h
    intro hrt p l e s m args below meth cd D dA ad A hc H locs ls hp hl
    have hts : ∀ w ∈ lw_all, w.before args s = true := hc.2.2.2.2.2.2.1
    have hK := hc.2.2.2.2.2.2.2.2
    simp only [flX, List.mem_cons, Prod.mk.injEq, List.not_mem_nil, or_false] at hw2
    rcases hw2 with ⟨rfl, rfl⟩ | ⟨rfl, rfl⟩ | ⟨rfl, rfl⟩ | ⟨rfl, rfl⟩ | ⟨rfl, rfl⟩ | ⟨rfl, rfl⟩ | ⟨rfl, rfl⟩ | ⟨rfl, rfl⟩
    · exact va_get (D := D) (ci := 0) (C := RX0) (T := TX0) (N := 8) hc.1 hc.2.1 hts in_X0 hc.2.2.2.2.2.1 hK hp.1 0 rfl rfl 0 (by decide) (hts _ q40) (fun _ h9 => h9) rfl hd (hk _ _ _ _ h hrt p l e s m args below meth cd D dA ad A hc H locs ls hp hl)
    · exact va_get (D := D) (ci := 0) (C := RX0) (T := TX0) (N := 8) hc.1 hc.2.1 hts in_X0 hc.2.2.2.2.2.1 hK hp.1 0 rfl rfl 1 (by decide) (hts _ q41) (fun _ h9 => h9) rfl hd (hk _ _ _ _ h hrt p l e s m args below meth cd D dA ad A hc H locs ls hp hl)
    · exact va_get (D := D) (ci := 0) (C := RX0) (T := TX0) (N := 8) hc.1 hc.2.1 hts in_X0 hc.2.2.2.2.2.1 hK hp.1 0 rfl rfl 2 (by decide) (hts _ q42) (fun _ h9 => h9) rfl hd (hk _ _ _ _ h hrt p l e s m args below meth cd D dA ad A hc H locs ls hp hl)
    · exact va_get (D := D) (ci := 0) (C := RX0) (T := TX0) (N := 8) hc.1 hc.2.1 hts in_X0 hc.2.2.2.2.2.1 hK hp.1 0 rfl rfl 3 (by decide) (hts _ q43) (fun _ h9 => h9) rfl hd (hk _ _ _ _ h hrt p l e s m args below meth cd D dA ad A hc H locs ls hp hl)
    · exact va_get (D := D) (ci := 0) (C := RX0) (T := TX0) (N := 8) hc.1 hc.2.1 hts in_X0 hc.2.2.2.2.2.1 hK hp.1 0 rfl rfl 4 (by decide) (hts _ q44) (fun _ h9 => h9) rfl hd (hk _ _ _ _ h hrt p l e s m args below meth cd D dA ad A hc H locs ls hp hl)
    · exact va_get (D := D) (ci := 0) (C := RX0) (T := TX0) (N := 8) hc.1 hc.2.1 hts in_X0 hc.2.2.2.2.2.1 hK hp.1 0 rfl rfl 5 (by decide) (hts _ q45) (fun _ h9 => h9) rfl hd (hk _ _ _ _ h hrt p l e s m args below meth cd D dA ad A hc H locs ls hp hl)
    · exact va_get (D := D) (ci := 0) (C := RX0) (T := TX0) (N := 8) hc.1 hc.2.1 hts in_X0 hc.2.2.2.2.2.1 hK hp.1 0 rfl rfl 6 (by decide) (hts _ q46) (fun _ h9 => h9) rfl hd (hk _ _ _ _ h hrt p l e s m args below meth cd D dA ad A hc H locs ls hp hl)
    · exact va_get (D := D) (ci := 0) (C := RX0) (T := TX0) (N := 8) hc.1 hc.2.1 hts in_X0 hc.2.2.2.2.2.1 hK hp.1 0 rfl rfl 7 (by decide) (hts _ q47) (fun _ h9 => h9) rfl hd (hk _ _ _ _ h hrt p l e s m args below meth cd D dA ad A hc H locs ls hp hl)
  | putfield i =>
    have h : pts st (fun v r => pfX t v S (fun S => k (pc + 3) r L S)) := h
    have hw2 : (i, t) ∈ flX := of_decide_eq_true hw
    obtain ⟨v, r, rfl, h⟩ := pts_inv h
    intro hrt p l e s m args below meth cd D dA ad A hc H locs ls hp hl
    have hts : ∀ w ∈ lw_all, w.before args s = true := hc.2.2.2.2.2.2.1
    have hK := hc.2.2.2.2.2.2.2.2
    simp only [flX, List.mem_cons, Prod.mk.injEq, List.not_mem_nil, or_false] at hw2
    rcases hw2 with ⟨rfl, rfl⟩ | ⟨rfl, rfl⟩ | ⟨rfl, rfl⟩ | ⟨rfl, rfl⟩ | ⟨rfl, rfl⟩ | ⟨rfl, rfl⟩ | ⟨rfl, rfl⟩ | ⟨rfl, rfl⟩
    · exact False.elim h
    · exact False.elim h
    · exact False.elim h
    · have h : k (pc + 3) r L (S.1, S.2.1, S.2.2.1, v, S.2.2.2.2.1, S.2.2.2.2.2.1, S.2.2.2.2.2.2.1, S.2.2.2.2.2.2.2) := h
      exact va_put (D := D) (ci := 0) (v := .int v) (ty := .int) (C := RX0) (T := TX0) (N := 8) hc.1 hc.2.1 hts in_X0 tyX0 tyX0_ok nmX0 hc.2.2.2.2.2.1 hK hp.1 hp.2.1 hp.2.2 0 rfl rfl 3 (by decide) (hts _ q43) (fun _ h9 => h9) rfl (by decide +kernel) rfl rfl (Nat.le_of_ble_eq_true rfl) hd (fun H1 locs1 g1 g2 g3 => hk _ _ _ _ h hrt p l e s m args below meth cd D dA ad A hc H1 locs1 ls ⟨g1, g2, g3⟩ hl)
    · exact False.elim h
    · exact False.elim h
    · exact False.elim h
    · have h : k (pc + 3) r L (S.1, S.2.1, S.2.2.1, S.2.2.2.1, S.2.2.2.2.1, S.2.2.2.2.2.1, S.2.2.2.2.2.2.1, v) := h
      exact va_put (D := D) (ci := 0) (v := .int v) (ty := .int) (C := RX0) (T := TX0) (N := 8) hc.1 hc.2.1 hts in_X0 tyX0 tyX0_ok nmX0 hc.2.2.2.2.2.1 hK hp.1 hp.2.1 hp.2.2 0 rfl rfl 7 (by decide) (hts _ q47) (fun _ h9 => h9) rfl (by decide +kernel) rfl rfl (Nat.le_of_ble_eq_true rfl) hd (fun H1 locs1 g1 g2 g3 => hk _ _ _ _ h hrt p l e s m args below meth cd D dA ad A hc H1 locs1 ls ⟨g1, g2, g3⟩ hl)
  | iaload =>
    have h : als st (fun i r st => aldX r i S (fun v => k (pc + 1) (.inl v :: st) L S)) := h
    obtain ⟨i, r, st1, rfl, h5⟩ := als_inv h
    intro hrt p l e s m args below meth cd D dA ad A hc H locs ls hp hl
    have hK := hc.2.2.2.2.2.2.2.2
    rcases aldX_inv h5 with ⟨rfl, h0, h6⟩ | ⟨rfl, h0, h6⟩ | ⟨rfl, h0, h6⟩ | ⟨rfl, h0, h6⟩ | ⟨rfl, h0, h6⟩ | ⟨rfl, h0, h6⟩
    · exact va_iald hc.1 hc.2.1 hK hp.1 1 0 rfl rfl h0 hd (hk _ _ _ _ h6 hrt p l e s m args below meth cd D dA ad A hc H locs ls hp hl)
    · exact va_iald hc.1 hc.2.1 hK hp.1 2 1 rfl rfl h0 hd (hk _ _ _ _ h6 hrt p l e s m args below meth cd D dA ad A hc H locs ls hp hl)
    · exact va_iald hc.1 hc.2.1 hK hp.1 3 2 rfl rfl h0 hd (hk _ _ _ _ h6 hrt p l e s m args below meth cd D dA ad A hc H locs ls hp hl)
    · exact va_iald hc.1 hc.2.1 hK hp.1 4 3 rfl rfl h0 hd (hk _ _ _ _ h6 hrt p l e s m args below meth cd D dA ad A hc H locs ls hp hl)
    · exact va_iald hc.1 hc.2.1 hK hp.1 5 4 rfl rfl h0 hd (hk _ _ _ _ h6 hrt p l e s m args below meth cd D dA ad A hc H locs ls hp hl)
    · exact va_iald hc.1 hc.2.1 hK hp.1 6 5 rfl rfl h0 hd (hk _ _ _ _ h6 hrt p l e s m args below meth cd D dA ad A hc H locs ls hp hl)
  | iastore =>
    have h : ass st (fun x i r st => astX r i x S (fun S => k (pc + 1) st L S)) := h
    obtain ⟨x, i, r, st1, rfl, h5⟩ := ass_inv h
    intro hrt p l e s m args below meth cd D dA ad A hc H locs ls hp hl
    have hK := hc.2.2.2.2.2.2.2.2
    rcases astX_inv h5 with ⟨rfl, h0, h6⟩ | ⟨rfl, h0, h6⟩ | ⟨rfl, h0, h6⟩ | ⟨rfl, h0, h6⟩ | ⟨rfl, h0, h6⟩ | ⟨rfl, h0, h6⟩
    · exact va_iast hc.1 hc.2.1 hK hp.1 hp.2.1 hp.2.2 1 0 rfl rfl h0 hd (fun H1 locs1 g1 g2 g3 => hk _ _ _ _ h6 hrt p l e s m args below meth cd D dA ad A hc H1 locs1 ls ⟨g1, g2, g3⟩ hl)
    · exact va_iast hc.1 hc.2.1 hK hp.1 hp.2.1 hp.2.2 2 1 rfl rfl h0 hd (fun H1 locs1 g1 g2 g3 => hk _ _ _ _ h6 hrt p l e s m args below meth cd D dA ad A hc H1 locs1 ls ⟨g1, g2, g3⟩ hl)
    · exact va_iast hc.1 hc.2.1 hK hp.1 hp.2.1 hp.2.2 3 2 rfl rfl h0 hd (fun H1 locs1 g1 g2 g3 => hk _ _ _ _ h6 hrt p l e s m args below meth cd D dA ad A hc H1 locs1 ls ⟨g1, g2, g3⟩ hl)
    · exact va_iast hc.1 hc.2.1 hK hp.1 hp.2.1 hp.2.2 4 3 rfl rfl h0 hd (fun H1 locs1 g1 g2 g3 => hk _ _ _ _ h6 hrt p l e s m args below meth cd D dA ad A hc H1 locs1 ls ⟨g1, g2, g3⟩ hl)
    · exact va_iast hc.1 hc.2.1 hK hp.1 hp.2.1 hp.2.2 5 4 rfl rfl h0 hd (fun H1 locs1 g1 g2 g3 => hk _ _ _ _ h6 hrt p l e s m args below meth cd D dA ad A hc H1 locs1 ls ⟨g1, g2, g3⟩ hl)
    · exact va_iast hc.1 hc.2.1 hK hp.1 hp.2.1 hp.2.2 6 5 rfl rfl h0 hd (fun H1 locs1 g1 g2 g3 => hk _ _ _ _ h6 hrt p l e s m args below meth cd D dA ad A hc H1 locs1 ls ⟨g1, g2, g3⟩ hl)
  | ireturn =>
    have h : rti d.2.2.1 st (fun v => post v S) := h
    obtain ⟨ty, v, hty, rfl, h5⟩ := rti_inv h
    intro hrt p l e s m args below meth cd D dA ad A hc H locs ls hp hl
    have hlocks := hc.2.2.2.1
    have hr := hc.2.2.1
    have h9 := hrt v S h5
    rw [hty] at hr h9 ⊢
    exact W.zret (v := v) hc.1 hc.2.1 hr h9 (fun t ht hW => ⟨⟨v, S, rfl, h5, by rw [ht]; exact hp.1, va_K.moved hW.alike hc.2.2.2.2.2.2.2.2, hp.2.1⟩, hp.2.2.F ht⟩) hp.2.2.2.2 hd hlocks
  | return_ =>
    have h : rtv d.2.2.1 st (post 0 S) := h
    obtain ⟨hty, rfl, h5⟩ := rtv_inv h
    intro hrt p l e s m args below meth cd D dA ad A hc H locs ls hp hl
    have hlocks := hc.2.2.2.1
    have hr := hc.2.2.1
    rw [hty] at hr ⊢
    exact W.vret hc.1 hc.2.1 hr (fun t ht hW => ⟨⟨0, S, rfl, h5, by rw [ht]; exact hp.1, va_K.moved hW.alike hc.2.2.2.2.2.2.2.2, hp.2.1⟩, hp.2.2.F ht⟩) hp.2.2.2.2 hd hlocks
  | _ => exact False.elim h
/-- the list walked from pc on, up to a place of cut -/
def runX (d : MD) (P : List EN) (cut : List (Nat × List Bool)) (post : Int32 → SX → Prop) : Nat → Nat → List AV → LV → SX → Prop
  | 0, pc, st, L, S => VX d post pc st L S
  | n + 1, pc, st, L, S => match lkc pc cut with
    | some b => VX d post pc st (msk b L) S
    | none => match lkp pc P with
      | none => False
      | some q => stpX d.2.2.1 post q.2.1 q.2.2.1 q.2.2.2 pc st L S (runX d P cut post n)
theorem runX_step {d : MD} {P : List EN} {post : Int32 → SX → Prop} (hP : P.all (okE d.1 ksX flX) = true) {k : Nat → List AV → LV → SX → Prop} (hk : ∀ pc st L S, k pc st L S → VX d post pc st L S) {pc : Nat} {st : List AV} {L : LV} {S : SX} (h : match lkp pc P with
    | none => False
    | some q => stpX d.2.2.1 post q.2.1 q.2.2.1 q.2.2.2 pc st L S k) : VX d post pc st L S := by
  cases hq : lkp pc P with
  | none => rw [hq] at h; exact False.elim h
  | some q =>
    rw [hq] at h
    obtain ⟨h1, h2⟩ := lkp_ok hq
    have h3 := List.all_eq_true.mp hP q h1
    obtain ⟨pc0, ins, c, t⟩ := q
    have h2 : pc0 = pc := h2
    subst h2
    exact stpX_sound h3 hk h
theorem mskX {d : MD} {post : Int32 → SX → Prop} {pc : Nat} {st : List AV} {b : List Bool} {L : LV} {S : SX} (h : VX d post pc st (msk b L) S) : VX d post pc st L S := by
  intro hrt p l e s m args below meth cd D dA ad A hc H locs ls hp hl
  exact h hrt p l e s m args below meth cd D dA ad A hc H locs ls hp (msk_ok hl)
theorem runX_sound {d : MD} {P : List EN} {cut : List (Nat × List Bool)} {post : Int32 → SX → Prop} (hP : P.all (okE d.1 ksX flX) = true) : ∀ (n pc : Nat) (st : List AV) (L : LV) (S : SX), runX d P cut post n pc st L S → VX d post pc st L S
  | 0, _, _, _, _, h => h
  | n + 1, pc, st, L, S, h => by
    unfold runX at h
    cases hb : lkc pc cut with
    | some b =>
      rw [hb] at h
      exact mskX h
    | none =>
      rw [hb] at h
      exact runX_step hP (runX_sound hP n) h
/-- from pc: one step, then on to the next place of cut -/
theorem segX {d : MD} {P : List EN} {post : Int32 → SX → Prop} (hP : P.all (okE d.1 ksX flX) = true) (cut : List (Nat × List Bool)) (n : Nat) {pc : Nat} {st : List AV} {L : LV} {S : SX} (h : match lkp pc P with
    | none => False
    | some q => stpX d.2.2.1 post q.2.1 q.2.2.1 q.2.2.2 pc st L S (runX d P cut post n)) : VX d post pc st L S := runX_step hP (runX_sound hP n) h
/-- a contract: from the cells S, called with xs, the method y ends with post -/
def CX (y : MethodName) (d : MD) (xs : List Int32) (S : SX) (post : Int32 → SX → Prop) : Prop := ∀ (l : Launch) (D : va_G) (dA : Nat → ClassId) (ad : Nat → Nat) (sz : Nat), Met l y (ws_ y d.1 d.2.1 d.2.2.1) (rmD d) (va_Pc (.ref (ad 0) :: xs.map .int) (fun U => U.heap.size = sz ∧ va_P D vwCl (pX ad dA S) U.heap ∧ va_K D vwCl (tX dA) U ∧ va_D (fun _ => True) (pX ad dA S))) (qq d.2.2.1 post (BX D dA ad (va_A (pX ad dA S) sz)) (va_A (pX ad dA S) sz)) 0 0 (va_A (pX ad dA S) sz)
set_option maxHeartbeats 1000000 in
theorem CX_of {y : MethodName} {d : MD} {xs : List Int32} {S : SX} {post : Int32 → SX → Prop} (hy : plainName y.cls = true ∧ y.cls = RX0) (hlen : xs.length + 1 ≤ d.2.1) (hrt : ∀ v S1, post v S1 → rok d.2.2.1 v) (h : VX d post 0 [] (enL (.inr 0 :: xs.map .inl) d.2.1) S) : CX y d xs S post := by
  intro l D dA ad sz
  refine Met.ofW (cc := d.1) (maxL := d.2.1) (ret := d.2.2.1) hy.1 rfl ?_
  intro p e s m args below meth c s₁ B hml hv
  obtain ⟨rfl, hsz, hP, hK, hD0⟩ := hv
  have hts := atoms_spec (ws := ws_ y d.1 d.2.1 d.2.2.1) B.pre
  have hts : ∀ w ∈ lw_all, w.before _ s = true := fun w h => hts w (List.mem_cons_of_mem _ h)
  have hown : s.vm.findClass y.cls = some m.cls := findClass_of_methodNamed B.named
  rw [hy.2] at hown
  subst hsz
  have hLe := Lok_entry ad (.inr 0 :: xs.map .inl) (n := d.2.1) (by rw [List.length_cons, List.length_map]; exact hlen)
  rw [vl_args] at hLe
  rw [lg_entry_eq]
  exact h hrt p l e s m _ below meth c D dA ad _ ⟨B.exec, B.bytes, B.returns, B.notSynchronized, hml, hown, hts, fun q hq => Or.inr hq, hK⟩ s.heap [] _ ⟨hP, hD0.self, va_S.rf⟩ hLe
set_option maxHeartbeats 1000000 in
/-- a call of another method of the object -/
theorem cllX {d d2 : MD} {post post2 : Int32 → SX → Prop} {pc idx : Nat} {st : List AV} {L : LV} {S : SX} {y : MethodName} (xs : List Int32) (hC : CX y d2 xs S post2) (hw : GoodIn lw_all (wsV RX0 idx RX0 y (ws_ y d2.1 d2.2.1 d2.2.2.1))) (hn : y.cls = RX0 ∧ y.cls ≠ "java/lang/invoke/MethodHandle" ∧ y.cls ≠ "java/lang/invoke/VarHandle" ∧ (parseMethodDescriptor y.desc).map (fun d => d.parameters.length) = some xs.length) (hd : decode d.1 pc = .ok (.invokevirtual idx, 3)) (hR : d2.2.2.2.1 + 1 ≤ d.2.2.2.1 ∧ 8 + (d2.2.1 + 11) + d2.2.2.2.2 ≤ d.2.2.2.2) (hst : st.length ≤ 8) (k : ∀ r S1, post2 r S1 → VX d post (pc + 3) (rpush d2.2.2.1 r st) L S1) : VX d post pc ((xs.map .inl).reverse ++ .inr 0 :: st) L S := by
  intro hrt p l e s m args below meth cd D dA ad A hc H locs ls hp hl
  obtain ⟨hx, hb, hr, hlocks, hml, hown, hts, hA, hK⟩ := hc
  obtain ⟨hP, hD, hS⟩ := hp
  have hFc := va_free (wc := pX ad dA S) hD hS hA [0, 1, 2, 3, 4, 5, 6] rfl
  have hstk : ((xs.map Sum.inl).reverse ++ Sum.inr 0 :: st : List AV).map (vl ad) = (xs.map Value.int).reverse ++ Value.ref (ad 0) :: st.map (vl ad) := by
    rw [List.map_append, List.map_reverse, vl_ints]
    rfl
  have hrm : ((st.map (vl ad)).map fun v => v.category).sum ≤ 8 := by
    rw [cat_sum]
    exact hst
  rw [hstk]
  refine qq_call (va_runV (As := xs.map Value.int) (rest := st.map (vl ad)) ⟨hx, hb, hml, hown, hts⟩ (hC l D dA ad H.size) (cwV xs.length hts hw rfl rfl rfl hn hR) ⟨fun a U g mk q => by obtain ⟨q0, q1, qP, qK, qD⟩ := q; exact ⟨q0, q1, qP, va_K.moved (u := U) (U := U.calling g mk a) (Vm.Alike.refl U.vm) qK, qD⟩, va_recv hK hP (ci := 0) (q0 := 0) rfl rfl, fun U hU hW => ⟨rfl, by rw [hU], by rw [hU]; exact hP, va_K.moved hW.alike hK, hD.weaken (fun _ _ _ _ => trivial)⟩⟩ rfl (List.length_map ..) hl.1 rfl (lv_room hrm) hd ⟨Nat.le_refl 0, Nat.le_refl 0⟩) hS (fun q _ h => hFc q h) hFc (fun r u t H1 locs1 ht hvm hpo hB hz1 hk1 hS1 => ?_)
  obtain ⟨hP1, hK1, hD1⟩ := hB
  rw [ht] at hP1
  have hq := k r u hpo hrt p l e s m args below meth cd D dA ad A ⟨hx, hb, hr, hlocks, hml, hown, hts, hA, hK⟩ H1 locs1 ls ⟨hP1, hD1.weaken (fun _ q _ h => hFc q.1 h), hS1⟩ hl
  rw [rpush_map] at hq
  exact hq
end
section
/-! the walk of the reference: its cells, a step, a call -/
abbrev SM : Type := (Nat → Int32) × (Nat → Int32)
def pM (ad : Nat → Nat) (dA : Nat → ClassId) (S : SM) : va_W := [(ad 0, .inr (1, [.ref (ad 1), .ref (ad 2)])), (ad 1, .inl (dA 1, 128, .inl S.1)), (ad 2, .inl (dA 2, 2, .inl S.2))]
def tM (dA : Nat → ClassId) : List (ClassId × FieldType) := [(dA 1, .int), (dA 2, .int)]
def gfM (k : Nat) (S : SM) : AV := match k with
  | 0 => .inr 1
  | _ => .inr 2
def pfM (t : Nat) (v : Int32) (S : SM) (k : SM → Prop) : Prop := match t with
  | _ => False
def aldM (r : Nat) (i : Int32) (S : SM) (k : Int32 → Prop) : Prop := match r with
  | 1 => vp_in i 128 ∧ k (S.1 i.toNatClampNeg)
  | 2 => vp_in i 2 ∧ k (S.2 i.toNatClampNeg)
  | _ => False
theorem aldM_inv {r : Nat} {i : Int32} {S : SM} {k : Int32 → Prop} (h : aldM r i S k) : (r = 1 ∧ vp_in i 128 ∧ k (S.1 i.toNatClampNeg)) ∨ (r = 2 ∧ vp_in i 2 ∧ k (S.2 i.toNatClampNeg)) := by
  unfold aldM at h
  split at h
  · exact Or.inl ⟨rfl, h⟩
  · exact Or.inr (⟨rfl, h⟩)
  · exact h.elim
def astM (r : Nat) (i x : Int32) (S : SM) (k : SM → Prop) : Prop := match r with
  | 1 => vp_in i 128 ∧ k (upd (S.1) i.toNatClampNeg x, S.2)
  | 2 => vp_in i 2 ∧ k (S.1, upd (S.2) i.toNatClampNeg x)
  | _ => False
theorem astM_inv {r : Nat} {i x : Int32} {S : SM} {k : SM → Prop} (h : astM r i x S k) : (r = 1 ∧ vp_in i 128 ∧ k (upd (S.1) i.toNatClampNeg x, S.2)) ∨ (r = 2 ∧ vp_in i 2 ∧ k (S.1, upd (S.2) i.toNatClampNeg x)) := by
  unfold astM at h
  split at h
  · exact Or.inl ⟨rfl, h⟩
  · exact Or.inr (⟨rfl, h⟩)
  · exact h.elim
def flM : List (Nat × Nat) := [(7, 0), (13, 1)]
def ksM : Int32 × Nat := (1000000, 16)
def stpM (rt : Option FieldType) (post : Int32 → SM → Prop) (ins : Instr) (c : Int32) (t pc : Nat) (st : List AV) (L : LV) (S : SM) (k : Nat → List AV → LV → SM → Prop) : Prop := match ins with
  | .iconst _ => k (pc + 1) (.inl c :: st) L S
  | .bipush _ => k (pc + 2) (.inl c :: st) L S
  | .sipush _ => k (pc + 3) (.inl c :: st) L S
  | .ldc _ => k (pc + 2) (.inl c :: st) L S
  | .iload_n i => ldi L i.val (fun v => k (pc + 1) (.inl v :: st) L S)
  | .iload i => ldi L i (fun v => k (pc + 2) (.inl v :: st) L S)
  | .aload_n i => lda L i.val (fun v => k (pc + 1) (.inr v :: st) L S)
  | .istore_n i => sti i.val st L (fun st L => k (pc + 1) st L S)
  | .istore i => sti i st L (fun st L => k (pc + 2) st L S)
  | .iinc i _ => ldi L i (fun v => k (pc + 3) st (L.set i (some (.inl (v + c)))) S)
  | .iadd => bop (fun x y => x + y) st (fun st => k (pc + 1) st L S)
  | .isub => bop (fun x y => x - y) st (fun st => k (pc + 1) st L S)
  | .imul => bop (fun x y => x * y) st (fun st => k (pc + 1) st L S)
  | .iand => bop (fun x y => x &&& y) st (fun st => k (pc + 1) st L S)
  | .ior => bop (fun x y => x ||| y) st (fun st => k (pc + 1) st L S)
  | .ixor => bop (fun x y => x ^^^ y) st (fun st => k (pc + 1) st L S)
  | .ishl => bop (fun x y => x <<< (y &&& 31)) st (fun st => k (pc + 1) st L S)
  | .ishr => bop (fun x y => x >>> (y &&& 31)) st (fun st => k (pc + 1) st L S)
  | .idiv => dvs st (fun st => k (pc + 1) st L S)
  | .dup => du1 st (fun st => k (pc + 1) st L S)
  | .dup2 => du2 st (fun st => k (pc + 1) st L S)
  | .goto _ => k t st L S
  | .ifCond cd _ => br1 cd st (fun r => k t r L S) (fun r => k (pc + 3) r L S)
  | .if_icmp cd _ => br2 cd st (fun r => k t r L S) (fun r => k (pc + 3) r L S)
  | .getfield _ => gts st (fun r => k (pc + 3) (gfM t S :: r) L S)
  | .iaload => als st (fun i r st => aldM r i S (fun v => k (pc + 1) (.inl v :: st) L S))
  | .iastore => ass st (fun x i r st => astM r i x S (fun S => k (pc + 1) st L S))
  | .ireturn => rti rt st (fun v => post v S)
  | .return_ => rtv rt st (post 0 S)
  | _ => False
def cxM (d : MD) (p : Program) (s : State) (m : MethodId) (args : Array Value) (meth : Method) (c : Code) (D : va_G) (dA : Nat → ClassId) (A : Nat → Prop) : Prop := p.tables.exec = Jvm.exec ∧ c.code = d.1 ∧ meth.sig.returnType = d.2.2.1 ∧ meth.locks = false ∧ c.maxLocals = d.2.1 ∧ s.vm.findClass RX1 = some m.cls ∧ (∀ w ∈ lw_all, w.before args s = true) ∧ (∀ q : Nat, s.heap.size ≤ q → A q) ∧ va_K D vwCl (tM dA) s
def piM (D : va_G) (dA : Nat → ClassId) (ad : Nat → Nat) (A : Nat → Prop) (s : State) (S : SM) (H : Heap) (locs : List Loc) : Prop := va_P D vwCl (pM ad dA S) H ∧ va_D A (pM ad dA S) ∧ va_S A s.heap H locs
def BM (D : va_G) (dA : Nat → ClassId) (ad : Nat → Nat) (A : Nat → Prop) (u : SM) (t : State) : Prop := va_P D vwCl (pM ad dA u) t.heap ∧ va_K D vwCl (tM dA) t ∧ va_D A (pM ad dA u)
/-- from pc on, with this stack, these values and these cells, the method comes to its end with post -/
def VM (d : MD) (post : Int32 → SM → Prop) (pc : Nat) (st : List AV) (L : LV) (S : SM) : Prop := (∀ v S1, post v S1 → rok d.2.2.1 v) → ∀ (p : Program) (l : Launch) (e : Env) (s : State) (m : MethodId) (args : Array Value) (below : List Frame) (meth : Method) (c : Code) (D : va_G) (dA : Nat → ClassId) (ad : Nat → Nat) (A : Nat → Prop), cxM d p s m args meth c D dA A → ∀ (H : Heap) (locs : List Loc) (ls : Array Slot), piM D dA ad A s S H locs → Lok ad ls d.2.1 L → W p l e (rmD d) s m args below meth c H locs 0 0 (MQ below (qq d.2.2.1 post (BM D dA ad A) A) args s 0 0 A) (F0 m pc ls (st.map (vl ad)))
set_option maxHeartbeats 4000000 in
theorem stpM_sound {d : MD} {post : Int32 → SM → Prop} {ins : Instr} {c : Int32} {t pc : Nat} {st : List AV} {L : LV} {S : SM} {k : Nat → List AV → LV → SM → Prop} (hE : okE d.1 ksM flM (pc, ins, c, t) = true) (hk : ∀ pc st L S, k pc st L S → VM d post pc st L S) (h : stpM d.2.2.1 post ins c t pc st L S k) : VM d post pc st L S := by
  obtain ⟨hd0, hw⟩ := Bool.and_eq_true_iff.mp hE
  have hd := of_decide_eq_true hd0
  clear hd0 hE
  dsimp only at hd hw
  cases ins with
  | iconst n =>
    have hw : Int32.ofInt n = c := of_decide_eq_true hw
    have h : k (pc + 1) (.inl c :: st) L S := h
    intro hrt p l e s m args below meth cd D dA ad A hc H locs ls hp hl
    exact lv_iconst hc.1 hc.2.1 hd hw (hk _ _ _ _ h hrt p l e s m args below meth cd D dA ad A hc H locs ls hp hl)
  | bipush n =>
    have hw : (Int8.ofInt n).toInt32 = c := of_decide_eq_true hw
    have h : k (pc + 2) (.inl c :: st) L S := h
    intro hrt p l e s m args below meth cd D dA ad A hc H locs ls hp hl
    exact lv_bipush hc.1 hc.2.1 hd hw (hk _ _ _ _ h hrt p l e s m args below meth cd D dA ad A hc H locs ls hp hl)
  | sipush n =>
    have hw : (Int16.ofInt n).toInt32 = c := of_decide_eq_true hw
    have h : k (pc + 3) (.inl c :: st) L S := h
    intro hrt p l e s m args below meth cd D dA ad A hc H locs ls hp hl
    exact lv_sipush hc.1 hc.2.1 hd hw (hk _ _ _ _ h hrt p l e s m args below meth cd D dA ad A hc H locs ls hp hl)
  | ldc i =>
    have hw : i = ksM.2 ∧ c = ksM.1 := of_decide_eq_true hw
    obtain ⟨rfl, rfl⟩ := hw
    have h : k (pc + 2) (.inl ksM.1 :: st) L S := h
    intro hrt p l e s m args below meth cd D dA ad A hc H locs ls hp hl
    exact lv_ldc hc.1 hc.2.1 hc.2.2.2.2.2.1 (hc.2.2.2.2.2.2.1 _ q241) hd (hk _ _ _ _ h hrt p l e s m args below meth cd D dA ad A hc H locs ls hp hl)
  | iload_n i =>
    have h : ldi L i.val (fun v => k (pc + 1) (.inl v :: st) L S) := h
    obtain ⟨x, hx, h⟩ := ldi_inv h
    intro hrt p l e s m args below meth cd D dA ad A hc H locs ls hp hl
    exact lv_iload_n hc.1 hc.2.1 hd rfl (hl.2.2.2 _ _ hx) (hk _ _ _ _ h hrt p l e s m args below meth cd D dA ad A hc H locs ls hp hl)
  | iload i =>
    have h : ldi L i (fun v => k (pc + 2) (.inl v :: st) L S) := h
    obtain ⟨x, hx, h⟩ := ldi_inv h
    intro hrt p l e s m args below meth cd D dA ad A hc H locs ls hp hl
    exact lv_iload hc.1 hc.2.1 hd (hl.2.2.2 _ _ hx) (hk _ _ _ _ h hrt p l e s m args below meth cd D dA ad A hc H locs ls hp hl)
  | aload_n i =>
    have h : lda L i.val (fun v => k (pc + 1) (.inr v :: st) L S) := h
    obtain ⟨x, hx, h⟩ := lda_inv h
    intro hrt p l e s m args below meth cd D dA ad A hc H locs ls hp hl
    exact lv_aload_n hc.1 hc.2.1 hd rfl (hl.2.2.2 _ _ hx) (hk _ _ _ _ h hrt p l e s m args below meth cd D dA ad A hc H locs ls hp hl)
  | istore_n i =>
    have h : sti i.val st L (fun st L => k (pc + 1) st L S) := h
    obtain ⟨x, r, rfl, hi, h⟩ := sti_inv h
    intro hrt p l e s m args below meth cd D dA ad A hc H locs ls hp hl
    exact lv_istore_n hc.1 hc.2.1 hd rfl (allv_has hl) (hl.2.1 ▸ hi) rfl (fun ls1 hl1 => hk _ _ _ _ h hrt p l e s m args below meth cd D dA ad A hc H locs ls1 hp (Lok_set (v := .inl x) hl hl1 (fun _ q => q)))
  | istore i =>
    have h : sti i st L (fun st L => k (pc + 2) st L S) := h
    obtain ⟨x, r, rfl, hi, h⟩ := sti_inv h
    intro hrt p l e s m args below meth cd D dA ad A hc H locs ls hp hl
    exact lv_istore hc.1 hc.2.1 hd (allv_has hl) (hl.2.1 ▸ hi) rfl (fun ls1 hl1 => hk _ _ _ _ h hrt p l e s m args below meth cd D dA ad A hc H locs ls1 hp (Lok_set (v := .inl x) hl hl1 (fun _ q => q)))
  | iinc i n =>
    have h : ldi L i (fun v => k (pc + 3) st (L.set i (some (.inl (v + c)))) S) := h
    have hw : Int32.ofInt n = c := of_decide_eq_true hw
    obtain ⟨x, hx, h⟩ := ldi_inv h
    intro hrt p l e s m args below meth cd D dA ad A hc H locs ls hp hl
    exact lv_iinc (k := 0) (lv := (i, .int x) :: allv ls) (v := x + c) hc.1 hc.2.1 hd ⟨hl.1, hl.2.2.1, List.forall_mem_cons.mpr ⟨hl.2.2.2 _ _ hx, fun _ hq => allv_ok hq⟩⟩ rfl (by rw [hw]) (Lok_lt hl hx) rfl (fun ls1 hl1 => hk _ _ _ _ h hrt p l e s m args below meth cd D dA ad A hc H locs ls1 hp (Lok_set (v := .inl (x + c)) hl hl1 (fun _ q => List.mem_cons_of_mem _ q)))
  | iadd =>
    have h : bop (fun x y => x + y) st (fun st => k (pc + 1) st L S) := h
    obtain ⟨x, y, r, rfl, h⟩ := bop_inv h
    intro hrt p l e s m args below meth cd D dA ad A hc H locs ls hp hl
    exact lv_iadd hc.1 hc.2.1 hd (hk _ _ _ _ h hrt p l e s m args below meth cd D dA ad A hc H locs ls hp hl)
  | isub =>
    have h : bop (fun x y => x - y) st (fun st => k (pc + 1) st L S) := h
    obtain ⟨x, y, r, rfl, h⟩ := bop_inv h
    intro hrt p l e s m args below meth cd D dA ad A hc H locs ls hp hl
    exact lv_isub hc.1 hc.2.1 hd (hk _ _ _ _ h hrt p l e s m args below meth cd D dA ad A hc H locs ls hp hl)
  | imul =>
    have h : bop (fun x y => x * y) st (fun st => k (pc + 1) st L S) := h
    obtain ⟨x, y, r, rfl, h⟩ := bop_inv h
    intro hrt p l e s m args below meth cd D dA ad A hc H locs ls hp hl
    exact lv_imul hc.1 hc.2.1 hd (hk _ _ _ _ h hrt p l e s m args below meth cd D dA ad A hc H locs ls hp hl)
  | iand =>
    have h : bop (fun x y => x &&& y) st (fun st => k (pc + 1) st L S) := h
    obtain ⟨x, y, r, rfl, h⟩ := bop_inv h
    intro hrt p l e s m args below meth cd D dA ad A hc H locs ls hp hl
    exact lv_iand hc.1 hc.2.1 hd (hk _ _ _ _ h hrt p l e s m args below meth cd D dA ad A hc H locs ls hp hl)
  | ior =>
    have h : bop (fun x y => x ||| y) st (fun st => k (pc + 1) st L S) := h
    obtain ⟨x, y, r, rfl, h⟩ := bop_inv h
    intro hrt p l e s m args below meth cd D dA ad A hc H locs ls hp hl
    exact lv_ior hc.1 hc.2.1 hd (hk _ _ _ _ h hrt p l e s m args below meth cd D dA ad A hc H locs ls hp hl)
  | ixor =>
    have h : bop (fun x y => x ^^^ y) st (fun st => k (pc + 1) st L S) := h
    obtain ⟨x, y, r, rfl, h⟩ := bop_inv h
    intro hrt p l e s m args below meth cd D dA ad A hc H locs ls hp hl
    exact lv_ixor hc.1 hc.2.1 hd (hk _ _ _ _ h hrt p l e s m args below meth cd D dA ad A hc H locs ls hp hl)
  | ishl =>
    have h : bop (fun x y => x <<< (y &&& 31)) st (fun st => k (pc + 1) st L S) := h
    obtain ⟨x, y, r, rfl, h⟩ := bop_inv h
    intro hrt p l e s m args below meth cd D dA ad A hc H locs ls hp hl
    exact lv_ishl hc.1 hc.2.1 hd (hk _ _ _ _ h hrt p l e s m args below meth cd D dA ad A hc H locs ls hp hl)
  | ishr =>
    have h : bop (fun x y => x >>> (y &&& 31)) st (fun st => k (pc + 1) st L S) := h
    obtain ⟨x, y, r, rfl, h⟩ := bop_inv h
    intro hrt p l e s m args below meth cd D dA ad A hc H locs ls hp hl
    exact lv_ishr hc.1 hc.2.1 hd (hk _ _ _ _ h hrt p l e s m args below meth cd D dA ad A hc H locs ls hp hl)
  | idiv =>
    have h : dvs st (fun st => k (pc + 1) st L S) := h
    obtain ⟨x, y, r, rfl, h0, h⟩ := dvs_inv h
    intro hrt p l e s m args below meth cd D dA ad A hc H locs ls hp hl
    exact lv_idiv hc.1 hc.2.1 hd h0 (hk _ _ _ _ h hrt p l e s m args below meth cd D dA ad A hc H locs ls hp hl)
  | dup =>
    have h : du1 st (fun st => k (pc + 1) st L S) := h
    obtain ⟨x, r, rfl, h⟩ := du1_inv h
    intro hrt p l e s m args below meth cd D dA ad A hc H locs ls hp hl
    exact lv_dup hc.1 hc.2.1 hd (vl_cat ad x) (hk _ _ _ _ h hrt p l e s m args below meth cd D dA ad A hc H locs ls hp hl)
  | dup2 =>
    have h : du2 st (fun st => k (pc + 1) st L S) := h
    obtain ⟨x, y, r, rfl, h⟩ := du2_inv h
    intro hrt p l e s m args below meth cd D dA ad A hc H locs ls hp hl
    exact lv_dup2_11 hc.1 hc.2.1 hd (vl_cat ad x) (vl_cat ad y) (hk _ _ _ _ h hrt p l e s m args below meth cd D dA ad A hc H locs ls hp hl)
  | goto o =>
    have hw2 : (pc : Int) + o = (t : Int) := of_decide_eq_true hw
    have h : k t st L S := h
    intro hrt p l e s m args below meth cd D dA ad A hc H locs ls hp hl
    exact lv_goto hc.1 hc.2.1 hd hw2 (hk _ _ _ _ h hrt p l e s m args below meth cd D dA ad A hc H locs ls hp hl)
  | ifCond cd o =>
    have h : br1 cd st (fun r => k t r L S) (fun r => k (pc + 3) r L S) := h
    have hw2 : (pc : Int) + o = (t : Int) := of_decide_eq_true hw
    obtain ⟨x, r, rfl⟩ := br1_inv h
    cases cd with
    | eq =>
      have h : (x = 0 → k t r L S) ∧ (¬ x = 0 → k (pc + 3) r L S) := h
      intro hrt p l e s m args below meth cod D dA ad A hc H locs ls hp hl
      exact lv_if_eq hc.1 hc.2.1 hd hw2 (fun z => hk _ _ _ _ (h.1 z) hrt p l e s m args below meth cod D dA ad A hc H locs ls hp hl) (fun z => hk _ _ _ _ (h.2 z) hrt p l e s m args below meth cod D dA ad A hc H locs ls hp hl)
    | ne =>
      have h : (x = 0 → k (pc + 3) r L S) ∧ (¬ x = 0 → k t r L S) := h
      intro hrt p l e s m args below meth cod D dA ad A hc H locs ls hp hl
      exact lv_if_ne hc.1 hc.2.1 hd hw2 (fun z => hk _ _ _ _ (h.2 z) hrt p l e s m args below meth cod D dA ad A hc H locs ls hp hl) (fun z => hk _ _ _ _ (h.1 z) hrt p l e s m args below meth cod D dA ad A hc H locs ls hp hl)
    | lt =>
      have h : (x < 0 → k t r L S) ∧ (¬ x < 0 → k (pc + 3) r L S) := h
      intro hrt p l e s m args below meth cod D dA ad A hc H locs ls hp hl
      exact lv_if_lt hc.1 hc.2.1 hd hw2 (fun z => hk _ _ _ _ (h.1 z) hrt p l e s m args below meth cod D dA ad A hc H locs ls hp hl) (fun z => hk _ _ _ _ (h.2 z) hrt p l e s m args below meth cod D dA ad A hc H locs ls hp hl)
    | ge =>
      have h : (x < 0 → k (pc + 3) r L S) ∧ (¬ x < 0 → k t r L S) := h
      intro hrt p l e s m args below meth cod D dA ad A hc H locs ls hp hl
      exact lv_if_ge hc.1 hc.2.1 hd hw2 (fun z => hk _ _ _ _ (h.2 (Int32.not_lt.mpr z)) hrt p l e s m args below meth cod D dA ad A hc H locs ls hp hl) (fun z => hk _ _ _ _ (h.1 (Int32.not_le.mp z)) hrt p l e s m args below meth cod D dA ad A hc H locs ls hp hl)
    | gt =>
      have h : (0 < x → k t r L S) ∧ (¬ 0 < x → k (pc + 3) r L S) := h
      intro hrt p l e s m args below meth cod D dA ad A hc H locs ls hp hl
      exact lv_if_gt hc.1 hc.2.1 hd hw2 (fun z => hk _ _ _ _ (h.1 z) hrt p l e s m args below meth cod D dA ad A hc H locs ls hp hl) (fun z => hk _ _ _ _ (h.2 z) hrt p l e s m args below meth cod D dA ad A hc H locs ls hp hl)
    | le =>
      have h : (0 < x → k (pc + 3) r L S) ∧ (¬ 0 < x → k t r L S) := h
      intro hrt p l e s m args below meth cod D dA ad A hc H locs ls hp hl
      exact lv_if_le hc.1 hc.2.1 hd hw2 (fun z => hk _ _ _ _ (h.2 (Int32.not_lt.mpr z)) hrt p l e s m args below meth cod D dA ad A hc H locs ls hp hl) (fun z => hk _ _ _ _ (h.1 (Int32.not_le.mp z)) hrt p l e s m args below meth cod D dA ad A hc H locs ls hp hl)
  | if_icmp cd o =>
    have h : br2 cd st (fun r => k t r L S) (fun r => k (pc + 3) r L S) := h
    have hw2 : (pc : Int) + o = (t : Int) := of_decide_eq_true hw
    obtain ⟨x, y, r, rfl⟩ := br2_inv h
    cases cd with
    | eq =>
      have h : (x = y → k t r L S) ∧ (¬ x = y → k (pc + 3) r L S) := h
      intro hrt p l e s m args below meth cod D dA ad A hc H locs ls hp hl
      exact lv_icmp_eq hc.1 hc.2.1 hd hw2 (fun z => hk _ _ _ _ (h.1 z) hrt p l e s m args below meth cod D dA ad A hc H locs ls hp hl) (fun z => hk _ _ _ _ (h.2 z) hrt p l e s m args below meth cod D dA ad A hc H locs ls hp hl)
    | ne =>
      have h : (x = y → k (pc + 3) r L S) ∧ (¬ x = y → k t r L S) := h
      intro hrt p l e s m args below meth cod D dA ad A hc H locs ls hp hl
      exact lv_icmp_ne hc.1 hc.2.1 hd hw2 (fun z => hk _ _ _ _ (h.2 z) hrt p l e s m args below meth cod D dA ad A hc H locs ls hp hl) (fun z => hk _ _ _ _ (h.1 z) hrt p l e s m args below meth cod D dA ad A hc H locs ls hp hl)
    | lt =>
      have h : (x < y → k t r L S) ∧ (¬ x < y → k (pc + 3) r L S) := h
      intro hrt p l e s m args below meth cod D dA ad A hc H locs ls hp hl
      exact lv_icmp_lt hc.1 hc.2.1 hd hw2 (fun z => hk _ _ _ _ (h.1 z) hrt p l e s m args below meth cod D dA ad A hc H locs ls hp hl) (fun z => hk _ _ _ _ (h.2 z) hrt p l e s m args below meth cod D dA ad A hc H locs ls hp hl)
    | ge =>
      have h : (x < y → k (pc + 3) r L S) ∧ (¬ x < y → k t r L S) := h
      intro hrt p l e s m args below meth cod D dA ad A hc H locs ls hp hl
      exact lv_icmp_ge hc.1 hc.2.1 hd hw2 (fun z => hk _ _ _ _ (h.2 (Int32.not_lt.mpr z)) hrt p l e s m args below meth cod D dA ad A hc H locs ls hp hl) (fun z => hk _ _ _ _ (h.1 (Int32.not_le.mp z)) hrt p l e s m args below meth cod D dA ad A hc H locs ls hp hl)
    | gt =>
      have h : (y < x → k t r L S) ∧ (¬ y < x → k (pc + 3) r L S) := h
      intro hrt p l e s m args below meth cod D dA ad A hc H locs ls hp hl
      exact lv_icmp_gt hc.1 hc.2.1 hd hw2 (fun z => hk _ _ _ _ (h.1 z) hrt p l e s m args below meth cod D dA ad A hc H locs ls hp hl) (fun z => hk _ _ _ _ (h.2 z) hrt p l e s m args below meth cod D dA ad A hc H locs ls hp hl)
    | le =>
      have h : (y < x → k (pc + 3) r L S) ∧ (¬ y < x → k t r L S) := h
      intro hrt p l e s m args below meth cod D dA ad A hc H locs ls hp hl
      exact lv_icmp_le hc.1 hc.2.1 hd hw2 (fun z => hk _ _ _ _ (h.2 (Int32.not_lt.mpr z)) hrt p l e s m args below meth cod D dA ad A hc H locs ls hp hl) (fun z => hk _ _ _ _ (h.1 (Int32.not_le.mp z)) hrt p l e s m args below meth cod D dA ad A hc H locs ls hp hl)
  | getfield i =>
    have h : gts st (fun r => k (pc + 3) (gfM t S :: r) L S) := h
    have hw2 : (i, t) ∈ flM := of_decide_eq_true hw
    obtain ⟨r, rfl, h⟩ := gts_inv h
    intro hrt p l e s m args below meth cd D dA ad A hc H locs ls hp hl
    have hts : ∀ w ∈ lw_all, w.before args s = true := hc.2.2.2.2.2.2.1
    have hK := hc.2.2.2.2.2.2.2.2
    simp only [flM, List.mem_cons, Prod.mk.injEq, List.not_mem_nil, or_false] at hw2
    rcases hw2 with ⟨rfl, rfl⟩ | ⟨rfl, rfl⟩
    · exact va_get (D := D) (ci := 1) (C := RX1) (T := TX1) (N := 2) hc.1 hc.2.1 hts in_X1 hc.2.2.2.2.2.1 hK hp.1 0 rfl rfl 0 (by decide) (hts _ q222) (fun _ h9 => h9) rfl hd (hk _ _ _ _ h hrt p l e s m args below meth cd D dA ad A hc H locs ls hp hl)
    · exact va_get (D := D) (ci := 1) (C := RX1) (T := TX1) (N := 2) hc.1 hc.2.1 hts in_X1 hc.2.2.2.2.2.1 hK hp.1 0 rfl rfl 1 (by decide) (hts _ q223) (fun _ h9 => h9) rfl hd (hk _ _ _ _ h hrt p l e s m args below meth cd D dA ad A hc H locs ls hp hl)
  | iaload =>
    have h : als st (fun i r st => aldM r i S (fun v => k (pc + 1) (.inl v :: st) L S)) := h
    obtain ⟨i, r, st1, rfl, h5⟩ := als_inv h
    intro hrt p l e s m args below meth cd D dA ad A hc H locs ls hp hl
    have hK := hc.2.2.2.2.2.2.2.2
    rcases aldM_inv h5 with ⟨rfl, h0, h6⟩ | ⟨rfl, h0, h6⟩
    · exact va_iald hc.1 hc.2.1 hK hp.1 1 0 rfl rfl h0 hd (hk _ _ _ _ h6 hrt p l e s m args below meth cd D dA ad A hc H locs ls hp hl)
    · exact va_iald hc.1 hc.2.1 hK hp.1 2 1 rfl rfl h0 hd (hk _ _ _ _ h6 hrt p l e s m args below meth cd D dA ad A hc H locs ls hp hl)
  | iastore =>
    have h : ass st (fun x i r st => astM r i x S (fun S => k (pc + 1) st L S)) := h
    obtain ⟨x, i, r, st1, rfl, h5⟩ := ass_inv h
    intro hrt p l e s m args below meth cd D dA ad A hc H locs ls hp hl
    have hK := hc.2.2.2.2.2.2.2.2
    rcases astM_inv h5 with ⟨rfl, h0, h6⟩ | ⟨rfl, h0, h6⟩
    · exact va_iast hc.1 hc.2.1 hK hp.1 hp.2.1 hp.2.2 1 0 rfl rfl h0 hd (fun H1 locs1 g1 g2 g3 => hk _ _ _ _ h6 hrt p l e s m args below meth cd D dA ad A hc H1 locs1 ls ⟨g1, g2, g3⟩ hl)
    · exact va_iast hc.1 hc.2.1 hK hp.1 hp.2.1 hp.2.2 2 1 rfl rfl h0 hd (fun H1 locs1 g1 g2 g3 => hk _ _ _ _ h6 hrt p l e s m args below meth cd D dA ad A hc H1 locs1 ls ⟨g1, g2, g3⟩ hl)
  | ireturn =>
    have h : rti d.2.2.1 st (fun v => post v S) := h
    obtain ⟨ty, v, hty, rfl, h5⟩ := rti_inv h
    intro hrt p l e s m args below meth cd D dA ad A hc H locs ls hp hl
    have hlocks := hc.2.2.2.1
    have hr := hc.2.2.1
    have h9 := hrt v S h5
    rw [hty] at hr h9 ⊢
    exact W.zret (v := v) hc.1 hc.2.1 hr h9 (fun t ht hW => ⟨⟨v, S, rfl, h5, by rw [ht]; exact hp.1, va_K.moved hW.alike hc.2.2.2.2.2.2.2.2, hp.2.1⟩, hp.2.2.F ht⟩) hp.2.2.2.2 hd hlocks
  | return_ =>
    have h : rtv d.2.2.1 st (post 0 S) := h
    obtain ⟨hty, rfl, h5⟩ := rtv_inv h
    intro hrt p l e s m args below meth cd D dA ad A hc H locs ls hp hl
    have hlocks := hc.2.2.2.1
    have hr := hc.2.2.1
    rw [hty] at hr ⊢
    exact W.vret hc.1 hc.2.1 hr (fun t ht hW => ⟨⟨0, S, rfl, h5, by rw [ht]; exact hp.1, va_K.moved hW.alike hc.2.2.2.2.2.2.2.2, hp.2.1⟩, hp.2.2.F ht⟩) hp.2.2.2.2 hd hlocks
  | _ => exact False.elim h
/-- the list walked from pc on, up to a place of cut -/
def runM (d : MD) (P : List EN) (cut : List (Nat × List Bool)) (post : Int32 → SM → Prop) : Nat → Nat → List AV → LV → SM → Prop
  | 0, pc, st, L, S => VM d post pc st L S
  | n + 1, pc, st, L, S => match lkc pc cut with
    | some b => VM d post pc st (msk b L) S
    | none => match lkp pc P with
      | none => False
      | some q => stpM d.2.2.1 post q.2.1 q.2.2.1 q.2.2.2 pc st L S (runM d P cut post n)
theorem runM_step {d : MD} {P : List EN} {post : Int32 → SM → Prop} (hP : P.all (okE d.1 ksM flM) = true) {k : Nat → List AV → LV → SM → Prop} (hk : ∀ pc st L S, k pc st L S → VM d post pc st L S) {pc : Nat} {st : List AV} {L : LV} {S : SM} (h : match lkp pc P with
    | none => False
    | some q => stpM d.2.2.1 post q.2.1 q.2.2.1 q.2.2.2 pc st L S k) : VM d post pc st L S := by
  cases hq : lkp pc P with
  | none => rw [hq] at h; exact False.elim h
  | some q =>
    rw [hq] at h
    obtain ⟨h1, h2⟩ := lkp_ok hq
    have h3 := List.all_eq_true.mp hP q h1
    obtain ⟨pc0, ins, c, t⟩ := q
    have h2 : pc0 = pc := h2
    subst h2
    exact stpM_sound h3 hk h
theorem mskM {d : MD} {post : Int32 → SM → Prop} {pc : Nat} {st : List AV} {b : List Bool} {L : LV} {S : SM} (h : VM d post pc st (msk b L) S) : VM d post pc st L S := by
  intro hrt p l e s m args below meth cd D dA ad A hc H locs ls hp hl
  exact h hrt p l e s m args below meth cd D dA ad A hc H locs ls hp (msk_ok hl)
theorem runM_sound {d : MD} {P : List EN} {cut : List (Nat × List Bool)} {post : Int32 → SM → Prop} (hP : P.all (okE d.1 ksM flM) = true) : ∀ (n pc : Nat) (st : List AV) (L : LV) (S : SM), runM d P cut post n pc st L S → VM d post pc st L S
  | 0, _, _, _, _, h => h
  | n + 1, pc, st, L, S, h => by
    unfold runM at h
    cases hb : lkc pc cut with
    | some b =>
      rw [hb] at h
      exact mskM h
    | none =>
      rw [hb] at h
      exact runM_step hP (runM_sound hP n) h
/-- from pc: one step, then on to the next place of cut -/
theorem segM {d : MD} {P : List EN} {post : Int32 → SM → Prop} (hP : P.all (okE d.1 ksM flM) = true) (cut : List (Nat × List Bool)) (n : Nat) {pc : Nat} {st : List AV} {L : LV} {S : SM} (h : match lkp pc P with
    | none => False
    | some q => stpM d.2.2.1 post q.2.1 q.2.2.1 q.2.2.2 pc st L S (runM d P cut post n)) : VM d post pc st L S := runM_step hP (runM_sound hP n) h
/-- a contract: from the cells S, called with xs, the method y ends with post -/
def CM (y : MethodName) (d : MD) (xs : List Int32) (S : SM) (post : Int32 → SM → Prop) : Prop := ∀ (l : Launch) (D : va_G) (dA : Nat → ClassId) (ad : Nat → Nat) (sz : Nat), Met l y (ws_ y d.1 d.2.1 d.2.2.1) (rmD d) (va_Pc (.ref (ad 0) :: xs.map .int) (fun U => U.heap.size = sz ∧ va_P D vwCl (pM ad dA S) U.heap ∧ va_K D vwCl (tM dA) U ∧ va_D (fun _ => True) (pM ad dA S))) (qq d.2.2.1 post (BM D dA ad (va_A (pM ad dA S) sz)) (va_A (pM ad dA S) sz)) 0 0 (va_A (pM ad dA S) sz)
set_option maxHeartbeats 1000000 in
theorem CM_of {y : MethodName} {d : MD} {xs : List Int32} {S : SM} {post : Int32 → SM → Prop} (hy : plainName y.cls = true ∧ y.cls = RX1) (hlen : xs.length + 1 ≤ d.2.1) (hrt : ∀ v S1, post v S1 → rok d.2.2.1 v) (h : VM d post 0 [] (enL (.inr 0 :: xs.map .inl) d.2.1) S) : CM y d xs S post := by
  intro l D dA ad sz
  refine Met.ofW (cc := d.1) (maxL := d.2.1) (ret := d.2.2.1) hy.1 rfl ?_
  intro p e s m args below meth c s₁ B hml hv
  obtain ⟨rfl, hsz, hP, hK, hD0⟩ := hv
  have hts := atoms_spec (ws := ws_ y d.1 d.2.1 d.2.2.1) B.pre
  have hts : ∀ w ∈ lw_all, w.before _ s = true := fun w h => hts w (List.mem_cons_of_mem _ h)
  have hown : s.vm.findClass y.cls = some m.cls := findClass_of_methodNamed B.named
  rw [hy.2] at hown
  subst hsz
  have hLe := Lok_entry ad (.inr 0 :: xs.map .inl) (n := d.2.1) (by rw [List.length_cons, List.length_map]; exact hlen)
  rw [vl_args] at hLe
  rw [lg_entry_eq]
  exact h hrt p l e s m _ below meth c D dA ad _ ⟨B.exec, B.bytes, B.returns, B.notSynchronized, hml, hown, hts, fun q hq => Or.inr hq, hK⟩ s.heap [] _ ⟨hP, hD0.self, va_S.rf⟩ hLe
set_option maxHeartbeats 1000000 in
/-- a call of another method of the object -/
theorem cllM {d d2 : MD} {post post2 : Int32 → SM → Prop} {pc idx : Nat} {st : List AV} {L : LV} {S : SM} {y : MethodName} (xs : List Int32) (hC : CM y d2 xs S post2) (hw : GoodIn lw_all (wsV RX1 idx RX1 y (ws_ y d2.1 d2.2.1 d2.2.2.1))) (hn : y.cls = RX1 ∧ y.cls ≠ "java/lang/invoke/MethodHandle" ∧ y.cls ≠ "java/lang/invoke/VarHandle" ∧ (parseMethodDescriptor y.desc).map (fun d => d.parameters.length) = some xs.length) (hd : decode d.1 pc = .ok (.invokevirtual idx, 3)) (hR : d2.2.2.2.1 + 1 ≤ d.2.2.2.1 ∧ 8 + (d2.2.1 + 11) + d2.2.2.2.2 ≤ d.2.2.2.2) (hst : st.length ≤ 8) (k : ∀ r S1, post2 r S1 → VM d post (pc + 3) (rpush d2.2.2.1 r st) L S1) : VM d post pc ((xs.map .inl).reverse ++ .inr 0 :: st) L S := by
  intro hrt p l e s m args below meth cd D dA ad A hc H locs ls hp hl
  obtain ⟨hx, hb, hr, hlocks, hml, hown, hts, hA, hK⟩ := hc
  obtain ⟨hP, hD, hS⟩ := hp
  have hFc := va_free (wc := pM ad dA S) hD hS hA [0, 1, 2] rfl
  have hstk : ((xs.map Sum.inl).reverse ++ Sum.inr 0 :: st : List AV).map (vl ad) = (xs.map Value.int).reverse ++ Value.ref (ad 0) :: st.map (vl ad) := by
    rw [List.map_append, List.map_reverse, vl_ints]
    rfl
  have hrm : ((st.map (vl ad)).map fun v => v.category).sum ≤ 8 := by
    rw [cat_sum]
    exact hst
  rw [hstk]
  refine qq_call (va_runV (As := xs.map Value.int) (rest := st.map (vl ad)) ⟨hx, hb, hml, hown, hts⟩ (hC l D dA ad H.size) (cwV xs.length hts hw rfl rfl rfl hn hR) ⟨fun a U g mk q => by obtain ⟨q0, q1, qP, qK, qD⟩ := q; exact ⟨q0, q1, qP, va_K.moved (u := U) (U := U.calling g mk a) (Vm.Alike.refl U.vm) qK, qD⟩, va_recv hK hP (ci := 1) (q0 := 0) rfl rfl, fun U hU hW => ⟨rfl, by rw [hU], by rw [hU]; exact hP, va_K.moved hW.alike hK, hD.weaken (fun _ _ _ _ => trivial)⟩⟩ rfl (List.length_map ..) hl.1 rfl (lv_room hrm) hd ⟨Nat.le_refl 0, Nat.le_refl 0⟩) hS (fun q _ h => hFc q h) hFc (fun r u t H1 locs1 ht hvm hpo hB hz1 hk1 hS1 => ?_)
  obtain ⟨hP1, hK1, hD1⟩ := hB
  rw [ht] at hP1
  have hq := k r u hpo hrt p l e s m args below meth cd D dA ad A ⟨hx, hb, hr, hlocks, hml, hown, hts, hA, hK⟩ H1 locs1 ls ⟨hP1, hD1.weaken (fun _ q _ h => hFc q.1 h), hS1⟩ hl
  rw [rpush_map] at hq
  exact hq
end
section
set_option maxRecDepth 100000
def PX_append : List EN := [(0, .aload_n 0, 0, 0), (1, .iload_n 1, 0, 0), (2, .invokevirtual 72, 0, 0), (5, .ifCond .ne 11, 0, 16), (8, .aload_n 0, 0, 0), (9, .iload_n 2, 0, 0), (10, .invokevirtual 76, 0, 0), (13, .ifCond .eq 5, 0, 18), (16, .iconst (-1), (-1), 0), (17, .ireturn, 0, 0), (18, .aload_n 0, 0, 0), (19, .iload_n 1, 0, 0), (20, .invokevirtual 61, 0, 0), (23, .istore_n 3, 0, 0), (24, .iload_n 2, 0, 0), (25, .iload_n 3, 0, 0), (26, .if_icmp .gt 5, 0, 31), (29, .iconst (-1), (-1), 0), (30, .ireturn, 0, 0), (31, .aload_n 0, 0, 0), (32, .getfield 7, 0, 0), (35, .iload_n 1, 0, 0), (36, .iaload, 0, 0), (37, .bipush 64, 64, 0), (39, .if_icmp .ne 6, 0, 45), (42, .bipush (-2), (-2), 0), (44, .ireturn, 0, 0), (45, .aload_n 0, 0, 0), (46, .iload_n 1, 0, 0), (47, .iload_n 2, 0, 0), (48, .invokevirtual 79, 0, 0), (51, .aload_n 0, 0, 0), (52, .getfield 7, 0, 0), (55, .iload_n 1, 0, 0), (56, .iaload, 0, 0), (57, .ireturn, 0, 0)]
abbrev dX_append : MD := (cX0_append, 4, some .int, 5, 120)
theorem okX_append : PX_append.all (okE dX_append.1 ksX flX) = true := by decide +kernel
theorem hyX_append : plainName yX0_append.cls = true ∧ yX0_append.cls = RX0 := by decide +kernel
def PX_badList : List EN := [(0, .iload_n 1, 0, 0), (1, .ifCond .lt 8, 0, 9), (4, .iload_n 1, 0, 0), (5, .iconst 1, 1, 0), (6, .if_icmp .le 7, 0, 13), (9, .iconst 1, 1, 0), (10, .goto 4, 0, 14), (13, .iconst 0, 0, 0), (14, .ireturn, 0, 0)]
abbrev dX_badList : MD := (cX0_badList, 2, some .boolean, 0, 0)
theorem okX_badList : PX_badList.all (okE dX_badList.1 ksX flX) = true := by decide +kernel
theorem hyX_badList : plainName yX0_badList.cls = true ∧ yX0_badList.cls = RX0 := by decide +kernel
theorem cwX_badList : GoodIn lw_all (wsV RX0 72 RX0 yX0_badList (ws_ yX0_badList dX_badList.1 dX_badList.2.1 dX_badList.2.2.1)) := lw_V q70 q72 qs0 q30 q73
theorem cnX_badList : yX0_badList.cls = RX0 ∧ yX0_badList.cls ≠ "java/lang/invoke/MethodHandle" ∧ yX0_badList.cls ≠ "java/lang/invoke/VarHandle" ∧ (parseMethodDescriptor yX0_badList.desc).map (fun d => d.parameters.length) = some 1 := by decide +kernel
def PX_badNumber : List EN := [(0, .iload_n 1, 0, 0), (1, .ifCond .lt 9, 0, 10), (4, .iload_n 1, 0, 0), (5, .ldc 28, 1000000, 0), (7, .if_icmp .le 7, 0, 14), (10, .iconst 1, 1, 0), (11, .goto 4, 0, 15), (14, .iconst 0, 0, 0), (15, .ireturn, 0, 0)]
abbrev dX_badNumber : MD := (cX0_badNumber, 2, some .boolean, 0, 0)
theorem okX_badNumber : PX_badNumber.all (okE dX_badNumber.1 ksX flX) = true := by decide +kernel
theorem hyX_badNumber : plainName yX0_badNumber.cls = true ∧ yX0_badNumber.cls = RX0 := by decide +kernel
theorem cwX_badNumber : GoodIn lw_all (wsV RX0 76 RX0 yX0_badNumber (ws_ yX0_badNumber dX_badNumber.1 dX_badNumber.2.1 dX_badNumber.2.2.1)) := lw_V q74 q76 qs1 q30 q77
theorem cnX_badNumber : yX0_badNumber.cls = RX0 ∧ yX0_badNumber.cls ≠ "java/lang/invoke/MethodHandle" ∧ yX0_badNumber.cls ≠ "java/lang/invoke/VarHandle" ∧ (parseMethodDescriptor yX0_badNumber.desc).map (fun d => d.parameters.length) = some 1 := by decide +kernel
def PX_lastNumber : List EN := [(0, .aload_n 0, 0, 0), (1, .iload_n 1, 0, 0), (2, .invokevirtual 58, 0, 0), (5, .istore_n 2, 0, 0), (6, .iload_n 2, 0, 0), (7, .ifCond .ne 7, 0, 14), (10, .iconst (-1), (-1), 0), (11, .goto 16, 0, 27), (14, .aload_n 0, 0, 0), (15, .getfield 13, 0, 1), (18, .iload_n 1, 0, 0), (19, .bipush 8, 8, 0), (21, .imul, 0, 0), (22, .iload_n 2, 0, 0), (23, .iadd, 0, 0), (24, .iconst 1, 1, 0), (25, .isub, 0, 0), (26, .iaload, 0, 0), (27, .ireturn, 0, 0)]
abbrev dX_lastNumber : MD := (cX0_lastNumber, 3, some .int, 1, 21)
theorem okX_lastNumber : PX_lastNumber.all (okE dX_lastNumber.1 ksX flX) = true := by decide +kernel
theorem hyX_lastNumber : plainName yX0_lastNumber.cls = true ∧ yX0_lastNumber.cls = RX0 := by decide +kernel
theorem cwX_lastNumber : GoodIn lw_all (wsV RX0 61 RX0 yX0_lastNumber (ws_ yX0_lastNumber dX_lastNumber.1 dX_lastNumber.2.1 dX_lastNumber.2.2.1)) := lw_V q79 q81 qs2 q30 q82
theorem cnX_lastNumber : yX0_lastNumber.cls = RX0 ∧ yX0_lastNumber.cls ≠ "java/lang/invoke/MethodHandle" ∧ yX0_lastNumber.cls ≠ "java/lang/invoke/VarHandle" ∧ (parseMethodDescriptor yX0_lastNumber.desc).map (fun d => d.parameters.length) = some 1 := by decide +kernel
def PX_blockCount : List EN := [(0, .aload_n 0, 0, 0), (1, .getfield 7, 0, 0), (4, .iload_n 1, 0, 0), (5, .iaload, 0, 0), (6, .bipush 7, 7, 0), (8, .iadd, 0, 0), (9, .iconst 3, 3, 0), (10, .ishr, 0, 0), (11, .ireturn, 0, 0)]
abbrev dX_blockCount : MD := (cX0_blockCount, 2, some .int, 0, 0)
theorem okX_blockCount : PX_blockCount.all (okE dX_blockCount.1 ksX flX) = true := by decide +kernel
theorem hyX_blockCount : plainName yX0_blockCount.cls = true ∧ yX0_blockCount.cls = RX0 := by decide +kernel
theorem cwX_blockCount : GoodIn lw_all (wsV RX0 58 RX0 yX0_blockCount (ws_ yX0_blockCount dX_blockCount.1 dX_blockCount.2.1 dX_blockCount.2.2.1)) := lw_V q83 q85 qs3 q30 q86
theorem cnX_blockCount : yX0_blockCount.cls = RX0 ∧ yX0_blockCount.cls ≠ "java/lang/invoke/MethodHandle" ∧ yX0_blockCount.cls ≠ "java/lang/invoke/VarHandle" ∧ (parseMethodDescriptor yX0_blockCount.desc).map (fun d => d.parameters.length) = some 1 := by decide +kernel
def PX_attach : List EN := [(0, .iload_n 2, 0, 0), (1, .aload_n 0, 0, 0), (2, .iload_n 1, 0, 0), (3, .invokevirtual 61, 0, 0), (6, .isub, 0, 0), (7, .iconst 1, 1, 0), (8, .isub, 0, 0), (9, .istore_n 3, 0, 0), (10, .aload_n 0, 0, 0), (11, .getfield 7, 0, 0), (14, .iload_n 1, 0, 0), (15, .iaload, 0, 0), (16, .iconst 3, 3, 0), (17, .ishr, 0, 0), (18, .istore 4, 0, 0), (20, .aload_n 0, 0, 0), (21, .getfield 7, 0, 0), (24, .iload_n 1, 0, 0), (25, .iaload, 0, 0), (26, .bipush 7, 7, 0), (28, .iand, 0, 0), (29, .ifCond .ne 11, 0, 40), (32, .aload_n 0, 0, 0), (33, .iconst 0, 0, 0), (34, .putfield 33, 0, 3), (37, .goto 10, 0, 47), (40, .aload_n 0, 0, 0), (41, .iload_n 1, 0, 0), (42, .iload 4, 0, 0), (44, .invokevirtual 64, 0, 0), (47, .aload_n 0, 0, 0), (48, .getfield 19, 0, 4), (51, .aload_n 0, 0, 0), (52, .getfield 33, 0, 3), (55, .iload_n 3, 0, 0), (56, .iastore, 0, 0), (57, .aload_n 0, 0, 0), (58, .dup, 0, 0), (59, .getfield 33, 0, 3), (62, .iconst 1, 1, 0), (63, .iadd, 0, 0), (64, .putfield 33, 0, 3), (67, .aload_n 0, 0, 0), (68, .getfield 7, 0, 0), (71, .iload_n 1, 0, 0), (72, .aload_n 0, 0, 0), (73, .getfield 7, 0, 0), (76, .iload_n 1, 0, 0), (77, .iaload, 0, 0), (78, .iconst 1, 1, 0), (79, .iadd, 0, 0), (80, .iastore, 0, 0), (81, .aload_n 0, 0, 0), (82, .iload_n 1, 0, 0), (83, .bipush 8, 8, 0), (85, .imul, 0, 0), (86, .iload 4, 0, 0), (88, .iadd, 0, 0), (89, .invokevirtual 68, 0, 0), (92, .aload_n 0, 0, 0), (93, .getfield 13, 0, 1), (96, .iload_n 1, 0, 0), (97, .bipush 8, 8, 0), (99, .imul, 0, 0), (100, .iload 4, 0, 0), (102, .iadd, 0, 0), (103, .iload_n 2, 0, 0), (104, .iastore, 0, 0), (105, .return_, 0, 0)]
abbrev dX_attach : MD := (cX0_attach, 5, none, 4, 96)
theorem okX_attach : PX_attach.all (okE dX_attach.1 ksX flX) = true := by decide +kernel
theorem hyX_attach : plainName yX0_attach.cls = true ∧ yX0_attach.cls = RX0 := by decide +kernel
theorem cwX_attach : GoodIn lw_all (wsV RX0 79 RX0 yX0_attach (ws_ yX0_attach dX_attach.1 dX_attach.2.1 dX_attach.2.2.1)) := lw_V q87 q89 qs4 q30 q90
theorem cnX_attach : yX0_attach.cls = RX0 ∧ yX0_attach.cls ≠ "java/lang/invoke/MethodHandle" ∧ yX0_attach.cls ≠ "java/lang/invoke/VarHandle" ∧ (parseMethodDescriptor yX0_attach.desc).map (fun d => d.parameters.length) = some 2 := by decide +kernel
def PX_unpack : List EN := [(0, .iload_n 1, 0, 0), (1, .bipush 8, 8, 0), (3, .imul, 0, 0), (4, .iload_n 2, 0, 0), (5, .iadd, 0, 0), (6, .istore_n 3, 0, 0), (7, .aload_n 0, 0, 0), (8, .aload_n 0, 0, 0), (9, .iload_n 1, 0, 0), (10, .iload_n 2, 0, 0), (11, .invokevirtual 51, 0, 0), (14, .putfield 33, 0, 3), (17, .aload_n 0, 0, 0), (18, .iconst 0, 0, 0), (19, .putfield 29, 0, 7), (22, .aload_n 0, 0, 0), (23, .iload_n 3, 0, 0), (24, .iconst 5, 5, 0), (25, .invokevirtual 55, 0, 0), (28, .istore 4, 0, 0), (30, .aload_n 0, 0, 0), (31, .iload_n 3, 0, 0), (32, .iconst 4, 4, 0), (33, .invokevirtual 55, 0, 0), (36, .istore 5, 0, 0), (38, .iconst 0, 0, 0), (39, .istore 6, 0, 0), (41, .iload 6, 0, 0), (43, .aload_n 0, 0, 0), (44, .getfield 33, 0, 3), (47, .if_icmp .ge 23, 0, 70), (50, .aload_n 0, 0, 0), (51, .getfield 19, 0, 4), (54, .iload 6, 0, 0), (56, .aload_n 0, 0, 0), (57, .iload_n 3, 0, 0), (58, .iload 4, 0, 0), (60, .invokevirtual 55, 0, 0), (63, .iastore, 0, 0), (64, .iinc 6 1, 1, 0), (67, .goto (-26), 0, 41), (70, .iconst 0, 0, 0), (71, .istore 6, 0, 0), (73, .iload 6, 0, 0), (75, .iload 5, 0, 0), (77, .if_icmp .ge 54, 0, 131), (80, .aload_n 0, 0, 0), (81, .iload_n 3, 0, 0), (82, .iconst 3, 3, 0), (83, .invokevirtual 55, 0, 0), (86, .istore 7, 0, 0), (88, .aload_n 0, 0, 0), (89, .iload_n 3, 0, 0), (90, .iconst 5, 5, 0), (91, .invokevirtual 55, 0, 0), (94, .istore 8, 0, 0), (96, .aload_n 0, 0, 0), (97, .iload_n 3, 0, 0), (98, .iload 8, 0, 0), (100, .invokevirtual 55, 0, 0), (103, .istore 9, 0, 0), (105, .aload_n 0, 0, 0), (106, .getfield 19, 0, 4), (109, .iload 7, 0, 0), (111, .aload_n 0, 0, 0), (112, .getfield 19, 0, 4), (115, .iload 7, 0, 0), (117, .iaload, 0, 0), (118, .iload 9, 0, 0), (120, .iload 4, 0, 0), (122, .ishl, 0, 0), (123, .ior, 0, 0), (124, .iastore, 0, 0), (125, .iinc 6 1, 1, 0), (128, .goto (-55), 0, 73), (131, .iload_n 2, 0, 0), (132, .ifCond .ne 7, 0, 139), (135, .iconst (-1), (-1), 0), (136, .goto 11, 0, 147), (139, .aload_n 0, 0, 0), (140, .getfield 13, 0, 1), (143, .iload_n 3, 0, 0), (144, .iconst 1, 1, 0), (145, .isub, 0, 0), (146, .iaload, 0, 0), (147, .istore 6, 0, 0), (149, .iconst 0, 0, 0), (150, .istore 7, 0, 0), (152, .iload 7, 0, 0), (154, .aload_n 0, 0, 0), (155, .getfield 33, 0, 3), (158, .if_icmp .ge 32, 0, 190), (161, .iload 6, 0, 0), (163, .aload_n 0, 0, 0), (164, .getfield 19, 0, 4), (167, .iload 7, 0, 0), (169, .iaload, 0, 0), (170, .iadd, 0, 0), (171, .iconst 1, 1, 0), (172, .iadd, 0, 0), (173, .istore 6, 0, 0), (175, .aload_n 0, 0, 0), (176, .getfield 22, 0, 5), (179, .iload 7, 0, 0), (181, .iload 6, 0, 0), (183, .iastore, 0, 0), (184, .iinc 7 1, 1, 0), (187, .goto (-35), 0, 152), (190, .return_, 0, 0)]
abbrev dX_unpack : MD := (cX0_unpack, 10, none, 1, 25)
theorem okX_unpack : PX_unpack.all (okE dX_unpack.1 ksX flX) = true := by decide +kernel
theorem hyX_unpack : plainName yX0_unpack.cls = true ∧ yX0_unpack.cls = RX0 := by decide +kernel
theorem cwX_unpack : GoodIn lw_all (wsV RX0 64 RX0 yX0_unpack (ws_ yX0_unpack dX_unpack.1 dX_unpack.2.1 dX_unpack.2.2.1)) := lw_V q91 q93 qs5 q30 q94
theorem cnX_unpack : yX0_unpack.cls = RX0 ∧ yX0_unpack.cls ≠ "java/lang/invoke/MethodHandle" ∧ yX0_unpack.cls ≠ "java/lang/invoke/VarHandle" ∧ (parseMethodDescriptor yX0_unpack.desc).map (fun d => d.parameters.length) = some 2 := by decide +kernel
def PX_inBlock : List EN := [(0, .aload_n 0, 0, 0), (1, .getfield 7, 0, 0), (4, .iload_n 1, 0, 0), (5, .iaload, 0, 0), (6, .bipush 8, 8, 0), (8, .iload_n 2, 0, 0), (9, .imul, 0, 0), (10, .isub, 0, 0), (11, .istore_n 3, 0, 0), (12, .iload_n 3, 0, 0), (13, .bipush 8, 8, 0), (15, .if_icmp .ge 7, 0, 22), (18, .iload_n 3, 0, 0), (19, .goto 5, 0, 24), (22, .bipush 8, 8, 0), (24, .ireturn, 0, 0)]
abbrev dX_inBlock : MD := (cX0_inBlock, 4, some .int, 0, 0)
theorem okX_inBlock : PX_inBlock.all (okE dX_inBlock.1 ksX flX) = true := by decide +kernel
theorem hyX_inBlock : plainName yX0_inBlock.cls = true ∧ yX0_inBlock.cls = RX0 := by decide +kernel
theorem cwX_inBlock : GoodIn lw_all (wsV RX0 51 RX0 yX0_inBlock (ws_ yX0_inBlock dX_inBlock.1 dX_inBlock.2.1 dX_inBlock.2.2.1)) := lw_V q95 q97 qs6 q30 q98
theorem cnX_inBlock : yX0_inBlock.cls = RX0 ∧ yX0_inBlock.cls ≠ "java/lang/invoke/MethodHandle" ∧ yX0_inBlock.cls ≠ "java/lang/invoke/VarHandle" ∧ (parseMethodDescriptor yX0_inBlock.desc).map (fun d => d.parameters.length) = some 2 := by decide +kernel
def PX_get : List EN := [(0, .iconst 0, 0, 0), (1, .istore_n 3, 0, 0), (2, .iconst 0, 0, 0), (3, .istore 4, 0, 0), (5, .iload 4, 0, 0), (7, .iload_n 2, 0, 0), (8, .if_icmp .ge 54, 0, 62), (11, .iload_n 1, 0, 0), (12, .bipush 6, 6, 0), (14, .imul, 0, 0), (15, .aload_n 0, 0, 0), (16, .getfield 29, 0, 7), (19, .iconst 5, 5, 0), (20, .ishr, 0, 0), (21, .iadd, 0, 0), (22, .istore 5, 0, 0), (24, .iload_n 3, 0, 0), (25, .iconst 2, 2, 0), (26, .imul, 0, 0), (27, .aload_n 0, 0, 0), (28, .getfield 16, 0, 2), (31, .iload 5, 0, 0), (33, .iaload, 0, 0), (34, .aload_n 0, 0, 0), (35, .getfield 29, 0, 7), (38, .bipush 31, 31, 0), (40, .iand, 0, 0), (41, .ishr, 0, 0), (42, .iconst 1, 1, 0), (43, .iand, 0, 0), (44, .iadd, 0, 0), (45, .istore_n 3, 0, 0), (46, .aload_n 0, 0, 0), (47, .dup, 0, 0), (48, .getfield 29, 0, 7), (51, .iconst 1, 1, 0), (52, .iadd, 0, 0), (53, .putfield 29, 0, 7), (56, .iinc 4 1, 1, 0), (59, .goto (-54), 0, 5), (62, .iload_n 3, 0, 0), (63, .ireturn, 0, 0)]
abbrev dX_get : MD := (cX0_get, 6, some .int, 0, 0)
theorem okX_get : PX_get.all (okE dX_get.1 ksX flX) = true := by decide +kernel
theorem hyX_get : plainName yX0_get.cls = true ∧ yX0_get.cls = RX0 := by decide +kernel
theorem cwX_get : GoodIn lw_all (wsV RX0 55 RX0 yX0_get (ws_ yX0_get dX_get.1 dX_get.2.1 dX_get.2.2.1)) := lw_V q99 q101 qs7 q30 q102
theorem cnX_get : yX0_get.cls = RX0 ∧ yX0_get.cls ≠ "java/lang/invoke/MethodHandle" ∧ yX0_get.cls ≠ "java/lang/invoke/VarHandle" ∧ (parseMethodDescriptor yX0_get.desc).map (fun d => d.parameters.length) = some 2 := by decide +kernel
def PX_pack : List EN := [(0, .aload_n 0, 0, 0), (1, .invokevirtual 43, 0, 0), (4, .istore_n 2, 0, 0), (5, .iconst 0, 0, 0), (6, .istore_n 3, 0, 0), (7, .iconst 0, 0, 0), (8, .istore 4, 0, 0), (10, .iload 4, 0, 0), (12, .aload_n 0, 0, 0), (13, .getfield 33, 0, 3), (16, .if_icmp .ge 31, 0, 47), (19, .aload_n 0, 0, 0), (20, .aload_n 0, 0, 0), (21, .getfield 19, 0, 4), (24, .iload 4, 0, 0), (26, .iaload, 0, 0), (27, .invokevirtual 36, 0, 0), (30, .istore 5, 0, 0), (32, .iload 5, 0, 0), (34, .iload_n 2, 0, 0), (35, .if_icmp .le 6, 0, 41), (38, .iinc 3 1, 1, 0), (41, .iinc 4 1, 1, 0), (44, .goto (-34), 0, 10), (47, .aload_n 0, 0, 0), (48, .iconst 0, 0, 0), (49, .putfield 29, 0, 7), (52, .aload_n 0, 0, 0), (53, .iload_n 1, 0, 0), (54, .iconst 5, 5, 0), (55, .iload_n 2, 0, 0), (56, .invokevirtual 47, 0, 0), (59, .aload_n 0, 0, 0), (60, .iload_n 1, 0, 0), (61, .iconst 4, 4, 0), (62, .iload_n 3, 0, 0), (63, .invokevirtual 47, 0, 0), (66, .iconst 0, 0, 0), (67, .istore 4, 0, 0), (69, .iload 4, 0, 0), (71, .aload_n 0, 0, 0), (72, .getfield 33, 0, 3), (75, .if_icmp .ge 28, 0, 103), (78, .aload_n 0, 0, 0), (79, .iload_n 1, 0, 0), (80, .iload_n 2, 0, 0), (81, .aload_n 0, 0, 0), (82, .getfield 19, 0, 4), (85, .iload 4, 0, 0), (87, .iaload, 0, 0), (88, .iconst 1, 1, 0), (89, .iload_n 2, 0, 0), (90, .ishl, 0, 0), (91, .iconst 1, 1, 0), (92, .isub, 0, 0), (93, .iand, 0, 0), (94, .invokevirtual 47, 0, 0), (97, .iinc 4 1, 1, 0), (100, .goto (-31), 0, 69), (103, .iconst 0, 0, 0), (104, .istore 4, 0, 0), (106, .iload 4, 0, 0), (108, .aload_n 0, 0, 0), (109, .getfield 33, 0, 3), (112, .if_icmp .ge 64, 0, 176), (115, .aload_n 0, 0, 0), (116, .aload_n 0, 0, 0), (117, .getfield 19, 0, 4), (120, .iload 4, 0, 0), (122, .iaload, 0, 0), (123, .invokevirtual 36, 0, 0), (126, .istore 5, 0, 0), (128, .iload 5, 0, 0), (130, .iload_n 2, 0, 0), (131, .if_icmp .le 39, 0, 170), (134, .aload_n 0, 0, 0), (135, .iload_n 1, 0, 0), (136, .iconst 3, 3, 0), (137, .iload 4, 0, 0), (139, .invokevirtual 47, 0, 0), (142, .aload_n 0, 0, 0), (143, .iload_n 1, 0, 0), (144, .iconst 5, 5, 0), (145, .iload 5, 0, 0), (147, .iload_n 2, 0, 0), (148, .isub, 0, 0), (149, .invokevirtual 47, 0, 0), (152, .aload_n 0, 0, 0), (153, .iload_n 1, 0, 0), (154, .iload 5, 0, 0), (156, .iload_n 2, 0, 0), (157, .isub, 0, 0), (158, .aload_n 0, 0, 0), (159, .getfield 19, 0, 4), (162, .iload 4, 0, 0), (164, .iaload, 0, 0), (165, .iload_n 2, 0, 0), (166, .ishr, 0, 0), (167, .invokevirtual 47, 0, 0), (170, .iinc 4 1, 1, 0), (173, .goto (-67), 0, 106), (176, .return_, 0, 0)]
abbrev dX_pack : MD := (cX0_pack, 6, none, 3, 71)
theorem okX_pack : PX_pack.all (okE dX_pack.1 ksX flX) = true := by decide +kernel
theorem hyX_pack : plainName yX0_pack.cls = true ∧ yX0_pack.cls = RX0 := by decide +kernel
theorem cwX_pack : GoodIn lw_all (wsV RX0 68 RX0 yX0_pack (ws_ yX0_pack dX_pack.1 dX_pack.2.1 dX_pack.2.2.1)) := lw_V q103 q105 qs8 q30 q106
theorem cnX_pack : yX0_pack.cls = RX0 ∧ yX0_pack.cls ≠ "java/lang/invoke/MethodHandle" ∧ yX0_pack.cls ≠ "java/lang/invoke/VarHandle" ∧ (parseMethodDescriptor yX0_pack.desc).map (fun d => d.parameters.length) = some 1 := by decide +kernel
def PX_bestBase : List EN := [(0, .iconst 0, 0, 0), (1, .istore_n 1, 0, 0), (2, .aload_n 0, 0, 0), (3, .iconst 0, 0, 0), (4, .invokevirtual 40, 0, 0), (7, .istore_n 2, 0, 0), (8, .iconst 1, 1, 0), (9, .istore_n 3, 0, 0), (10, .iload_n 3, 0, 0), (11, .bipush 20, 20, 0), (13, .if_icmp .gt 27, 0, 40), (16, .aload_n 0, 0, 0), (17, .iload_n 3, 0, 0), (18, .invokevirtual 40, 0, 0), (21, .istore 4, 0, 0), (23, .iload 4, 0, 0), (25, .iload_n 2, 0, 0), (26, .if_icmp .ge 8, 0, 34), (29, .iload 4, 0, 0), (31, .istore_n 2, 0, 0), (32, .iload_n 3, 0, 0), (33, .istore_n 1, 0, 0), (34, .iinc 3 1, 1, 0), (37, .goto (-27), 0, 10), (40, .iload_n 1, 0, 0), (41, .ireturn, 0, 0)]
abbrev dX_bestBase : MD := (cX0_bestBase, 5, some .int, 2, 47)
theorem okX_bestBase : PX_bestBase.all (okE dX_bestBase.1 ksX flX) = true := by decide +kernel
theorem hyX_bestBase : plainName yX0_bestBase.cls = true ∧ yX0_bestBase.cls = RX0 := by decide +kernel
theorem cwX_bestBase : GoodIn lw_all (wsV RX0 43 RX0 yX0_bestBase (ws_ yX0_bestBase dX_bestBase.1 dX_bestBase.2.1 dX_bestBase.2.2.1)) := lw_V q107 q109 qs9 q30 q110
theorem cnX_bestBase : yX0_bestBase.cls = RX0 ∧ yX0_bestBase.cls ≠ "java/lang/invoke/MethodHandle" ∧ yX0_bestBase.cls ≠ "java/lang/invoke/VarHandle" ∧ (parseMethodDescriptor yX0_bestBase.desc).map (fun d => d.parameters.length) = some 0 := by decide +kernel
def PX_sizeAt : List EN := [(0, .bipush 9, 9, 0), (2, .istore_n 2, 0, 0), (3, .iconst 0, 0, 0), (4, .istore_n 3, 0, 0), (5, .iload_n 3, 0, 0), (6, .aload_n 0, 0, 0), (7, .getfield 33, 0, 3), (10, .if_icmp .ge 41, 0, 51), (13, .aload_n 0, 0, 0), (14, .aload_n 0, 0, 0), (15, .getfield 19, 0, 4), (18, .iload_n 3, 0, 0), (19, .iaload, 0, 0), (20, .invokevirtual 36, 0, 0), (23, .istore 4, 0, 0), (25, .iload_n 2, 0, 0), (26, .iload_n 1, 0, 0), (27, .iadd, 0, 0), (28, .istore_n 2, 0, 0), (29, .iload 4, 0, 0), (31, .iload_n 1, 0, 0), (32, .if_icmp .le 13, 0, 45), (35, .iload_n 2, 0, 0), (36, .bipush 8, 8, 0), (38, .iadd, 0, 0), (39, .iload 4, 0, 0), (41, .iadd, 0, 0), (42, .iload_n 1, 0, 0), (43, .isub, 0, 0), (44, .istore_n 2, 0, 0), (45, .iinc 3 1, 1, 0), (48, .goto (-43), 0, 5), (51, .iload_n 2, 0, 0), (52, .ireturn, 0, 0)]
abbrev dX_sizeAt : MD := (cX0_sizeAt, 5, some .int, 1, 23)
theorem okX_sizeAt : PX_sizeAt.all (okE dX_sizeAt.1 ksX flX) = true := by decide +kernel
theorem hyX_sizeAt : plainName yX0_sizeAt.cls = true ∧ yX0_sizeAt.cls = RX0 := by decide +kernel
theorem cwX_sizeAt : GoodIn lw_all (wsV RX0 40 RX0 yX0_sizeAt (ws_ yX0_sizeAt dX_sizeAt.1 dX_sizeAt.2.1 dX_sizeAt.2.2.1)) := lw_V q111 q113 qs10 q30 q114
theorem cnX_sizeAt : yX0_sizeAt.cls = RX0 ∧ yX0_sizeAt.cls ≠ "java/lang/invoke/MethodHandle" ∧ yX0_sizeAt.cls ≠ "java/lang/invoke/VarHandle" ∧ (parseMethodDescriptor yX0_sizeAt.desc).map (fun d => d.parameters.length) = some 1 := by decide +kernel
def PX_width : List EN := [(0, .iconst 0, 0, 0), (1, .istore_n 2, 0, 0), (2, .iconst 0, 0, 0), (3, .istore_n 3, 0, 0), (4, .iload_n 3, 0, 0), (5, .bipush 31, 31, 0), (7, .if_icmp .ge 18, 0, 25), (10, .iload_n 1, 0, 0), (11, .iload_n 3, 0, 0), (12, .ishr, 0, 0), (13, .ifCond .eq 12, 0, 25), (16, .iinc 2 1, 1, 0), (19, .iinc 3 1, 1, 0), (22, .goto (-18), 0, 4), (25, .iload_n 2, 0, 0), (26, .ireturn, 0, 0)]
abbrev dX_width : MD := (cX0_width, 4, some .int, 0, 0)
theorem okX_width : PX_width.all (okE dX_width.1 ksX flX) = true := by decide +kernel
theorem hyX_width : plainName yX0_width.cls = true ∧ yX0_width.cls = RX0 := by decide +kernel
theorem cwX_width : GoodIn lw_all (wsV RX0 36 RX0 yX0_width (ws_ yX0_width dX_width.1 dX_width.2.1 dX_width.2.2.1)) := lw_V q115 q117 qs11 q30 q118
theorem cnX_width : yX0_width.cls = RX0 ∧ yX0_width.cls ≠ "java/lang/invoke/MethodHandle" ∧ yX0_width.cls ≠ "java/lang/invoke/VarHandle" ∧ (parseMethodDescriptor yX0_width.desc).map (fun d => d.parameters.length) = some 1 := by decide +kernel
def PX_put : List EN := [(0, .iload_n 2, 0, 0), (1, .iconst 1, 1, 0), (2, .isub, 0, 0), (3, .istore 4, 0, 0), (5, .iload 4, 0, 0), (7, .ifCond .lt 92, 0, 99), (10, .iload_n 1, 0, 0), (11, .bipush 6, 6, 0), (13, .imul, 0, 0), (14, .aload_n 0, 0, 0), (15, .getfield 29, 0, 7), (18, .iconst 5, 5, 0), (19, .ishr, 0, 0), (20, .iadd, 0, 0), (21, .istore 5, 0, 0), (23, .iconst 1, 1, 0), (24, .aload_n 0, 0, 0), (25, .getfield 29, 0, 7), (28, .bipush 31, 31, 0), (30, .iand, 0, 0), (31, .ishl, 0, 0), (32, .istore 6, 0, 0), (34, .iload_n 3, 0, 0), (35, .iload 4, 0, 0), (37, .ishr, 0, 0), (38, .iconst 1, 1, 0), (39, .iand, 0, 0), (40, .iconst 1, 1, 0), (41, .if_icmp .ne 23, 0, 64), (44, .aload_n 0, 0, 0), (45, .getfield 16, 0, 2), (48, .iload 5, 0, 0), (50, .aload_n 0, 0, 0), (51, .getfield 16, 0, 2), (54, .iload 5, 0, 0), (56, .iaload, 0, 0), (57, .iload 6, 0, 0), (59, .ior, 0, 0), (60, .iastore, 0, 0), (61, .goto 22, 0, 83), (64, .aload_n 0, 0, 0), (65, .getfield 16, 0, 2), (68, .iload 5, 0, 0), (70, .aload_n 0, 0, 0), (71, .getfield 16, 0, 2), (74, .iload 5, 0, 0), (76, .iaload, 0, 0), (77, .iload 6, 0, 0), (79, .iconst (-1), (-1), 0), (80, .ixor, 0, 0), (81, .iand, 0, 0), (82, .iastore, 0, 0), (83, .aload_n 0, 0, 0), (84, .dup, 0, 0), (85, .getfield 29, 0, 7), (88, .iconst 1, 1, 0), (89, .iadd, 0, 0), (90, .putfield 29, 0, 7), (93, .iinc 4 (-1), (-1), 0), (96, .goto (-91), 0, 5), (99, .return_, 0, 0)]
abbrev dX_put : MD := (cX0_put, 7, none, 0, 0)
theorem okX_put : PX_put.all (okE dX_put.1 ksX flX) = true := by decide +kernel
theorem hyX_put : plainName yX0_put.cls = true ∧ yX0_put.cls = RX0 := by decide +kernel
theorem cwX_put : GoodIn lw_all (wsV RX0 47 RX0 yX0_put (ws_ yX0_put dX_put.1 dX_put.2.1 dX_put.2.2.1)) := lw_V q119 q121 qs12 q30 q122
theorem cnX_put : yX0_put.cls = RX0 ∧ yX0_put.cls ≠ "java/lang/invoke/MethodHandle" ∧ yX0_put.cls ≠ "java/lang/invoke/VarHandle" ∧ (parseMethodDescriptor yX0_put.desc).map (fun d => d.parameters.length) = some 3 := by decide +kernel
def PX_run : List EN := [(0, .aload_n 0, 0, 0), (1, .iload_n 1, 0, 0), (2, .invokevirtual 72, 0, 0), (5, .ifCond .ne 25, 0, 30), (8, .iload_n 2, 0, 0), (9, .ifCond .lt 21, 0, 30), (12, .iload_n 2, 0, 0), (13, .bipush 64, 64, 0), (15, .if_icmp .gt 15, 0, 30), (18, .iload_n 3, 0, 0), (19, .iconst 1, 1, 0), (20, .if_icmp .lt 10, 0, 30), (23, .iload_n 3, 0, 0), (24, .sipush 1000, 1000, 0), (27, .if_icmp .le 5, 0, 32), (30, .iconst (-1), (-1), 0), (31, .ireturn, 0, 0), (32, .aload_n 0, 0, 0), (33, .getfield 7, 0, 0), (36, .iload_n 1, 0, 0), (37, .iaload, 0, 0), (38, .iload_n 2, 0, 0), (39, .iadd, 0, 0), (40, .bipush 64, 64, 0), (42, .if_icmp .le 6, 0, 48), (45, .bipush (-2), (-2), 0), (47, .ireturn, 0, 0), (48, .aload_n 0, 0, 0), (49, .iload_n 1, 0, 0), (50, .invokevirtual 61, 0, 0), (53, .istore 4, 0, 0), (55, .iload_n 2, 0, 0), (56, .ifCond .le 16, 0, 72), (59, .iload 4, 0, 0), (61, .iload_n 2, 0, 0), (62, .iload_n 3, 0, 0), (63, .imul, 0, 0), (64, .iadd, 0, 0), (65, .ldc 28, 1000000, 0), (67, .if_icmp .le 5, 0, 72), (70, .iconst (-1), (-1), 0), (71, .ireturn, 0, 0), (72, .iconst 0, 0, 0), (73, .istore 5, 0, 0), (75, .iload 5, 0, 0), (77, .iload_n 2, 0, 0), (78, .if_icmp .ge 22, 0, 100), (81, .iload 4, 0, 0), (83, .iload_n 3, 0, 0), (84, .iadd, 0, 0), (85, .istore 4, 0, 0), (87, .aload_n 0, 0, 0), (88, .iload_n 1, 0, 0), (89, .iload 4, 0, 0), (91, .invokevirtual 79, 0, 0), (94, .iinc 5 1, 1, 0), (97, .goto (-22), 0, 75), (100, .aload_n 0, 0, 0), (101, .getfield 7, 0, 0), (104, .iload_n 1, 0, 0), (105, .iaload, 0, 0), (106, .ireturn, 0, 0)]
abbrev dX_run : MD := (cX0_run, 6, some .int, 5, 120)
theorem okX_run : PX_run.all (okE dX_run.1 ksX flX) = true := by decide +kernel
theorem hyX_run : plainName yX0_run.cls = true ∧ yX0_run.cls = RX0 := by decide +kernel
def PX_insert : List EN := [(0, .aload_n 0, 0, 0), (1, .iload_n 1, 0, 0), (2, .invokevirtual 72, 0, 0), (5, .ifCond .ne 11, 0, 16), (8, .aload_n 0, 0, 0), (9, .iload_n 2, 0, 0), (10, .invokevirtual 76, 0, 0), (13, .ifCond .eq 5, 0, 18), (16, .iconst (-1), (-1), 0), (17, .ireturn, 0, 0), (18, .aload_n 0, 0, 0), (19, .iload_n 1, 0, 0), (20, .iload_n 2, 0, 0), (21, .invokevirtual 82, 0, 0), (24, .istore_n 3, 0, 0), (25, .iload_n 3, 0, 0), (26, .aload_n 0, 0, 0), (27, .getfield 7, 0, 0), (30, .iload_n 1, 0, 0), (31, .iaload, 0, 0), (32, .if_icmp .ge 17, 0, 49), (35, .aload_n 0, 0, 0), (36, .iload_n 1, 0, 0), (37, .iload_n 3, 0, 0), (38, .invokevirtual 85, 0, 0), (41, .iload_n 2, 0, 0), (42, .if_icmp .ne 7, 0, 49), (45, .iconst 1, 1, 0), (46, .goto 4, 0, 50), (49, .iconst 0, 0, 0), (50, .istore 4, 0, 0), (52, .iload 4, 0, 0), (54, .ifCond .eq 6, 0, 60), (57, .bipush (-4), (-4), 0), (59, .ireturn, 0, 0), (60, .aload_n 0, 0, 0), (61, .getfield 7, 0, 0), (64, .iload_n 1, 0, 0), (65, .iaload, 0, 0), (66, .bipush 64, 64, 0), (68, .if_icmp .ne 6, 0, 74), (71, .bipush (-2), (-2), 0), (73, .ireturn, 0, 0), (74, .aload_n 0, 0, 0), (75, .iload_n 1, 0, 0), (76, .invokevirtual 88, 0, 0), (79, .aload_n 0, 0, 0), (80, .getfield 7, 0, 0), (83, .iload_n 1, 0, 0), (84, .iaload, 0, 0), (85, .istore 5, 0, 0), (87, .iload 5, 0, 0), (89, .iload_n 3, 0, 0), (90, .if_icmp .le 25, 0, 115), (93, .aload_n 0, 0, 0), (94, .getfield 25, 0, 6), (97, .iload 5, 0, 0), (99, .aload_n 0, 0, 0), (100, .getfield 25, 0, 6), (103, .iload 5, 0, 0), (105, .iconst 1, 1, 0), (106, .isub, 0, 0), (107, .iaload, 0, 0), (108, .iastore, 0, 0), (109, .iinc 5 (-1), (-1), 0), (112, .goto (-25), 0, 87), (115, .aload_n 0, 0, 0), (116, .getfield 25, 0, 6), (119, .iload_n 3, 0, 0), (120, .iload_n 2, 0, 0), (121, .iastore, 0, 0), (122, .aload_n 0, 0, 0), (123, .iload_n 1, 0, 0), (124, .aload_n 0, 0, 0), (125, .getfield 7, 0, 0), (128, .iload_n 1, 0, 0), (129, .iaload, 0, 0), (130, .iconst 1, 1, 0), (131, .iadd, 0, 0), (132, .iload_n 3, 0, 0), (133, .invokevirtual 91, 0, 0), (136, .iload_n 3, 0, 0), (137, .ireturn, 0, 0)]
abbrev dX_insert : MD := (cX0_insert, 6, some .int, 5, 123)
theorem okX_insert : PX_insert.all (okE dX_insert.1 ksX flX) = true := by decide +kernel
theorem hyX_insert : plainName yX0_insert.cls = true ∧ yX0_insert.cls = RX0 := by decide +kernel
def PX_firstFrom : List EN := [(0, .aload_n 0, 0, 0), (1, .iload_n 1, 0, 0), (2, .iload_n 2, 0, 0), (3, .invokevirtual 94, 0, 0), (6, .istore_n 3, 0, 0), (7, .aload_n 0, 0, 0), (8, .iload_n 1, 0, 0), (9, .invokevirtual 58, 0, 0), (12, .istore 4, 0, 0), (14, .iload_n 3, 0, 0), (15, .iload 4, 0, 0), (17, .if_icmp .ne 10, 0, 27), (20, .aload_n 0, 0, 0), (21, .getfield 7, 0, 0), (24, .iload_n 1, 0, 0), (25, .iaload, 0, 0), (26, .ireturn, 0, 0), (27, .aload_n 0, 0, 0), (28, .iload_n 1, 0, 0), (29, .iload_n 3, 0, 0), (30, .invokevirtual 64, 0, 0), (33, .iconst 0, 0, 0), (34, .istore 5, 0, 0), (36, .iconst 0, 0, 0), (37, .istore 6, 0, 0), (39, .iload 6, 0, 0), (41, .bipush 8, 8, 0), (43, .if_icmp .ge 32, 0, 75), (46, .iload 5, 0, 0), (48, .aload_n 0, 0, 0), (49, .getfield 33, 0, 3), (52, .if_icmp .ge 23, 0, 75), (55, .aload_n 0, 0, 0), (56, .getfield 22, 0, 5), (59, .iload 5, 0, 0), (61, .iaload, 0, 0), (62, .iload_n 2, 0, 0), (63, .if_icmp .ge 12, 0, 75), (66, .iinc 5 1, 1, 0), (69, .iinc 6 1, 1, 0), (72, .goto (-33), 0, 39), (75, .iload_n 3, 0, 0), (76, .bipush 8, 8, 0), (78, .imul, 0, 0), (79, .iload 5, 0, 0), (81, .iadd, 0, 0), (82, .ireturn, 0, 0)]
abbrev dX_firstFrom : MD := (cX0_firstFrom, 7, some .int, 2, 54)
theorem okX_firstFrom : PX_firstFrom.all (okE dX_firstFrom.1 ksX flX) = true := by decide +kernel
theorem hyX_firstFrom : plainName yX0_firstFrom.cls = true ∧ yX0_firstFrom.cls = RX0 := by decide +kernel
theorem cwX_firstFrom : GoodIn lw_all (wsV RX0 82 RX0 yX0_firstFrom (ws_ yX0_firstFrom dX_firstFrom.1 dX_firstFrom.2.1 dX_firstFrom.2.2.1)) := lw_V q131 q133 qs13 q30 q134
theorem cnX_firstFrom : yX0_firstFrom.cls = RX0 ∧ yX0_firstFrom.cls ≠ "java/lang/invoke/MethodHandle" ∧ yX0_firstFrom.cls ≠ "java/lang/invoke/VarHandle" ∧ (parseMethodDescriptor yX0_firstFrom.desc).map (fun d => d.parameters.length) = some 2 := by decide +kernel
def PX_blockFrom : List EN := [(0, .iconst 0, 0, 0), (1, .istore_n 3, 0, 0), (2, .aload_n 0, 0, 0), (3, .iload_n 1, 0, 0), (4, .invokevirtual 58, 0, 0), (7, .istore 4, 0, 0), (9, .iconst 0, 0, 0), (10, .istore 5, 0, 0), (12, .iload 5, 0, 0), (14, .iconst 5, 5, 0), (15, .if_icmp .ge 51, 0, 66), (18, .iload_n 3, 0, 0), (19, .iload 4, 0, 0), (21, .if_icmp .ge 45, 0, 66), (24, .iload_n 3, 0, 0), (25, .iload 4, 0, 0), (27, .iadd, 0, 0), (28, .iconst 1, 1, 0), (29, .ishr, 0, 0), (30, .istore 6, 0, 0), (32, .aload_n 0, 0, 0), (33, .getfield 13, 0, 1), (36, .iload_n 1, 0, 0), (37, .bipush 8, 8, 0), (39, .imul, 0, 0), (40, .iload 6, 0, 0), (42, .iadd, 0, 0), (43, .iaload, 0, 0), (44, .iload_n 2, 0, 0), (45, .if_icmp .ge 11, 0, 56), (48, .iload 6, 0, 0), (50, .iconst 1, 1, 0), (51, .iadd, 0, 0), (52, .istore_n 3, 0, 0), (53, .goto 7, 0, 60), (56, .iload 6, 0, 0), (58, .istore 4, 0, 0), (60, .iinc 5 1, 1, 0), (63, .goto (-51), 0, 12), (66, .iload_n 3, 0, 0), (67, .ireturn, 0, 0)]
abbrev dX_blockFrom : MD := (cX0_blockFrom, 7, some .int, 1, 21)
theorem okX_blockFrom : PX_blockFrom.all (okE dX_blockFrom.1 ksX flX) = true := by decide +kernel
theorem hyX_blockFrom : plainName yX0_blockFrom.cls = true ∧ yX0_blockFrom.cls = RX0 := by decide +kernel
theorem cwX_blockFrom : GoodIn lw_all (wsV RX0 94 RX0 yX0_blockFrom (ws_ yX0_blockFrom dX_blockFrom.1 dX_blockFrom.2.1 dX_blockFrom.2.2.1)) := lw_V q135 q137 qs14 q30 q138
theorem cnX_blockFrom : yX0_blockFrom.cls = RX0 ∧ yX0_blockFrom.cls ≠ "java/lang/invoke/MethodHandle" ∧ yX0_blockFrom.cls ≠ "java/lang/invoke/VarHandle" ∧ (parseMethodDescriptor yX0_blockFrom.desc).map (fun d => d.parameters.length) = some 2 := by decide +kernel
def PX_numberAt : List EN := [(0, .aload_n 0, 0, 0), (1, .iload_n 1, 0, 0), (2, .iload_n 2, 0, 0), (3, .iconst 3, 3, 0), (4, .ishr, 0, 0), (5, .invokevirtual 64, 0, 0), (8, .aload_n 0, 0, 0), (9, .getfield 22, 0, 5), (12, .iload_n 2, 0, 0), (13, .bipush 7, 7, 0), (15, .iand, 0, 0), (16, .iaload, 0, 0), (17, .ireturn, 0, 0)]
abbrev dX_numberAt : MD := (cX0_numberAt, 3, some .int, 2, 54)
theorem okX_numberAt : PX_numberAt.all (okE dX_numberAt.1 ksX flX) = true := by decide +kernel
theorem hyX_numberAt : plainName yX0_numberAt.cls = true ∧ yX0_numberAt.cls = RX0 := by decide +kernel
theorem cwX_numberAt : GoodIn lw_all (wsV RX0 85 RX0 yX0_numberAt (ws_ yX0_numberAt dX_numberAt.1 dX_numberAt.2.1 dX_numberAt.2.2.1)) := lw_V q139 q141 qs15 q30 q142
theorem cnX_numberAt : yX0_numberAt.cls = RX0 ∧ yX0_numberAt.cls ≠ "java/lang/invoke/MethodHandle" ∧ yX0_numberAt.cls ≠ "java/lang/invoke/VarHandle" ∧ (parseMethodDescriptor yX0_numberAt.desc).map (fun d => d.parameters.length) = some 2 := by decide +kernel
def PX_spread : List EN := [(0, .aload_n 0, 0, 0), (1, .iload_n 1, 0, 0), (2, .invokevirtual 58, 0, 0), (5, .istore_n 2, 0, 0), (6, .iconst 0, 0, 0), (7, .istore_n 3, 0, 0), (8, .iload_n 3, 0, 0), (9, .iload_n 2, 0, 0), (10, .if_icmp .ge 52, 0, 62), (13, .aload_n 0, 0, 0), (14, .iload_n 1, 0, 0), (15, .iload_n 3, 0, 0), (16, .invokevirtual 64, 0, 0), (19, .iconst 0, 0, 0), (20, .istore 4, 0, 0), (22, .iload 4, 0, 0), (24, .aload_n 0, 0, 0), (25, .getfield 33, 0, 3), (28, .if_icmp .ge 28, 0, 56), (31, .aload_n 0, 0, 0), (32, .getfield 25, 0, 6), (35, .iload_n 3, 0, 0), (36, .bipush 8, 8, 0), (38, .imul, 0, 0), (39, .iload 4, 0, 0), (41, .iadd, 0, 0), (42, .aload_n 0, 0, 0), (43, .getfield 22, 0, 5), (46, .iload 4, 0, 0), (48, .iaload, 0, 0), (49, .iastore, 0, 0), (50, .iinc 4 1, 1, 0), (53, .goto (-31), 0, 22), (56, .iinc 3 1, 1, 0), (59, .goto (-51), 0, 8), (62, .return_, 0, 0)]
abbrev dX_spread : MD := (cX0_spread, 5, none, 2, 54)
theorem okX_spread : PX_spread.all (okE dX_spread.1 ksX flX) = true := by decide +kernel
theorem hyX_spread : plainName yX0_spread.cls = true ∧ yX0_spread.cls = RX0 := by decide +kernel
theorem cwX_spread : GoodIn lw_all (wsV RX0 88 RX0 yX0_spread (ws_ yX0_spread dX_spread.1 dX_spread.2.1 dX_spread.2.2.1)) := lw_V q143 q145 qs16 q30 q146
theorem cnX_spread : yX0_spread.cls = RX0 ∧ yX0_spread.cls ≠ "java/lang/invoke/MethodHandle" ∧ yX0_spread.cls ≠ "java/lang/invoke/VarHandle" ∧ (parseMethodDescriptor yX0_spread.desc).map (fun d => d.parameters.length) = some 1 := by decide +kernel
def PX_rebuild : List EN := [(0, .aload_n 0, 0, 0), (1, .getfield 7, 0, 0), (4, .iload_n 1, 0, 0), (5, .iload_n 2, 0, 0), (6, .iastore, 0, 0), (7, .aload_n 0, 0, 0), (8, .iload_n 1, 0, 0), (9, .invokevirtual 58, 0, 0), (12, .istore 4, 0, 0), (14, .iload_n 3, 0, 0), (15, .iconst 3, 3, 0), (16, .ishr, 0, 0), (17, .istore 5, 0, 0), (19, .iload 5, 0, 0), (21, .iload 4, 0, 0), (23, .if_icmp .ge 126, 0, 149), (26, .aload_n 0, 0, 0), (27, .aload_n 0, 0, 0), (28, .iload_n 1, 0, 0), (29, .iload 5, 0, 0), (31, .invokevirtual 51, 0, 0), (34, .putfield 33, 0, 3), (37, .iload 5, 0, 0), (39, .ifCond .ne 7, 0, 46), (42, .iconst (-1), (-1), 0), (43, .goto 15, 0, 58), (46, .aload_n 0, 0, 0), (47, .getfield 25, 0, 6), (50, .iload 5, 0, 0), (52, .bipush 8, 8, 0), (54, .imul, 0, 0), (55, .iconst 1, 1, 0), (56, .isub, 0, 0), (57, .iaload, 0, 0), (58, .istore 6, 0, 0), (60, .iconst 0, 0, 0), (61, .istore 7, 0, 0), (63, .iload 7, 0, 0), (65, .aload_n 0, 0, 0), (66, .getfield 33, 0, 3), (69, .if_icmp .ge 49, 0, 118), (72, .aload_n 0, 0, 0), (73, .getfield 19, 0, 4), (76, .iload 7, 0, 0), (78, .aload_n 0, 0, 0), (79, .getfield 25, 0, 6), (82, .iload 5, 0, 0), (84, .bipush 8, 8, 0), (86, .imul, 0, 0), (87, .iload 7, 0, 0), (89, .iadd, 0, 0), (90, .iaload, 0, 0), (91, .iload 6, 0, 0), (93, .isub, 0, 0), (94, .iconst 1, 1, 0), (95, .isub, 0, 0), (96, .iastore, 0, 0), (97, .aload_n 0, 0, 0), (98, .getfield 25, 0, 6), (101, .iload 5, 0, 0), (103, .bipush 8, 8, 0), (105, .imul, 0, 0), (106, .iload 7, 0, 0), (108, .iadd, 0, 0), (109, .iaload, 0, 0), (110, .istore 6, 0, 0), (112, .iinc 7 1, 1, 0), (115, .goto (-52), 0, 63), (118, .aload_n 0, 0, 0), (119, .iload_n 1, 0, 0), (120, .bipush 8, 8, 0), (122, .imul, 0, 0), (123, .iload 5, 0, 0), (125, .iadd, 0, 0), (126, .invokevirtual 68, 0, 0), (129, .aload_n 0, 0, 0), (130, .getfield 13, 0, 1), (133, .iload_n 1, 0, 0), (134, .bipush 8, 8, 0), (136, .imul, 0, 0), (137, .iload 5, 0, 0), (139, .iadd, 0, 0), (140, .iload 6, 0, 0), (142, .iastore, 0, 0), (143, .iinc 5 1, 1, 0), (146, .goto (-127), 0, 19), (149, .return_, 0, 0)]
abbrev dX_rebuild : MD := (cX0_rebuild, 8, none, 4, 96)
theorem okX_rebuild : PX_rebuild.all (okE dX_rebuild.1 ksX flX) = true := by decide +kernel
theorem hyX_rebuild : plainName yX0_rebuild.cls = true ∧ yX0_rebuild.cls = RX0 := by decide +kernel
theorem cwX_rebuild : GoodIn lw_all (wsV RX0 91 RX0 yX0_rebuild (ws_ yX0_rebuild dX_rebuild.1 dX_rebuild.2.1 dX_rebuild.2.2.1)) := lw_V q147 q149 qs17 q30 q150
theorem cnX_rebuild : yX0_rebuild.cls = RX0 ∧ yX0_rebuild.cls ≠ "java/lang/invoke/MethodHandle" ∧ yX0_rebuild.cls ≠ "java/lang/invoke/VarHandle" ∧ (parseMethodDescriptor yX0_rebuild.desc).map (fun d => d.parameters.length) = some 3 := by decide +kernel
def PX_remove : List EN := [(0, .aload_n 0, 0, 0), (1, .iload_n 1, 0, 0), (2, .invokevirtual 72, 0, 0), (5, .ifCond .eq 5, 0, 10), (8, .iconst (-1), (-1), 0), (9, .ireturn, 0, 0), (10, .aload_n 0, 0, 0), (11, .iload_n 1, 0, 0), (12, .iload_n 2, 0, 0), (13, .invokevirtual 82, 0, 0), (16, .istore_n 3, 0, 0), (17, .iload_n 3, 0, 0), (18, .aload_n 0, 0, 0), (19, .getfield 7, 0, 0), (22, .iload_n 1, 0, 0), (23, .iaload, 0, 0), (24, .if_icmp .ge 17, 0, 41), (27, .aload_n 0, 0, 0), (28, .iload_n 1, 0, 0), (29, .iload_n 3, 0, 0), (30, .invokevirtual 85, 0, 0), (33, .iload_n 2, 0, 0), (34, .if_icmp .ne 7, 0, 41), (37, .iconst 1, 1, 0), (38, .goto 4, 0, 42), (41, .iconst 0, 0, 0), (42, .istore 4, 0, 0), (44, .iload 4, 0, 0), (46, .ifCond .ne 6, 0, 52), (49, .bipush (-4), (-4), 0), (51, .ireturn, 0, 0), (52, .aload_n 0, 0, 0), (53, .iload_n 1, 0, 0), (54, .invokevirtual 88, 0, 0), (57, .aload_n 0, 0, 0), (58, .getfield 7, 0, 0), (61, .iload_n 1, 0, 0), (62, .iaload, 0, 0), (63, .iconst 1, 1, 0), (64, .isub, 0, 0), (65, .istore 5, 0, 0), (67, .iload_n 3, 0, 0), (68, .istore 6, 0, 0), (70, .iload 6, 0, 0), (72, .iload 5, 0, 0), (74, .if_icmp .ge 25, 0, 99), (77, .aload_n 0, 0, 0), (78, .getfield 25, 0, 6), (81, .iload 6, 0, 0), (83, .aload_n 0, 0, 0), (84, .getfield 25, 0, 6), (87, .iload 6, 0, 0), (89, .iconst 1, 1, 0), (90, .iadd, 0, 0), (91, .iaload, 0, 0), (92, .iastore, 0, 0), (93, .iinc 6 1, 1, 0), (96, .goto (-26), 0, 70), (99, .aload_n 0, 0, 0), (100, .iload_n 1, 0, 0), (101, .iload 5, 0, 0), (103, .iload_n 3, 0, 0), (104, .invokevirtual 91, 0, 0), (107, .iload_n 3, 0, 0), (108, .ireturn, 0, 0)]
abbrev dX_remove : MD := (cX0_remove, 7, some .int, 5, 123)
theorem okX_remove : PX_remove.all (okE dX_remove.1 ksX flX) = true := by decide +kernel
theorem hyX_remove : plainName yX0_remove.cls = true ∧ yX0_remove.cls = RX0 := by decide +kernel
def PX_clear : List EN := [(0, .aload_n 0, 0, 0), (1, .iload_n 1, 0, 0), (2, .invokevirtual 72, 0, 0), (5, .ifCond .eq 5, 0, 10), (8, .iconst (-1), (-1), 0), (9, .ireturn, 0, 0), (10, .aload_n 0, 0, 0), (11, .getfield 7, 0, 0), (14, .iload_n 1, 0, 0), (15, .iaload, 0, 0), (16, .istore_n 2, 0, 0), (17, .aload_n 0, 0, 0), (18, .getfield 7, 0, 0), (21, .iload_n 1, 0, 0), (22, .iconst 0, 0, 0), (23, .iastore, 0, 0), (24, .iload_n 2, 0, 0), (25, .ireturn, 0, 0)]
abbrev dX_clear : MD := (cX0_clear, 3, some .int, 1, 21)
theorem okX_clear : PX_clear.all (okE dX_clear.1 ksX flX) = true := by decide +kernel
theorem hyX_clear : plainName yX0_clear.cls = true ∧ yX0_clear.cls = RX0 := by decide +kernel
def PX_size : List EN := [(0, .aload_n 0, 0, 0), (1, .iload_n 1, 0, 0), (2, .invokevirtual 72, 0, 0), (5, .ifCond .eq 7, 0, 12), (8, .iconst (-1), (-1), 0), (9, .goto 9, 0, 18), (12, .aload_n 0, 0, 0), (13, .getfield 7, 0, 0), (16, .iload_n 1, 0, 0), (17, .iaload, 0, 0), (18, .ireturn, 0, 0)]
abbrev dX_size : MD := (cX0_size, 2, some .int, 1, 21)
theorem okX_size : PX_size.all (okE dX_size.1 ksX flX) = true := by decide +kernel
theorem hyX_size : plainName yX0_size.cls = true ∧ yX0_size.cls = RX0 := by decide +kernel
def PX_at : List EN := [(0, .aload_n 0, 0, 0), (1, .iload_n 1, 0, 0), (2, .invokevirtual 72, 0, 0), (5, .ifCond .eq 5, 0, 10), (8, .iconst (-1), (-1), 0), (9, .ireturn, 0, 0), (10, .iload_n 2, 0, 0), (11, .ifCond .lt 13, 0, 24), (14, .iload_n 2, 0, 0), (15, .aload_n 0, 0, 0), (16, .getfield 7, 0, 0), (19, .iload_n 1, 0, 0), (20, .iaload, 0, 0), (21, .if_icmp .lt 6, 0, 27), (24, .bipush (-4), (-4), 0), (26, .ireturn, 0, 0), (27, .aload_n 0, 0, 0), (28, .iload_n 1, 0, 0), (29, .iload_n 2, 0, 0), (30, .invokevirtual 85, 0, 0), (33, .ireturn, 0, 0)]
abbrev dX_at : MD := (cX0_at, 3, some .int, 3, 76)
theorem okX_at : PX_at.all (okE dX_at.1 ksX flX) = true := by decide +kernel
theorem hyX_at : plainName yX0_at.cls = true ∧ yX0_at.cls = RX0 := by decide +kernel
def PX_seek : List EN := [(0, .aload_n 0, 0, 0), (1, .iload_n 1, 0, 0), (2, .invokevirtual 72, 0, 0), (5, .ifCond .eq 5, 0, 10), (8, .iconst (-1), (-1), 0), (9, .ireturn, 0, 0), (10, .aload_n 0, 0, 0), (11, .iload_n 1, 0, 0), (12, .iload_n 2, 0, 0), (13, .invokevirtual 82, 0, 0), (16, .istore_n 3, 0, 0), (17, .iload_n 3, 0, 0), (18, .aload_n 0, 0, 0), (19, .getfield 7, 0, 0), (22, .iload_n 1, 0, 0), (23, .iaload, 0, 0), (24, .if_icmp .ne 8, 0, 32), (27, .bipush (-4), (-4), 0), (29, .goto 4, 0, 33), (32, .iload_n 3, 0, 0), (33, .ireturn, 0, 0)]
abbrev dX_seek : MD := (cX0_seek, 4, some .int, 3, 80)
theorem okX_seek : PX_seek.all (okE dX_seek.1 ksX flX) = true := by decide +kernel
theorem hyX_seek : plainName yX0_seek.cls = true ∧ yX0_seek.cls = RX0 := by decide +kernel
def PX_has : List EN := [(0, .aload_n 0, 0, 0), (1, .iload_n 1, 0, 0), (2, .invokevirtual 72, 0, 0), (5, .ifCond .eq 5, 0, 10), (8, .iconst 0, 0, 0), (9, .ireturn, 0, 0), (10, .aload_n 0, 0, 0), (11, .iload_n 1, 0, 0), (12, .iload_n 2, 0, 0), (13, .invokevirtual 82, 0, 0), (16, .istore_n 3, 0, 0), (17, .iload_n 3, 0, 0), (18, .aload_n 0, 0, 0), (19, .getfield 7, 0, 0), (22, .iload_n 1, 0, 0), (23, .iaload, 0, 0), (24, .if_icmp .ge 20, 0, 44), (27, .aload_n 0, 0, 0), (28, .getfield 22, 0, 5), (31, .iload_n 3, 0, 0), (32, .bipush 7, 7, 0), (34, .iand, 0, 0), (35, .iaload, 0, 0), (36, .iload_n 2, 0, 0), (37, .if_icmp .ne 7, 0, 44), (40, .iconst 1, 1, 0), (41, .goto 4, 0, 45), (44, .iconst 0, 0, 0), (45, .ireturn, 0, 0)]
abbrev dX_has : MD := (cX0_has, 4, some .boolean, 3, 80)
theorem okX_has : PX_has.all (okE dX_has.1 ksX flX) = true := by decide +kernel
theorem hyX_has : plainName yX0_has.cls = true ∧ yX0_has.cls = RX0 := by decide +kernel
theorem cwX_has : GoodIn lw_all (wsV RX0 104 RX0 yX0_has (ws_ yX0_has dX_has.1 dX_has.2.1 dX_has.2.2.1)) := lw_V q215 q172 q173 q30 q174
theorem cnX_has : yX0_has.cls = RX0 ∧ yX0_has.cls ≠ "java/lang/invoke/MethodHandle" ∧ yX0_has.cls ≠ "java/lang/invoke/VarHandle" ∧ (parseMethodDescriptor yX0_has.desc).map (fun d => d.parameters.length) = some 2 := by decide +kernel
def PX_sum : List EN := [(0, .aload_n 0, 0, 0), (1, .iload_n 1, 0, 0), (2, .invokevirtual 72, 0, 0), (5, .ifCond .eq 5, 0, 10), (8, .iconst (-1), (-1), 0), (9, .ireturn, 0, 0), (10, .iload_n 2, 0, 0), (11, .ifCond .ge 7, 0, 18), (14, .iconst 0, 0, 0), (15, .goto 4, 0, 19), (18, .iload_n 2, 0, 0), (19, .istore 4, 0, 0), (21, .iload_n 3, 0, 0), (22, .aload_n 0, 0, 0), (23, .getfield 7, 0, 0), (26, .iload_n 1, 0, 0), (27, .iaload, 0, 0), (28, .if_icmp .lt 14, 0, 42), (31, .aload_n 0, 0, 0), (32, .getfield 7, 0, 0), (35, .iload_n 1, 0, 0), (36, .iaload, 0, 0), (37, .iconst 1, 1, 0), (38, .isub, 0, 0), (39, .goto 4, 0, 43), (42, .iload_n 3, 0, 0), (43, .istore 5, 0, 0), (45, .iconst 0, 0, 0), (46, .istore 6, 0, 0), (48, .iload 4, 0, 0), (50, .iconst 3, 3, 0), (51, .ishr, 0, 0), (52, .istore 7, 0, 0), (54, .iload 7, 0, 0), (56, .iload 5, 0, 0), (58, .iconst 3, 3, 0), (59, .ishr, 0, 0), (60, .if_icmp .gt 86, 0, 146), (63, .iload 7, 0, 0), (65, .bipush 8, 8, 0), (67, .if_icmp .ge 79, 0, 146), (70, .iload 4, 0, 0), (72, .iload 5, 0, 0), (74, .if_icmp .gt 72, 0, 146), (77, .aload_n 0, 0, 0), (78, .iload_n 1, 0, 0), (79, .iload 7, 0, 0), (81, .invokevirtual 64, 0, 0), (84, .iconst 0, 0, 0), (85, .istore 8, 0, 0), (87, .iload 8, 0, 0), (89, .aload_n 0, 0, 0), (90, .getfield 33, 0, 3), (93, .if_icmp .ge 47, 0, 140), (96, .iload 7, 0, 0), (98, .bipush 8, 8, 0), (100, .imul, 0, 0), (101, .iload 8, 0, 0), (103, .iadd, 0, 0), (104, .iload 4, 0, 0), (106, .if_icmp .lt 28, 0, 134), (109, .iload 7, 0, 0), (111, .bipush 8, 8, 0), (113, .imul, 0, 0), (114, .iload 8, 0, 0), (116, .iadd, 0, 0), (117, .iload 5, 0, 0), (119, .if_icmp .gt 15, 0, 134), (122, .iload 6, 0, 0), (124, .aload_n 0, 0, 0), (125, .getfield 22, 0, 5), (128, .iload 8, 0, 0), (130, .iaload, 0, 0), (131, .iadd, 0, 0), (132, .istore 6, 0, 0), (134, .iinc 8 1, 1, 0), (137, .goto (-50), 0, 87), (140, .iinc 7 1, 1, 0), (143, .goto (-89), 0, 54), (146, .iload 6, 0, 0), (148, .ireturn, 0, 0)]
abbrev dX_sum : MD := (cX0_sum, 9, some .int, 2, 54)
theorem okX_sum : PX_sum.all (okE dX_sum.1 ksX flX) = true := by decide +kernel
theorem hyX_sum : plainName yX0_sum.cls = true ∧ yX0_sum.cls = RX0 := by decide +kernel
def PX_blocks : List EN := [(0, .aload_n 0, 0, 0), (1, .iload_n 1, 0, 0), (2, .invokevirtual 72, 0, 0), (5, .ifCond .eq 7, 0, 12), (8, .iconst (-1), (-1), 0), (9, .goto 8, 0, 17), (12, .aload_n 0, 0, 0), (13, .iload_n 1, 0, 0), (14, .invokevirtual 58, 0, 0), (17, .ireturn, 0, 0)]
abbrev dX_blocks : MD := (cX0_blocks, 2, some .int, 1, 21)
theorem okX_blocks : PX_blocks.all (okE dX_blocks.1 ksX flX) = true := by decide +kernel
theorem hyX_blocks : plainName yX0_blocks.cls = true ∧ yX0_blocks.cls = RX0 := by decide +kernel
def PX_base : List EN := [(0, .aload_n 0, 0, 0), (1, .iload_n 1, 0, 0), (2, .invokevirtual 72, 0, 0), (5, .ifCond .eq 5, 0, 10), (8, .iconst (-1), (-1), 0), (9, .ireturn, 0, 0), (10, .aload_n 0, 0, 0), (11, .iload_n 1, 0, 0), (12, .iload_n 2, 0, 0), (13, .invokevirtual 97, 0, 0), (16, .ifCond .eq 6, 0, 22), (19, .bipush (-4), (-4), 0), (21, .ireturn, 0, 0), (22, .aload_n 0, 0, 0), (23, .iconst 0, 0, 0), (24, .putfield 29, 0, 7), (27, .aload_n 0, 0, 0), (28, .iload_n 1, 0, 0), (29, .bipush 8, 8, 0), (31, .imul, 0, 0), (32, .iload_n 2, 0, 0), (33, .iadd, 0, 0), (34, .iconst 5, 5, 0), (35, .invokevirtual 55, 0, 0), (38, .ireturn, 0, 0)]
abbrev dX_base : MD := (cX0_base, 3, some .int, 2, 43)
theorem okX_base : PX_base.all (okE dX_base.1 ksX flX) = true := by decide +kernel
theorem hyX_base : plainName yX0_base.cls = true ∧ yX0_base.cls = RX0 := by decide +kernel
def PX_noBlock : List EN := [(0, .iload_n 2, 0, 0), (1, .ifCond .lt 12, 0, 13), (4, .iload_n 2, 0, 0), (5, .aload_n 0, 0, 0), (6, .iload_n 1, 0, 0), (7, .invokevirtual 58, 0, 0), (10, .if_icmp .lt 7, 0, 17), (13, .iconst 1, 1, 0), (14, .goto 4, 0, 18), (17, .iconst 0, 0, 0), (18, .ireturn, 0, 0)]
abbrev dX_noBlock : MD := (cX0_noBlock, 3, some .boolean, 1, 21)
theorem okX_noBlock : PX_noBlock.all (okE dX_noBlock.1 ksX flX) = true := by decide +kernel
theorem hyX_noBlock : plainName yX0_noBlock.cls = true ∧ yX0_noBlock.cls = RX0 := by decide +kernel
theorem cwX_noBlock : GoodIn lw_all (wsV RX0 97 RX0 yX0_noBlock (ws_ yX0_noBlock dX_noBlock.1 dX_noBlock.2.1 dX_noBlock.2.2.1)) := lw_V q187 q189 qs18 q30 q190
theorem cnX_noBlock : yX0_noBlock.cls = RX0 ∧ yX0_noBlock.cls ≠ "java/lang/invoke/MethodHandle" ∧ yX0_noBlock.cls ≠ "java/lang/invoke/VarHandle" ∧ (parseMethodDescriptor yX0_noBlock.desc).map (fun d => d.parameters.length) = some 2 := by decide +kernel
def PX_blockSize : List EN := [(0, .aload_n 0, 0, 0), (1, .iload_n 1, 0, 0), (2, .invokevirtual 72, 0, 0), (5, .ifCond .eq 5, 0, 10), (8, .iconst (-1), (-1), 0), (9, .ireturn, 0, 0), (10, .aload_n 0, 0, 0), (11, .iload_n 1, 0, 0), (12, .iload_n 2, 0, 0), (13, .invokevirtual 97, 0, 0), (16, .ifCond .eq 6, 0, 22), (19, .bipush (-4), (-4), 0), (21, .ireturn, 0, 0), (22, .aload_n 0, 0, 0), (23, .iload_n 1, 0, 0), (24, .iload_n 2, 0, 0), (25, .invokevirtual 64, 0, 0), (28, .aload_n 0, 0, 0), (29, .getfield 29, 0, 7), (32, .ireturn, 0, 0)]
abbrev dX_blockSize : MD := (cX0_blockSize, 3, some .int, 2, 54)
theorem okX_blockSize : PX_blockSize.all (okE dX_blockSize.1 ksX flX) = true := by decide +kernel
theorem hyX_blockSize : plainName yX0_blockSize.cls = true ∧ yX0_blockSize.cls = RX0 := by decide +kernel
def PX_packed : List EN := [(0, .iconst 0, 0, 0), (1, .istore_n 1, 0, 0), (2, .iconst 0, 0, 0), (3, .istore_n 2, 0, 0), (4, .iload_n 2, 0, 0), (5, .iconst 2, 2, 0), (6, .if_icmp .ge 44, 0, 50), (9, .aload_n 0, 0, 0), (10, .iload_n 2, 0, 0), (11, .invokevirtual 58, 0, 0), (14, .istore_n 3, 0, 0), (15, .iconst 0, 0, 0), (16, .istore 4, 0, 0), (18, .iload 4, 0, 0), (20, .iload_n 3, 0, 0), (21, .if_icmp .ge 23, 0, 44), (24, .aload_n 0, 0, 0), (25, .iload_n 2, 0, 0), (26, .iload 4, 0, 0), (28, .invokevirtual 64, 0, 0), (31, .iload_n 1, 0, 0), (32, .aload_n 0, 0, 0), (33, .getfield 29, 0, 7), (36, .iadd, 0, 0), (37, .istore_n 1, 0, 0), (38, .iinc 4 1, 1, 0), (41, .goto (-23), 0, 18), (44, .iinc 2 1, 1, 0), (47, .goto (-43), 0, 4), (50, .iload_n 1, 0, 0), (51, .ireturn, 0, 0)]
abbrev dX_packed : MD := (cX0_packed, 5, some .int, 2, 54)
theorem okX_packed : PX_packed.all (okE dX_packed.1 ksX flX) = true := by decide +kernel
theorem hyX_packed : plainName yX0_packed.cls = true ∧ yX0_packed.cls = RX0 := by decide +kernel
def PX_common : List EN := [(0, .iconst 0, 0, 0), (1, .istore_n 1, 0, 0), (2, .aload_n 0, 0, 0), (3, .iconst 0, 0, 0), (4, .invokevirtual 101, 0, 0), (7, .istore_n 2, 0, 0), (8, .iconst 0, 0, 0), (9, .istore_n 3, 0, 0), (10, .iload_n 3, 0, 0), (11, .bipush 64, 64, 0), (13, .if_icmp .gt 30, 0, 43), (16, .iload_n 2, 0, 0), (17, .aload_n 0, 0, 0), (18, .getfield 7, 0, 0), (21, .iconst 0, 0, 0), (22, .iaload, 0, 0), (23, .if_icmp .ge 20, 0, 43), (26, .iinc 1 1, 1, 0), (29, .aload_n 0, 0, 0), (30, .iload_n 2, 0, 0), (31, .iconst 1, 1, 0), (32, .iadd, 0, 0), (33, .invokevirtual 101, 0, 0), (36, .istore_n 2, 0, 0), (37, .iinc 3 1, 1, 0), (40, .goto (-30), 0, 10), (43, .iload_n 1, 0, 0), (44, .ireturn, 0, 0)]
abbrev dX_common : MD := (cX0_common, 4, some .int, 4, 106)
theorem okX_common : PX_common.all (okE dX_common.1 ksX flX) = true := by decide +kernel
theorem hyX_common : plainName yX0_common.cls = true ∧ yX0_common.cls = RX0 := by decide +kernel
def PX_nextCommon : List EN := [(0, .iload_n 1, 0, 0), (1, .istore_n 2, 0, 0), (2, .iconst 0, 0, 0), (3, .istore_n 3, 0, 0), (4, .iload_n 3, 0, 0), (5, .bipush 64, 64, 0), (7, .if_icmp .gt 80, 0, 87), (10, .iload_n 2, 0, 0), (11, .aload_n 0, 0, 0), (12, .getfield 7, 0, 0), (15, .iconst 0, 0, 0), (16, .iaload, 0, 0), (17, .if_icmp .ge 70, 0, 87), (20, .aload_n 0, 0, 0), (21, .iconst 0, 0, 0), (22, .iload_n 2, 0, 0), (23, .invokevirtual 85, 0, 0), (26, .istore 4, 0, 0), (28, .aload_n 0, 0, 0), (29, .iconst 1, 1, 0), (30, .iload 4, 0, 0), (32, .invokevirtual 82, 0, 0), (35, .istore 5, 0, 0), (37, .iload 5, 0, 0), (39, .aload_n 0, 0, 0), (40, .getfield 7, 0, 0), (43, .iconst 1, 1, 0), (44, .iaload, 0, 0), (45, .if_icmp .ne 10, 0, 55), (48, .aload_n 0, 0, 0), (49, .getfield 7, 0, 0), (52, .iconst 0, 0, 0), (53, .iaload, 0, 0), (54, .ireturn, 0, 0), (55, .aload_n 0, 0, 0), (56, .iconst 1, 1, 0), (57, .iload 5, 0, 0), (59, .invokevirtual 85, 0, 0), (62, .istore 6, 0, 0), (64, .iload 6, 0, 0), (66, .iload 4, 0, 0), (68, .if_icmp .ne 5, 0, 73), (71, .iload_n 2, 0, 0), (72, .ireturn, 0, 0), (73, .aload_n 0, 0, 0), (74, .iconst 0, 0, 0), (75, .iload 6, 0, 0), (77, .invokevirtual 82, 0, 0), (80, .istore_n 2, 0, 0), (81, .iinc 3 1, 1, 0), (84, .goto (-80), 0, 4), (87, .aload_n 0, 0, 0), (88, .getfield 7, 0, 0), (91, .iconst 0, 0, 0), (92, .iaload, 0, 0), (93, .ireturn, 0, 0)]
abbrev dX_nextCommon : MD := (cX0_nextCommon, 7, some .int, 3, 80)
theorem okX_nextCommon : PX_nextCommon.all (okE dX_nextCommon.1 ksX flX) = true := by decide +kernel
theorem hyX_nextCommon : plainName yX0_nextCommon.cls = true ∧ yX0_nextCommon.cls = RX0 := by decide +kernel
theorem cwX_nextCommon : GoodIn lw_all (wsV RX0 101 RX0 yX0_nextCommon (ws_ yX0_nextCommon dX_nextCommon.1 dX_nextCommon.2.1 dX_nextCommon.2.2.1)) := lw_V q203 q205 qs19 q30 q206
theorem cnX_nextCommon : yX0_nextCommon.cls = RX0 ∧ yX0_nextCommon.cls ≠ "java/lang/invoke/MethodHandle" ∧ yX0_nextCommon.cls ≠ "java/lang/invoke/VarHandle" ∧ (parseMethodDescriptor yX0_nextCommon.desc).map (fun d => d.parameters.length) = some 1 := by decide +kernel
def PX_commonAt : List EN := [(0, .iload_n 1, 0, 0), (1, .ifCond .ge 6, 0, 7), (4, .bipush (-4), (-4), 0), (6, .ireturn, 0, 0), (7, .aload_n 0, 0, 0), (8, .iconst 0, 0, 0), (9, .invokevirtual 101, 0, 0), (12, .istore_n 2, 0, 0), (13, .iconst 0, 0, 0), (14, .istore_n 3, 0, 0), (15, .iload_n 3, 0, 0), (16, .iload_n 1, 0, 0), (17, .if_icmp .ge 33, 0, 50), (20, .iload_n 3, 0, 0), (21, .bipush 64, 64, 0), (23, .if_icmp .gt 27, 0, 50), (26, .iload_n 2, 0, 0), (27, .aload_n 0, 0, 0), (28, .getfield 7, 0, 0), (31, .iconst 0, 0, 0), (32, .iaload, 0, 0), (33, .if_icmp .ge 17, 0, 50), (36, .aload_n 0, 0, 0), (37, .iload_n 2, 0, 0), (38, .iconst 1, 1, 0), (39, .iadd, 0, 0), (40, .invokevirtual 101, 0, 0), (43, .istore_n 2, 0, 0), (44, .iinc 3 1, 1, 0), (47, .goto (-32), 0, 15), (50, .iload_n 2, 0, 0), (51, .aload_n 0, 0, 0), (52, .getfield 7, 0, 0), (55, .iconst 0, 0, 0), (56, .iaload, 0, 0), (57, .if_icmp .ge 12, 0, 69), (60, .aload_n 0, 0, 0), (61, .iconst 0, 0, 0), (62, .iload_n 2, 0, 0), (63, .invokevirtual 85, 0, 0), (66, .goto 5, 0, 71), (69, .bipush (-4), (-4), 0), (71, .ireturn, 0, 0)]
abbrev dX_commonAt : MD := (cX0_commonAt, 4, some .int, 4, 106)
theorem okX_commonAt : PX_commonAt.all (okE dX_commonAt.1 ksX flX) = true := by decide +kernel
theorem hyX_commonAt : plainName yX0_commonAt.cls = true ∧ yX0_commonAt.cls = RX0 := by decide +kernel
def PX_tail : List EN := [(0, .aload_n 0, 0, 0), (1, .iload_n 1, 0, 0), (2, .invokevirtual 72, 0, 0), (5, .ifCond .eq 5, 0, 10), (8, .iconst (-1), (-1), 0), (9, .ireturn, 0, 0), (10, .bipush (-4), (-4), 0), (12, .istore_n 2, 0, 0), (13, .iconst 1, 1, 0), (14, .istore_n 3, 0, 0), (15, .aload_n 0, 0, 0), (16, .getfield 7, 0, 0), (19, .iload_n 1, 0, 0), (20, .iaload, 0, 0), (21, .iconst 1, 1, 0), (22, .isub, 0, 0), (23, .istore 4, 0, 0), (25, .iload 4, 0, 0), (27, .ifCond .lt 39, 0, 66), (30, .iload_n 3, 0, 0), (31, .ifCond .eq 35, 0, 66), (34, .aload_n 0, 0, 0), (35, .iload_n 1, 0, 0), (36, .iload 4, 0, 0), (38, .invokevirtual 85, 0, 0), (41, .istore 5, 0, 0), (43, .aload_n 0, 0, 0), (44, .iconst 1, 1, 0), (45, .iload_n 1, 0, 0), (46, .isub, 0, 0), (47, .iload 5, 0, 0), (49, .invokevirtual 104, 0, 0), (52, .istore_n 3, 0, 0), (53, .iload_n 3, 0, 0), (54, .ifCond .eq 6, 0, 60), (57, .iload 5, 0, 0), (59, .istore_n 2, 0, 0), (60, .iinc 4 (-1), (-1), 0), (63, .goto (-38), 0, 25), (66, .iload_n 2, 0, 0), (67, .ireturn, 0, 0)]
abbrev dX_tail : MD := (cX0_tail, 6, some .int, 4, 103)
theorem okX_tail : PX_tail.all (okE dX_tail.1 ksX flX) = true := by decide +kernel
theorem hyX_tail : plainName yX0_tail.cls = true ∧ yX0_tail.cls = RX0 := by decide +kernel
end
section
set_option maxRecDepth 100000
def cutX_append : List (Nat × List Bool) := [(2, [true, true, true, false]), (5, [true, true, true, false]), (10, [true, true, true, false]), (13, [true, true, true, false]), (20, [true, true, true, false]), (23, [true, true, true, false]), (48, [true, true, false, false]), (51, [true, true, false, false])]
theorem sgX_append_0 {post : Int32 → SX → Prop} {x1 x2 : Int32} {sz la pk cd nb al : Nat → Int32} {hd cu : Int32} (h : VX dX_append post 2 [.inl x1, .inr 0] [some (.inr 0), some (.inl x1), some (.inl x2), none] (sz, la, pk, hd, cd, nb, al, cu)) : VX dX_append post 0 [] [some (.inr 0), some (.inl x1), some (.inl x2), none] (sz, la, pk, hd, cd, nb, al, cu) := segX okX_append cutX_append 300 h
theorem sgX_append_5 {post : Int32 → SX → Prop} {x1 x2 s0 : Int32} {sz la pk cd nb al : Nat → Int32} {hd cu : Int32} (h : (s0 = 0 → VX dX_append post 10 [.inl x2, .inr 0] [some (.inr 0), some (.inl x1), some (.inl x2), none] (sz, la, pk, hd, cd, nb, al, cu)) ∧ (¬ s0 = 0 → post (-1) (sz, la, pk, hd, cd, nb, al, cu))) : VX dX_append post 5 [.inl s0] [some (.inr 0), some (.inl x1), some (.inl x2), none] (sz, la, pk, hd, cd, nb, al, cu) := segX okX_append cutX_append 300 h
theorem sgX_append_13 {post : Int32 → SX → Prop} {x1 x2 s0 : Int32} {sz la pk cd nb al : Nat → Int32} {hd cu : Int32} (h : (s0 = 0 → VX dX_append post 20 [.inl x1, .inr 0] [some (.inr 0), some (.inl x1), some (.inl x2), none] (sz, la, pk, hd, cd, nb, al, cu)) ∧ (¬ s0 = 0 → post (-1) (sz, la, pk, hd, cd, nb, al, cu))) : VX dX_append post 13 [.inl s0] [some (.inr 0), some (.inl x1), some (.inl x2), none] (sz, la, pk, hd, cd, nb, al, cu) := segX okX_append cutX_append 300 h
theorem sgX_append_23 {post : Int32 → SX → Prop} {x1 x2 s0 : Int32} {sz la pk cd nb al : Nat → Int32} {hd cu : Int32} (h : (s0 < x2 → vp_in x1 2 ∧ (((sz (x1).toNatClampNeg) = 64 → post (-2) (sz, la, pk, hd, cd, nb, al, cu)) ∧ (¬ (sz (x1).toNatClampNeg) = 64 → VX dX_append post 48 [.inl x2, .inl x1, .inr 0] [some (.inr 0), some (.inl x1), none, none] (sz, la, pk, hd, cd, nb, al, cu)))) ∧ (¬ s0 < x2 → post (-1) (sz, la, pk, hd, cd, nb, al, cu))) : VX dX_append post 23 [.inl s0] [some (.inr 0), some (.inl x1), some (.inl x2), none] (sz, la, pk, hd, cd, nb, al, cu) := segX okX_append cutX_append 300 h
theorem sgX_append_51 {post : Int32 → SX → Prop} {x1 : Int32} {sz la pk cd nb al : Nat → Int32} {hd cu : Int32} (h : vp_in x1 2 ∧ (post (sz (x1).toNatClampNeg) (sz, la, pk, hd, cd, nb, al, cu))) : VX dX_append post 51 [] [some (.inr 0), some (.inl x1), none, none] (sz, la, pk, hd, cd, nb, al, cu) := segX okX_append cutX_append 300 h
theorem csX_append_2 {post post2 : Int32 → SX → Prop} {x1 x2 s0 : Int32} {S : SX} (hC : CX yX0_badList dX_badList [s0] S post2) (k : ∀ r S1, post2 r S1 → VX dX_append post 5 [.inl r] [some (.inr 0), some (.inl x1), some (.inl x2), none] S1) : VX dX_append post 2 [.inl s0, .inr 0] [some (.inr 0), some (.inl x1), some (.inl x2), none] S := cllX (idx := 72) [s0] hC cwX_badList cnX_badList (by decide +kernel) ⟨by decide, by decide⟩ (Nat.le_of_ble_eq_true rfl) k
theorem csX_append_10 {post post2 : Int32 → SX → Prop} {x1 x2 s0 : Int32} {S : SX} (hC : CX yX0_badNumber dX_badNumber [s0] S post2) (k : ∀ r S1, post2 r S1 → VX dX_append post 13 [.inl r] [some (.inr 0), some (.inl x1), some (.inl x2), none] S1) : VX dX_append post 10 [.inl s0, .inr 0] [some (.inr 0), some (.inl x1), some (.inl x2), none] S := cllX (idx := 76) [s0] hC cwX_badNumber cnX_badNumber (by decide +kernel) ⟨by decide, by decide⟩ (Nat.le_of_ble_eq_true rfl) k
theorem csX_append_20 {post post2 : Int32 → SX → Prop} {x1 x2 s0 : Int32} {S : SX} (hC : CX yX0_lastNumber dX_lastNumber [s0] S post2) (k : ∀ r S1, post2 r S1 → VX dX_append post 23 [.inl r] [some (.inr 0), some (.inl x1), some (.inl x2), none] S1) : VX dX_append post 20 [.inl s0, .inr 0] [some (.inr 0), some (.inl x1), some (.inl x2), none] S := cllX (idx := 61) [s0] hC cwX_lastNumber cnX_lastNumber (by decide +kernel) ⟨by decide, by decide⟩ (Nat.le_of_ble_eq_true rfl) k
theorem csX_append_48 {post post2 : Int32 → SX → Prop} {x1 s0 s1 : Int32} {S : SX} (hC : CX yX0_attach dX_attach [s1, s0] S post2) (k : ∀ r S1, post2 r S1 → VX dX_append post 51 [] [some (.inr 0), some (.inl x1), none, none] S1) : VX dX_append post 48 [.inl s0, .inl s1, .inr 0] [some (.inr 0), some (.inl x1), none, none] S := cllX (idx := 79) [s1, s0] hC cwX_attach cnX_attach (by decide +kernel) ⟨by decide, by decide⟩ (Nat.le_of_ble_eq_true rfl) k
def cutX_badList : List (Nat × List Bool) := []
theorem sgX_badList_0 {post : Int32 → SX → Prop} {x1 : Int32} {sz la pk cd nb al : Nat → Int32} {hd cu : Int32} (h : (x1 < 0 → post 1 (sz, la, pk, hd, cd, nb, al, cu)) ∧ (¬ x1 < 0 → (1 < x1 → post 1 (sz, la, pk, hd, cd, nb, al, cu)) ∧ (¬ 1 < x1 → post 0 (sz, la, pk, hd, cd, nb, al, cu)))) : VX dX_badList post 0 [] [some (.inr 0), some (.inl x1)] (sz, la, pk, hd, cd, nb, al, cu) := segX okX_badList cutX_badList 300 h
def cutX_badNumber : List (Nat × List Bool) := []
theorem sgX_badNumber_0 {post : Int32 → SX → Prop} {x1 : Int32} {sz la pk cd nb al : Nat → Int32} {hd cu : Int32} (h : (x1 < 0 → post 1 (sz, la, pk, hd, cd, nb, al, cu)) ∧ (¬ x1 < 0 → (1000000 < x1 → post 1 (sz, la, pk, hd, cd, nb, al, cu)) ∧ (¬ 1000000 < x1 → post 0 (sz, la, pk, hd, cd, nb, al, cu)))) : VX dX_badNumber post 0 [] [some (.inr 0), some (.inl x1)] (sz, la, pk, hd, cd, nb, al, cu) := segX okX_badNumber cutX_badNumber 300 h
def cutX_lastNumber : List (Nat × List Bool) := [(2, [true, true, false]), (5, [true, true, false])]
theorem sgX_lastNumber_0 {post : Int32 → SX → Prop} {x1 : Int32} {sz la pk cd nb al : Nat → Int32} {hd cu : Int32} (h : VX dX_lastNumber post 2 [.inl x1, .inr 0] [some (.inr 0), some (.inl x1), none] (sz, la, pk, hd, cd, nb, al, cu)) : VX dX_lastNumber post 0 [] [some (.inr 0), some (.inl x1), none] (sz, la, pk, hd, cd, nb, al, cu) := segX okX_lastNumber cutX_lastNumber 300 h
theorem sgX_lastNumber_5 {post : Int32 → SX → Prop} {x1 s0 : Int32} {sz la pk cd nb al : Nat → Int32} {hd cu : Int32} (h : (s0 = 0 → post (-1) (sz, la, pk, hd, cd, nb, al, cu)) ∧ (¬ s0 = 0 → vp_in (((x1 * 8) + s0) - 1) 16 ∧ (post (la ((((x1 * 8) + s0) - 1)).toNatClampNeg) (sz, la, pk, hd, cd, nb, al, cu)))) : VX dX_lastNumber post 5 [.inl s0] [some (.inr 0), some (.inl x1), none] (sz, la, pk, hd, cd, nb, al, cu) := segX okX_lastNumber cutX_lastNumber 300 h
theorem csX_lastNumber_2 {post post2 : Int32 → SX → Prop} {x1 s0 : Int32} {S : SX} (hC : CX yX0_blockCount dX_blockCount [s0] S post2) (k : ∀ r S1, post2 r S1 → VX dX_lastNumber post 5 [.inl r] [some (.inr 0), some (.inl x1), none] S1) : VX dX_lastNumber post 2 [.inl s0, .inr 0] [some (.inr 0), some (.inl x1), none] S := cllX (idx := 58) [s0] hC cwX_blockCount cnX_blockCount (by decide +kernel) ⟨by decide, by decide⟩ (Nat.le_of_ble_eq_true rfl) k
def cutX_blockCount : List (Nat × List Bool) := []
theorem sgX_blockCount_0 {post : Int32 → SX → Prop} {x1 : Int32} {sz la pk cd nb al : Nat → Int32} {hd cu : Int32} (h : vp_in x1 2 ∧ (post (((sz (x1).toNatClampNeg) + 7) >>> ((3 : Int32) &&& 31) : Int32) (sz, la, pk, hd, cd, nb, al, cu))) : VX dX_blockCount post 0 [] [some (.inr 0), some (.inl x1)] (sz, la, pk, hd, cd, nb, al, cu) := segX okX_blockCount cutX_blockCount 300 h
def cutX_attach : List (Nat × List Bool) := [(3, [true, true, true, false, false]), (6, [true, true, true, false, false]), (44, [true, true, true, true, true]), (47, [true, true, true, true, true]), (89, [true, true, true, false, true]), (92, [true, true, true, false, true])]
theorem sgX_attach_0 {post : Int32 → SX → Prop} {x1 x2 : Int32} {sz la pk cd nb al : Nat → Int32} {hd cu : Int32} (h : VX dX_attach post 3 [.inl x1, .inr 0, .inl x2] [some (.inr 0), some (.inl x1), some (.inl x2), none, none] (sz, la, pk, hd, cd, nb, al, cu)) : VX dX_attach post 0 [] [some (.inr 0), some (.inl x1), some (.inl x2), none, none] (sz, la, pk, hd, cd, nb, al, cu) := segX okX_attach cutX_attach 300 h
theorem sgX_attach_6 {post : Int32 → SX → Prop} {x1 x2 s0 s1 : Int32} {sz la pk cd nb al : Nat → Int32} {hd cu : Int32} (h : vp_in x1 2 ∧ (vp_in x1 2 ∧ ((((sz (x1).toNatClampNeg) &&& 7) = 0 → VX dX_attach post 47 [] [some (.inr 0), some (.inl x1), some (.inl x2), some (.inl ((s1 - s0) - 1)), some (.inl ((sz (x1).toNatClampNeg) >>> ((3 : Int32) &&& 31) : Int32))] (sz, la, pk, 0, cd, nb, al, cu)) ∧ (¬ ((sz (x1).toNatClampNeg) &&& 7) = 0 → VX dX_attach post 44 [.inl ((sz (x1).toNatClampNeg) >>> ((3 : Int32) &&& 31) : Int32), .inl x1, .inr 0] [some (.inr 0), some (.inl x1), some (.inl x2), some (.inl ((s1 - s0) - 1)), some (.inl ((sz (x1).toNatClampNeg) >>> ((3 : Int32) &&& 31) : Int32))] (sz, la, pk, hd, cd, nb, al, cu))))) : VX dX_attach post 6 [.inl s0, .inl s1] [some (.inr 0), some (.inl x1), some (.inl x2), none, none] (sz, la, pk, hd, cd, nb, al, cu) := segX okX_attach cutX_attach 300 h
theorem sgX_attach_47 {post : Int32 → SX → Prop} {x1 x2 x3 x4 : Int32} {sz la pk cd nb al : Nat → Int32} {hd cu : Int32} (h : vp_in hd 8 ∧ (vp_in x1 2 ∧ (vp_in x1 2 ∧ (VX dX_attach post 89 [.inl ((x1 * 8) + x4), .inr 0] [some (.inr 0), some (.inl x1), some (.inl x2), none, some (.inl x4)] (upd sz (x1).toNatClampNeg ((sz (x1).toNatClampNeg) + 1), la, pk, (hd + 1), upd cd (hd).toNatClampNeg x3, nb, al, cu))))) : VX dX_attach post 47 [] [some (.inr 0), some (.inl x1), some (.inl x2), some (.inl x3), some (.inl x4)] (sz, la, pk, hd, cd, nb, al, cu) := segX okX_attach cutX_attach 300 h
theorem sgX_attach_92 {post : Int32 → SX → Prop} {x1 x2 x4 : Int32} {sz la pk cd nb al : Nat → Int32} {hd cu : Int32} (h : vp_in ((x1 * 8) + x4) 16 ∧ (post 0 (sz, upd la (((x1 * 8) + x4)).toNatClampNeg x2, pk, hd, cd, nb, al, cu))) : VX dX_attach post 92 [] [some (.inr 0), some (.inl x1), some (.inl x2), none, some (.inl x4)] (sz, la, pk, hd, cd, nb, al, cu) := segX okX_attach cutX_attach 300 h
theorem csX_attach_3 {post post2 : Int32 → SX → Prop} {x1 x2 s0 s2 : Int32} {S : SX} (hC : CX yX0_lastNumber dX_lastNumber [s0] S post2) (k : ∀ r S1, post2 r S1 → VX dX_attach post 6 [.inl r, .inl s2] [some (.inr 0), some (.inl x1), some (.inl x2), none, none] S1) : VX dX_attach post 3 [.inl s0, .inr 0, .inl s2] [some (.inr 0), some (.inl x1), some (.inl x2), none, none] S := cllX (idx := 61) [s0] hC cwX_lastNumber cnX_lastNumber (by decide +kernel) ⟨by decide, by decide⟩ (Nat.le_of_ble_eq_true rfl) k
theorem csX_attach_44 {post post2 : Int32 → SX → Prop} {x1 x2 x3 x4 s0 s1 : Int32} {S : SX} (hC : CX yX0_unpack dX_unpack [s1, s0] S post2) (k : ∀ r S1, post2 r S1 → VX dX_attach post 47 [] [some (.inr 0), some (.inl x1), some (.inl x2), some (.inl x3), some (.inl x4)] S1) : VX dX_attach post 44 [.inl s0, .inl s1, .inr 0] [some (.inr 0), some (.inl x1), some (.inl x2), some (.inl x3), some (.inl x4)] S := cllX (idx := 64) [s1, s0] hC cwX_unpack cnX_unpack (by decide +kernel) ⟨by decide, by decide⟩ (Nat.le_of_ble_eq_true rfl) k
theorem csX_attach_89 {post post2 : Int32 → SX → Prop} {x1 x2 x4 s0 : Int32} {S : SX} (hC : CX yX0_pack dX_pack [s0] S post2) (k : ∀ r S1, post2 r S1 → VX dX_attach post 92 [] [some (.inr 0), some (.inl x1), some (.inl x2), none, some (.inl x4)] S1) : VX dX_attach post 89 [.inl s0, .inr 0] [some (.inr 0), some (.inl x1), some (.inl x2), none, some (.inl x4)] S := cllX (idx := 68) [s0] hC cwX_pack cnX_pack (by decide +kernel) ⟨by decide, by decide⟩ (Nat.le_of_ble_eq_true rfl) k
def cutX_unpack : List (Nat × List Bool) := [(11, [true, false, true, true, false, false, false, false, false, false]), (14, [true, false, true, true, false, false, false, false, false, false]), (25, [true, false, true, true, false, false, false, false, false, false]), (28, [true, false, true, true, false, false, false, false, false, false]), (33, [true, false, true, true, true, false, false, false, false, false]), (36, [true, false, true, true, true, false, false, false, false, false]), (41, [true, false, true, true, true, true, true, false, false, false]), (60, [true, false, true, true, true, true, true, false, false, false]), (63, [true, false, true, true, true, true, true, false, false, false]), (73, [true, false, true, true, true, true, true, false, false, false]), (83, [true, false, true, true, true, true, true, false, false, false]), (86, [true, false, true, true, true, true, true, false, false, false]), (91, [true, false, true, true, true, true, true, true, false, false]), (94, [true, false, true, true, true, true, true, true, false, false]), (100, [true, false, true, true, true, true, true, true, false, false]), (103, [true, false, true, true, true, true, true, true, false, false]), (152, [true, false, false, false, false, false, true, true, false, false])]
theorem sgX_unpack_0 {post : Int32 → SX → Prop} {x1 x2 : Int32} {sz la pk cd nb al : Nat → Int32} {hd cu : Int32} (h : VX dX_unpack post 11 [.inl x2, .inl x1, .inr 0, .inr 0] [some (.inr 0), none, some (.inl x2), some (.inl ((x1 * 8) + x2)), none, none, none, none, none, none] (sz, la, pk, hd, cd, nb, al, cu)) : VX dX_unpack post 0 [] [some (.inr 0), some (.inl x1), some (.inl x2), none, none, none, none, none, none, none] (sz, la, pk, hd, cd, nb, al, cu) := segX okX_unpack cutX_unpack 300 h
theorem sgX_unpack_14 {post : Int32 → SX → Prop} {x2 x3 s0 : Int32} {sz la pk cd nb al : Nat → Int32} {hd cu : Int32} (h : VX dX_unpack post 25 [.inl 5, .inl x3, .inr 0] [some (.inr 0), none, some (.inl x2), some (.inl x3), none, none, none, none, none, none] (sz, la, pk, s0, cd, nb, al, 0)) : VX dX_unpack post 14 [.inl s0, .inr 0] [some (.inr 0), none, some (.inl x2), some (.inl x3), none, none, none, none, none, none] (sz, la, pk, hd, cd, nb, al, cu) := segX okX_unpack cutX_unpack 300 h
theorem sgX_unpack_28 {post : Int32 → SX → Prop} {x2 x3 s0 : Int32} {sz la pk cd nb al : Nat → Int32} {hd cu : Int32} (h : VX dX_unpack post 33 [.inl 4, .inl x3, .inr 0] [some (.inr 0), none, some (.inl x2), some (.inl x3), some (.inl s0), none, none, none, none, none] (sz, la, pk, hd, cd, nb, al, cu)) : VX dX_unpack post 28 [.inl s0] [some (.inr 0), none, some (.inl x2), some (.inl x3), none, none, none, none, none, none] (sz, la, pk, hd, cd, nb, al, cu) := segX okX_unpack cutX_unpack 300 h
theorem sgX_unpack_36 {post : Int32 → SX → Prop} {x2 x3 x4 s0 : Int32} {sz la pk cd nb al : Nat → Int32} {hd cu : Int32} (h : VX dX_unpack post 41 [] [some (.inr 0), none, some (.inl x2), some (.inl x3), some (.inl x4), some (.inl s0), some (.inl 0), none, none, none] (sz, la, pk, hd, cd, nb, al, cu)) : VX dX_unpack post 36 [.inl s0] [some (.inr 0), none, some (.inl x2), some (.inl x3), some (.inl x4), none, none, none, none, none] (sz, la, pk, hd, cd, nb, al, cu) := segX okX_unpack cutX_unpack 300 h
theorem sgX_unpack_41 {post : Int32 → SX → Prop} {x2 x3 x4 x5 x6 : Int32} {sz la pk cd nb al : Nat → Int32} {hd cu : Int32} (h : (x6 < hd → VX dX_unpack post 60 [.inl x4, .inl x3, .inr 0, .inl x6, .inr 4] [some (.inr 0), none, some (.inl x2), some (.inl x3), some (.inl x4), some (.inl x5), some (.inl x6), none, none, none] (sz, la, pk, hd, cd, nb, al, cu)) ∧ (¬ x6 < hd → VX dX_unpack post 73 [] [some (.inr 0), none, some (.inl x2), some (.inl x3), some (.inl x4), some (.inl x5), some (.inl 0), none, none, none] (sz, la, pk, hd, cd, nb, al, cu))) : VX dX_unpack post 41 [] [some (.inr 0), none, some (.inl x2), some (.inl x3), some (.inl x4), some (.inl x5), some (.inl x6), none, none, none] (sz, la, pk, hd, cd, nb, al, cu) := segX okX_unpack cutX_unpack 300 h
theorem sgX_unpack_63 {post : Int32 → SX → Prop} {x2 x3 x4 x5 x6 s0 s1 : Int32} {sz la pk cd nb al : Nat → Int32} {hd cu : Int32} (h : vp_in s1 8 ∧ (VX dX_unpack post 41 [] [some (.inr 0), none, some (.inl x2), some (.inl x3), some (.inl x4), some (.inl x5), some (.inl (x6 + 1)), none, none, none] (sz, la, pk, hd, upd cd (s1).toNatClampNeg s0, nb, al, cu))) : VX dX_unpack post 63 [.inl s0, .inl s1, .inr 4] [some (.inr 0), none, some (.inl x2), some (.inl x3), some (.inl x4), some (.inl x5), some (.inl x6), none, none, none] (sz, la, pk, hd, cd, nb, al, cu) := segX okX_unpack cutX_unpack 300 h
theorem sgX_unpack_73 {post : Int32 → SX → Prop} {x2 x3 x4 x5 x6 : Int32} {sz la pk cd nb al : Nat → Int32} {hd cu : Int32} (h : (x6 < x5 → VX dX_unpack post 83 [.inl 3, .inl x3, .inr 0] [some (.inr 0), none, some (.inl x2), some (.inl x3), some (.inl x4), some (.inl x5), some (.inl x6), none, none, none] (sz, la, pk, hd, cd, nb, al, cu)) ∧ (¬ x6 < x5 → (x2 = 0 → VX dX_unpack post 152 [] [some (.inr 0), none, none, none, none, none, some (.inl (-1)), some (.inl 0), none, none] (sz, la, pk, hd, cd, nb, al, cu)) ∧ (¬ x2 = 0 → vp_in (x3 - 1) 16 ∧ (VX dX_unpack post 152 [] [some (.inr 0), none, none, none, none, none, some (.inl (la ((x3 - 1)).toNatClampNeg)), some (.inl 0), none, none] (sz, la, pk, hd, cd, nb, al, cu))))) : VX dX_unpack post 73 [] [some (.inr 0), none, some (.inl x2), some (.inl x3), some (.inl x4), some (.inl x5), some (.inl x6), none, none, none] (sz, la, pk, hd, cd, nb, al, cu) := segX okX_unpack cutX_unpack 300 h
theorem sgX_unpack_86 {post : Int32 → SX → Prop} {x2 x3 x4 x5 x6 s0 : Int32} {sz la pk cd nb al : Nat → Int32} {hd cu : Int32} (h : VX dX_unpack post 91 [.inl 5, .inl x3, .inr 0] [some (.inr 0), none, some (.inl x2), some (.inl x3), some (.inl x4), some (.inl x5), some (.inl x6), some (.inl s0), none, none] (sz, la, pk, hd, cd, nb, al, cu)) : VX dX_unpack post 86 [.inl s0] [some (.inr 0), none, some (.inl x2), some (.inl x3), some (.inl x4), some (.inl x5), some (.inl x6), none, none, none] (sz, la, pk, hd, cd, nb, al, cu) := segX okX_unpack cutX_unpack 300 h
theorem sgX_unpack_94 {post : Int32 → SX → Prop} {x2 x3 x4 x5 x6 x7 s0 : Int32} {sz la pk cd nb al : Nat → Int32} {hd cu : Int32} (h : VX dX_unpack post 100 [.inl s0, .inl x3, .inr 0] [some (.inr 0), none, some (.inl x2), some (.inl x3), some (.inl x4), some (.inl x5), some (.inl x6), some (.inl x7), none, none] (sz, la, pk, hd, cd, nb, al, cu)) : VX dX_unpack post 94 [.inl s0] [some (.inr 0), none, some (.inl x2), some (.inl x3), some (.inl x4), some (.inl x5), some (.inl x6), some (.inl x7), none, none] (sz, la, pk, hd, cd, nb, al, cu) := segX okX_unpack cutX_unpack 300 h
theorem sgX_unpack_103 {post : Int32 → SX → Prop} {x2 x3 x4 x5 x6 x7 s0 : Int32} {sz la pk cd nb al : Nat → Int32} {hd cu : Int32} (h : vp_in x7 8 ∧ (vp_in x7 8 ∧ (VX dX_unpack post 73 [] [some (.inr 0), none, some (.inl x2), some (.inl x3), some (.inl x4), some (.inl x5), some (.inl (x6 + 1)), none, none, none] (sz, la, pk, hd, upd cd (x7).toNatClampNeg ((cd (x7).toNatClampNeg) ||| (s0 <<< (x4 &&& 31) : Int32)), nb, al, cu)))) : VX dX_unpack post 103 [.inl s0] [some (.inr 0), none, some (.inl x2), some (.inl x3), some (.inl x4), some (.inl x5), some (.inl x6), some (.inl x7), none, none] (sz, la, pk, hd, cd, nb, al, cu) := segX okX_unpack cutX_unpack 300 h
theorem sgX_unpack_152 {post : Int32 → SX → Prop} {x6 x7 : Int32} {sz la pk cd nb al : Nat → Int32} {hd cu : Int32} (h : (x7 < hd → vp_in x7 8 ∧ (vp_in x7 8 ∧ (VX dX_unpack post 152 [] [some (.inr 0), none, none, none, none, none, some (.inl ((x6 + (cd (x7).toNatClampNeg)) + 1)), some (.inl (x7 + 1)), none, none] (sz, la, pk, hd, cd, upd nb (x7).toNatClampNeg ((x6 + (cd (x7).toNatClampNeg)) + 1), al, cu)))) ∧ (¬ x7 < hd → post 0 (sz, la, pk, hd, cd, nb, al, cu))) : VX dX_unpack post 152 [] [some (.inr 0), none, none, none, none, none, some (.inl x6), some (.inl x7), none, none] (sz, la, pk, hd, cd, nb, al, cu) := segX okX_unpack cutX_unpack 300 h
theorem csX_unpack_11 {post post2 : Int32 → SX → Prop} {x2 x3 s0 s1 : Int32} {S : SX} (hC : CX yX0_inBlock dX_inBlock [s1, s0] S post2) (k : ∀ r S1, post2 r S1 → VX dX_unpack post 14 [.inl r, .inr 0] [some (.inr 0), none, some (.inl x2), some (.inl x3), none, none, none, none, none, none] S1) : VX dX_unpack post 11 [.inl s0, .inl s1, .inr 0, .inr 0] [some (.inr 0), none, some (.inl x2), some (.inl x3), none, none, none, none, none, none] S := cllX (idx := 51) [s1, s0] hC cwX_inBlock cnX_inBlock (by decide +kernel) ⟨by decide, by decide⟩ (Nat.le_of_ble_eq_true rfl) k
theorem csX_unpack_25 {post post2 : Int32 → SX → Prop} {x2 x3 s0 s1 : Int32} {S : SX} (hC : CX yX0_get dX_get [s1, s0] S post2) (k : ∀ r S1, post2 r S1 → VX dX_unpack post 28 [.inl r] [some (.inr 0), none, some (.inl x2), some (.inl x3), none, none, none, none, none, none] S1) : VX dX_unpack post 25 [.inl s0, .inl s1, .inr 0] [some (.inr 0), none, some (.inl x2), some (.inl x3), none, none, none, none, none, none] S := cllX (idx := 55) [s1, s0] hC cwX_get cnX_get (by decide +kernel) ⟨by decide, by decide⟩ (Nat.le_of_ble_eq_true rfl) k
theorem csX_unpack_33 {post post2 : Int32 → SX → Prop} {x2 x3 x4 s0 s1 : Int32} {S : SX} (hC : CX yX0_get dX_get [s1, s0] S post2) (k : ∀ r S1, post2 r S1 → VX dX_unpack post 36 [.inl r] [some (.inr 0), none, some (.inl x2), some (.inl x3), some (.inl x4), none, none, none, none, none] S1) : VX dX_unpack post 33 [.inl s0, .inl s1, .inr 0] [some (.inr 0), none, some (.inl x2), some (.inl x3), some (.inl x4), none, none, none, none, none] S := cllX (idx := 55) [s1, s0] hC cwX_get cnX_get (by decide +kernel) ⟨by decide, by decide⟩ (Nat.le_of_ble_eq_true rfl) k
theorem csX_unpack_60 {post post2 : Int32 → SX → Prop} {x2 x3 x4 x5 x6 s0 s1 s3 : Int32} {S : SX} (hC : CX yX0_get dX_get [s1, s0] S post2) (k : ∀ r S1, post2 r S1 → VX dX_unpack post 63 [.inl r, .inl s3, .inr 4] [some (.inr 0), none, some (.inl x2), some (.inl x3), some (.inl x4), some (.inl x5), some (.inl x6), none, none, none] S1) : VX dX_unpack post 60 [.inl s0, .inl s1, .inr 0, .inl s3, .inr 4] [some (.inr 0), none, some (.inl x2), some (.inl x3), some (.inl x4), some (.inl x5), some (.inl x6), none, none, none] S := cllX (idx := 55) [s1, s0] hC cwX_get cnX_get (by decide +kernel) ⟨by decide, by decide⟩ (Nat.le_of_ble_eq_true rfl) k
theorem csX_unpack_83 {post post2 : Int32 → SX → Prop} {x2 x3 x4 x5 x6 s0 s1 : Int32} {S : SX} (hC : CX yX0_get dX_get [s1, s0] S post2) (k : ∀ r S1, post2 r S1 → VX dX_unpack post 86 [.inl r] [some (.inr 0), none, some (.inl x2), some (.inl x3), some (.inl x4), some (.inl x5), some (.inl x6), none, none, none] S1) : VX dX_unpack post 83 [.inl s0, .inl s1, .inr 0] [some (.inr 0), none, some (.inl x2), some (.inl x3), some (.inl x4), some (.inl x5), some (.inl x6), none, none, none] S := cllX (idx := 55) [s1, s0] hC cwX_get cnX_get (by decide +kernel) ⟨by decide, by decide⟩ (Nat.le_of_ble_eq_true rfl) k
theorem csX_unpack_91 {post post2 : Int32 → SX → Prop} {x2 x3 x4 x5 x6 x7 s0 s1 : Int32} {S : SX} (hC : CX yX0_get dX_get [s1, s0] S post2) (k : ∀ r S1, post2 r S1 → VX dX_unpack post 94 [.inl r] [some (.inr 0), none, some (.inl x2), some (.inl x3), some (.inl x4), some (.inl x5), some (.inl x6), some (.inl x7), none, none] S1) : VX dX_unpack post 91 [.inl s0, .inl s1, .inr 0] [some (.inr 0), none, some (.inl x2), some (.inl x3), some (.inl x4), some (.inl x5), some (.inl x6), some (.inl x7), none, none] S := cllX (idx := 55) [s1, s0] hC cwX_get cnX_get (by decide +kernel) ⟨by decide, by decide⟩ (Nat.le_of_ble_eq_true rfl) k
theorem csX_unpack_100 {post post2 : Int32 → SX → Prop} {x2 x3 x4 x5 x6 x7 s0 s1 : Int32} {S : SX} (hC : CX yX0_get dX_get [s1, s0] S post2) (k : ∀ r S1, post2 r S1 → VX dX_unpack post 103 [.inl r] [some (.inr 0), none, some (.inl x2), some (.inl x3), some (.inl x4), some (.inl x5), some (.inl x6), some (.inl x7), none, none] S1) : VX dX_unpack post 100 [.inl s0, .inl s1, .inr 0] [some (.inr 0), none, some (.inl x2), some (.inl x3), some (.inl x4), some (.inl x5), some (.inl x6), some (.inl x7), none, none] S := cllX (idx := 55) [s1, s0] hC cwX_get cnX_get (by decide +kernel) ⟨by decide, by decide⟩ (Nat.le_of_ble_eq_true rfl) k
def cutX_inBlock : List (Nat × List Bool) := []
theorem sgX_inBlock_0 {post : Int32 → SX → Prop} {x1 x2 : Int32} {sz la pk cd nb al : Nat → Int32} {hd cu : Int32} (h : vp_in x1 2 ∧ ((((sz (x1).toNatClampNeg) - (8 * x2)) < 8 → post ((sz (x1).toNatClampNeg) - (8 * x2)) (sz, la, pk, hd, cd, nb, al, cu)) ∧ (¬ ((sz (x1).toNatClampNeg) - (8 * x2)) < 8 → post 8 (sz, la, pk, hd, cd, nb, al, cu)))) : VX dX_inBlock post 0 [] [some (.inr 0), some (.inl x1), some (.inl x2), none] (sz, la, pk, hd, cd, nb, al, cu) := segX okX_inBlock cutX_inBlock 300 h
def cutX_get : List (Nat × List Bool) := [(5, [true, true, true, true, true, false])]
theorem sgX_get_0 {post : Int32 → SX → Prop} {x1 x2 : Int32} {sz la pk cd nb al : Nat → Int32} {hd cu : Int32} (h : VX dX_get post 5 [] [some (.inr 0), some (.inl x1), some (.inl x2), some (.inl 0), some (.inl 0), none] (sz, la, pk, hd, cd, nb, al, cu)) : VX dX_get post 0 [] [some (.inr 0), some (.inl x1), some (.inl x2), none, none, none] (sz, la, pk, hd, cd, nb, al, cu) := segX okX_get cutX_get 300 h
theorem sgX_get_5 {post : Int32 → SX → Prop} {x1 x2 x3 x4 : Int32} {sz la pk cd nb al : Nat → Int32} {hd cu : Int32} (h : (x4 < x2 → vp_in ((x1 * 6) + (cu >>> ((5 : Int32) &&& 31) : Int32)) 96 ∧ (VX dX_get post 5 [] [some (.inr 0), some (.inl x1), some (.inl x2), some (.inl ((x3 * 2) + (((pk (((x1 * 6) + (cu >>> ((5 : Int32) &&& 31) : Int32))).toNatClampNeg) >>> ((cu &&& 31) &&& 31) : Int32) &&& 1))), some (.inl (x4 + 1)), none] (sz, la, pk, hd, cd, nb, al, (cu + 1)))) ∧ (¬ x4 < x2 → post x3 (sz, la, pk, hd, cd, nb, al, cu))) : VX dX_get post 5 [] [some (.inr 0), some (.inl x1), some (.inl x2), some (.inl x3), some (.inl x4), none] (sz, la, pk, hd, cd, nb, al, cu) := segX okX_get cutX_get 300 h
def cutX_pack : List (Nat × List Bool) := [(1, [true, true, false, false, false, false]), (4, [true, true, false, false, false, false]), (10, [true, true, true, true, true, false]), (27, [true, true, true, true, true, false]), (30, [true, true, true, true, true, false]), (56, [true, true, true, true, false, false]), (59, [true, true, true, true, false, false]), (63, [true, true, true, false, false, false]), (66, [true, true, true, false, false, false]), (69, [true, true, true, false, true, false]), (94, [true, true, true, false, true, false]), (97, [true, true, true, false, true, false]), (106, [true, true, true, false, true, false]), (123, [true, true, true, false, true, false]), (126, [true, true, true, false, true, false]), (139, [true, true, true, false, true, true]), (142, [true, true, true, false, true, true]), (149, [true, true, true, false, true, true]), (152, [true, true, true, false, true, true]), (167, [true, true, true, false, true, false]), (170, [true, true, true, false, true, false])]
theorem sgX_pack_0 {post : Int32 → SX → Prop} {x1 : Int32} {sz la pk cd nb al : Nat → Int32} {hd cu : Int32} (h : VX dX_pack post 1 [.inr 0] [some (.inr 0), some (.inl x1), none, none, none, none] (sz, la, pk, hd, cd, nb, al, cu)) : VX dX_pack post 0 [] [some (.inr 0), some (.inl x1), none, none, none, none] (sz, la, pk, hd, cd, nb, al, cu) := segX okX_pack cutX_pack 300 h
theorem sgX_pack_4 {post : Int32 → SX → Prop} {x1 s0 : Int32} {sz la pk cd nb al : Nat → Int32} {hd cu : Int32} (h : VX dX_pack post 10 [] [some (.inr 0), some (.inl x1), some (.inl s0), some (.inl 0), some (.inl 0), none] (sz, la, pk, hd, cd, nb, al, cu)) : VX dX_pack post 4 [.inl s0] [some (.inr 0), some (.inl x1), none, none, none, none] (sz, la, pk, hd, cd, nb, al, cu) := segX okX_pack cutX_pack 300 h
theorem sgX_pack_10 {post : Int32 → SX → Prop} {x1 x2 x3 x4 : Int32} {sz la pk cd nb al : Nat → Int32} {hd cu : Int32} (h : (x4 < hd → vp_in x4 8 ∧ (VX dX_pack post 27 [.inl (cd (x4).toNatClampNeg), .inr 0] [some (.inr 0), some (.inl x1), some (.inl x2), some (.inl x3), some (.inl x4), none] (sz, la, pk, hd, cd, nb, al, cu))) ∧ (¬ x4 < hd → VX dX_pack post 56 [.inl x2, .inl 5, .inl x1, .inr 0] [some (.inr 0), some (.inl x1), some (.inl x2), some (.inl x3), none, none] (sz, la, pk, hd, cd, nb, al, 0))) : VX dX_pack post 10 [] [some (.inr 0), some (.inl x1), some (.inl x2), some (.inl x3), some (.inl x4), none] (sz, la, pk, hd, cd, nb, al, cu) := segX okX_pack cutX_pack 300 h
theorem sgX_pack_30 {post : Int32 → SX → Prop} {x1 x2 x3 x4 s0 : Int32} {sz la pk cd nb al : Nat → Int32} {hd cu : Int32} (h : (x2 < s0 → VX dX_pack post 10 [] [some (.inr 0), some (.inl x1), some (.inl x2), some (.inl (x3 + 1)), some (.inl (x4 + 1)), none] (sz, la, pk, hd, cd, nb, al, cu)) ∧ (¬ x2 < s0 → VX dX_pack post 10 [] [some (.inr 0), some (.inl x1), some (.inl x2), some (.inl x3), some (.inl (x4 + 1)), none] (sz, la, pk, hd, cd, nb, al, cu))) : VX dX_pack post 30 [.inl s0] [some (.inr 0), some (.inl x1), some (.inl x2), some (.inl x3), some (.inl x4), none] (sz, la, pk, hd, cd, nb, al, cu) := segX okX_pack cutX_pack 300 h
theorem sgX_pack_59 {post : Int32 → SX → Prop} {x1 x2 x3 : Int32} {sz la pk cd nb al : Nat → Int32} {hd cu : Int32} (h : VX dX_pack post 63 [.inl x3, .inl 4, .inl x1, .inr 0] [some (.inr 0), some (.inl x1), some (.inl x2), none, none, none] (sz, la, pk, hd, cd, nb, al, cu)) : VX dX_pack post 59 [] [some (.inr 0), some (.inl x1), some (.inl x2), some (.inl x3), none, none] (sz, la, pk, hd, cd, nb, al, cu) := segX okX_pack cutX_pack 300 h
theorem sgX_pack_66 {post : Int32 → SX → Prop} {x1 x2 : Int32} {sz la pk cd nb al : Nat → Int32} {hd cu : Int32} (h : VX dX_pack post 69 [] [some (.inr 0), some (.inl x1), some (.inl x2), none, some (.inl 0), none] (sz, la, pk, hd, cd, nb, al, cu)) : VX dX_pack post 66 [] [some (.inr 0), some (.inl x1), some (.inl x2), none, none, none] (sz, la, pk, hd, cd, nb, al, cu) := segX okX_pack cutX_pack 300 h
theorem sgX_pack_69 {post : Int32 → SX → Prop} {x1 x2 x4 : Int32} {sz la pk cd nb al : Nat → Int32} {hd cu : Int32} (h : (x4 < hd → vp_in x4 8 ∧ (VX dX_pack post 94 [.inl ((cd (x4).toNatClampNeg) &&& (((1 : Int32) <<< (x2 &&& 31) : Int32) - 1)), .inl x2, .inl x1, .inr 0] [some (.inr 0), some (.inl x1), some (.inl x2), none, some (.inl x4), none] (sz, la, pk, hd, cd, nb, al, cu))) ∧ (¬ x4 < hd → VX dX_pack post 106 [] [some (.inr 0), some (.inl x1), some (.inl x2), none, some (.inl 0), none] (sz, la, pk, hd, cd, nb, al, cu))) : VX dX_pack post 69 [] [some (.inr 0), some (.inl x1), some (.inl x2), none, some (.inl x4), none] (sz, la, pk, hd, cd, nb, al, cu) := segX okX_pack cutX_pack 300 h
theorem sgX_pack_97 {post : Int32 → SX → Prop} {x1 x2 x4 : Int32} {sz la pk cd nb al : Nat → Int32} {hd cu : Int32} (h : VX dX_pack post 69 [] [some (.inr 0), some (.inl x1), some (.inl x2), none, some (.inl (x4 + 1)), none] (sz, la, pk, hd, cd, nb, al, cu)) : VX dX_pack post 97 [] [some (.inr 0), some (.inl x1), some (.inl x2), none, some (.inl x4), none] (sz, la, pk, hd, cd, nb, al, cu) := segX okX_pack cutX_pack 300 h
theorem sgX_pack_106 {post : Int32 → SX → Prop} {x1 x2 x4 : Int32} {sz la pk cd nb al : Nat → Int32} {hd cu : Int32} (h : (x4 < hd → vp_in x4 8 ∧ (VX dX_pack post 123 [.inl (cd (x4).toNatClampNeg), .inr 0] [some (.inr 0), some (.inl x1), some (.inl x2), none, some (.inl x4), none] (sz, la, pk, hd, cd, nb, al, cu))) ∧ (¬ x4 < hd → post 0 (sz, la, pk, hd, cd, nb, al, cu))) : VX dX_pack post 106 [] [some (.inr 0), some (.inl x1), some (.inl x2), none, some (.inl x4), none] (sz, la, pk, hd, cd, nb, al, cu) := segX okX_pack cutX_pack 300 h
theorem sgX_pack_126 {post : Int32 → SX → Prop} {x1 x2 x4 s0 : Int32} {sz la pk cd nb al : Nat → Int32} {hd cu : Int32} (h : (x2 < s0 → VX dX_pack post 139 [.inl x4, .inl 3, .inl x1, .inr 0] [some (.inr 0), some (.inl x1), some (.inl x2), none, some (.inl x4), some (.inl s0)] (sz, la, pk, hd, cd, nb, al, cu)) ∧ (¬ x2 < s0 → VX dX_pack post 170 [] [some (.inr 0), some (.inl x1), some (.inl x2), none, some (.inl x4), none] (sz, la, pk, hd, cd, nb, al, cu))) : VX dX_pack post 126 [.inl s0] [some (.inr 0), some (.inl x1), some (.inl x2), none, some (.inl x4), none] (sz, la, pk, hd, cd, nb, al, cu) := segX okX_pack cutX_pack 300 h
theorem sgX_pack_142 {post : Int32 → SX → Prop} {x1 x2 x4 x5 : Int32} {sz la pk cd nb al : Nat → Int32} {hd cu : Int32} (h : VX dX_pack post 149 [.inl (x5 - x2), .inl 5, .inl x1, .inr 0] [some (.inr 0), some (.inl x1), some (.inl x2), none, some (.inl x4), some (.inl x5)] (sz, la, pk, hd, cd, nb, al, cu)) : VX dX_pack post 142 [] [some (.inr 0), some (.inl x1), some (.inl x2), none, some (.inl x4), some (.inl x5)] (sz, la, pk, hd, cd, nb, al, cu) := segX okX_pack cutX_pack 300 h
theorem sgX_pack_152 {post : Int32 → SX → Prop} {x1 x2 x4 x5 : Int32} {sz la pk cd nb al : Nat → Int32} {hd cu : Int32} (h : vp_in x4 8 ∧ (VX dX_pack post 167 [.inl ((cd (x4).toNatClampNeg) >>> (x2 &&& 31) : Int32), .inl (x5 - x2), .inl x1, .inr 0] [some (.inr 0), some (.inl x1), some (.inl x2), none, some (.inl x4), none] (sz, la, pk, hd, cd, nb, al, cu))) : VX dX_pack post 152 [] [some (.inr 0), some (.inl x1), some (.inl x2), none, some (.inl x4), some (.inl x5)] (sz, la, pk, hd, cd, nb, al, cu) := segX okX_pack cutX_pack 300 h
theorem sgX_pack_170 {post : Int32 → SX → Prop} {x1 x2 x4 : Int32} {sz la pk cd nb al : Nat → Int32} {hd cu : Int32} (h : VX dX_pack post 106 [] [some (.inr 0), some (.inl x1), some (.inl x2), none, some (.inl (x4 + 1)), none] (sz, la, pk, hd, cd, nb, al, cu)) : VX dX_pack post 170 [] [some (.inr 0), some (.inl x1), some (.inl x2), none, some (.inl x4), none] (sz, la, pk, hd, cd, nb, al, cu) := segX okX_pack cutX_pack 300 h
theorem csX_pack_1 {post post2 : Int32 → SX → Prop} {x1 : Int32} {S : SX} (hC : CX yX0_bestBase dX_bestBase [] S post2) (k : ∀ r S1, post2 r S1 → VX dX_pack post 4 [.inl r] [some (.inr 0), some (.inl x1), none, none, none, none] S1) : VX dX_pack post 1 [.inr 0] [some (.inr 0), some (.inl x1), none, none, none, none] S := cllX (idx := 43) [] hC cwX_bestBase cnX_bestBase (by decide +kernel) ⟨by decide, by decide⟩ (Nat.le_of_ble_eq_true rfl) k
theorem csX_pack_27 {post post2 : Int32 → SX → Prop} {x1 x2 x3 x4 s0 : Int32} {S : SX} (hC : CX yX0_width dX_width [s0] S post2) (k : ∀ r S1, post2 r S1 → VX dX_pack post 30 [.inl r] [some (.inr 0), some (.inl x1), some (.inl x2), some (.inl x3), some (.inl x4), none] S1) : VX dX_pack post 27 [.inl s0, .inr 0] [some (.inr 0), some (.inl x1), some (.inl x2), some (.inl x3), some (.inl x4), none] S := cllX (idx := 36) [s0] hC cwX_width cnX_width (by decide +kernel) ⟨by decide, by decide⟩ (Nat.le_of_ble_eq_true rfl) k
theorem csX_pack_56 {post post2 : Int32 → SX → Prop} {x1 x2 x3 s0 s1 s2 : Int32} {S : SX} (hC : CX yX0_put dX_put [s2, s1, s0] S post2) (k : ∀ r S1, post2 r S1 → VX dX_pack post 59 [] [some (.inr 0), some (.inl x1), some (.inl x2), some (.inl x3), none, none] S1) : VX dX_pack post 56 [.inl s0, .inl s1, .inl s2, .inr 0] [some (.inr 0), some (.inl x1), some (.inl x2), some (.inl x3), none, none] S := cllX (idx := 47) [s2, s1, s0] hC cwX_put cnX_put (by decide +kernel) ⟨by decide, by decide⟩ (Nat.le_of_ble_eq_true rfl) k
theorem csX_pack_63 {post post2 : Int32 → SX → Prop} {x1 x2 s0 s1 s2 : Int32} {S : SX} (hC : CX yX0_put dX_put [s2, s1, s0] S post2) (k : ∀ r S1, post2 r S1 → VX dX_pack post 66 [] [some (.inr 0), some (.inl x1), some (.inl x2), none, none, none] S1) : VX dX_pack post 63 [.inl s0, .inl s1, .inl s2, .inr 0] [some (.inr 0), some (.inl x1), some (.inl x2), none, none, none] S := cllX (idx := 47) [s2, s1, s0] hC cwX_put cnX_put (by decide +kernel) ⟨by decide, by decide⟩ (Nat.le_of_ble_eq_true rfl) k
theorem csX_pack_94 {post post2 : Int32 → SX → Prop} {x1 x2 x4 s0 s1 s2 : Int32} {S : SX} (hC : CX yX0_put dX_put [s2, s1, s0] S post2) (k : ∀ r S1, post2 r S1 → VX dX_pack post 97 [] [some (.inr 0), some (.inl x1), some (.inl x2), none, some (.inl x4), none] S1) : VX dX_pack post 94 [.inl s0, .inl s1, .inl s2, .inr 0] [some (.inr 0), some (.inl x1), some (.inl x2), none, some (.inl x4), none] S := cllX (idx := 47) [s2, s1, s0] hC cwX_put cnX_put (by decide +kernel) ⟨by decide, by decide⟩ (Nat.le_of_ble_eq_true rfl) k
theorem csX_pack_123 {post post2 : Int32 → SX → Prop} {x1 x2 x4 s0 : Int32} {S : SX} (hC : CX yX0_width dX_width [s0] S post2) (k : ∀ r S1, post2 r S1 → VX dX_pack post 126 [.inl r] [some (.inr 0), some (.inl x1), some (.inl x2), none, some (.inl x4), none] S1) : VX dX_pack post 123 [.inl s0, .inr 0] [some (.inr 0), some (.inl x1), some (.inl x2), none, some (.inl x4), none] S := cllX (idx := 36) [s0] hC cwX_width cnX_width (by decide +kernel) ⟨by decide, by decide⟩ (Nat.le_of_ble_eq_true rfl) k
theorem csX_pack_139 {post post2 : Int32 → SX → Prop} {x1 x2 x4 x5 s0 s1 s2 : Int32} {S : SX} (hC : CX yX0_put dX_put [s2, s1, s0] S post2) (k : ∀ r S1, post2 r S1 → VX dX_pack post 142 [] [some (.inr 0), some (.inl x1), some (.inl x2), none, some (.inl x4), some (.inl x5)] S1) : VX dX_pack post 139 [.inl s0, .inl s1, .inl s2, .inr 0] [some (.inr 0), some (.inl x1), some (.inl x2), none, some (.inl x4), some (.inl x5)] S := cllX (idx := 47) [s2, s1, s0] hC cwX_put cnX_put (by decide +kernel) ⟨by decide, by decide⟩ (Nat.le_of_ble_eq_true rfl) k
theorem csX_pack_149 {post post2 : Int32 → SX → Prop} {x1 x2 x4 x5 s0 s1 s2 : Int32} {S : SX} (hC : CX yX0_put dX_put [s2, s1, s0] S post2) (k : ∀ r S1, post2 r S1 → VX dX_pack post 152 [] [some (.inr 0), some (.inl x1), some (.inl x2), none, some (.inl x4), some (.inl x5)] S1) : VX dX_pack post 149 [.inl s0, .inl s1, .inl s2, .inr 0] [some (.inr 0), some (.inl x1), some (.inl x2), none, some (.inl x4), some (.inl x5)] S := cllX (idx := 47) [s2, s1, s0] hC cwX_put cnX_put (by decide +kernel) ⟨by decide, by decide⟩ (Nat.le_of_ble_eq_true rfl) k
theorem csX_pack_167 {post post2 : Int32 → SX → Prop} {x1 x2 x4 s0 s1 s2 : Int32} {S : SX} (hC : CX yX0_put dX_put [s2, s1, s0] S post2) (k : ∀ r S1, post2 r S1 → VX dX_pack post 170 [] [some (.inr 0), some (.inl x1), some (.inl x2), none, some (.inl x4), none] S1) : VX dX_pack post 167 [.inl s0, .inl s1, .inl s2, .inr 0] [some (.inr 0), some (.inl x1), some (.inl x2), none, some (.inl x4), none] S := cllX (idx := 47) [s2, s1, s0] hC cwX_put cnX_put (by decide +kernel) ⟨by decide, by decide⟩ (Nat.le_of_ble_eq_true rfl) k
def cutX_bestBase : List (Nat × List Bool) := [(4, [true, true, false, false, false]), (7, [true, true, false, false, false]), (10, [true, true, true, true, false]), (18, [true, true, true, true, false]), (21, [true, true, true, true, false])]
theorem sgX_bestBase_0 {post : Int32 → SX → Prop} {sz la pk cd nb al : Nat → Int32} {hd cu : Int32} (h : VX dX_bestBase post 4 [.inl 0, .inr 0] [some (.inr 0), some (.inl 0), none, none, none] (sz, la, pk, hd, cd, nb, al, cu)) : VX dX_bestBase post 0 [] [some (.inr 0), none, none, none, none] (sz, la, pk, hd, cd, nb, al, cu) := segX okX_bestBase cutX_bestBase 300 h
theorem sgX_bestBase_7 {post : Int32 → SX → Prop} {x1 s0 : Int32} {sz la pk cd nb al : Nat → Int32} {hd cu : Int32} (h : VX dX_bestBase post 10 [] [some (.inr 0), some (.inl x1), some (.inl s0), some (.inl 1), none] (sz, la, pk, hd, cd, nb, al, cu)) : VX dX_bestBase post 7 [.inl s0] [some (.inr 0), some (.inl x1), none, none, none] (sz, la, pk, hd, cd, nb, al, cu) := segX okX_bestBase cutX_bestBase 300 h
theorem sgX_bestBase_10 {post : Int32 → SX → Prop} {x1 x2 x3 : Int32} {sz la pk cd nb al : Nat → Int32} {hd cu : Int32} (h : (20 < x3 → post x1 (sz, la, pk, hd, cd, nb, al, cu)) ∧ (¬ 20 < x3 → VX dX_bestBase post 18 [.inl x3, .inr 0] [some (.inr 0), some (.inl x1), some (.inl x2), some (.inl x3), none] (sz, la, pk, hd, cd, nb, al, cu))) : VX dX_bestBase post 10 [] [some (.inr 0), some (.inl x1), some (.inl x2), some (.inl x3), none] (sz, la, pk, hd, cd, nb, al, cu) := segX okX_bestBase cutX_bestBase 300 h
theorem sgX_bestBase_21 {post : Int32 → SX → Prop} {x1 x2 x3 s0 : Int32} {sz la pk cd nb al : Nat → Int32} {hd cu : Int32} (h : (s0 < x2 → VX dX_bestBase post 10 [] [some (.inr 0), some (.inl x3), some (.inl s0), some (.inl (x3 + 1)), none] (sz, la, pk, hd, cd, nb, al, cu)) ∧ (¬ s0 < x2 → VX dX_bestBase post 10 [] [some (.inr 0), some (.inl x1), some (.inl x2), some (.inl (x3 + 1)), none] (sz, la, pk, hd, cd, nb, al, cu))) : VX dX_bestBase post 21 [.inl s0] [some (.inr 0), some (.inl x1), some (.inl x2), some (.inl x3), none] (sz, la, pk, hd, cd, nb, al, cu) := segX okX_bestBase cutX_bestBase 300 h
theorem csX_bestBase_4 {post post2 : Int32 → SX → Prop} {x1 s0 : Int32} {S : SX} (hC : CX yX0_sizeAt dX_sizeAt [s0] S post2) (k : ∀ r S1, post2 r S1 → VX dX_bestBase post 7 [.inl r] [some (.inr 0), some (.inl x1), none, none, none] S1) : VX dX_bestBase post 4 [.inl s0, .inr 0] [some (.inr 0), some (.inl x1), none, none, none] S := cllX (idx := 40) [s0] hC cwX_sizeAt cnX_sizeAt (by decide +kernel) ⟨by decide, by decide⟩ (Nat.le_of_ble_eq_true rfl) k
theorem csX_bestBase_18 {post post2 : Int32 → SX → Prop} {x1 x2 x3 s0 : Int32} {S : SX} (hC : CX yX0_sizeAt dX_sizeAt [s0] S post2) (k : ∀ r S1, post2 r S1 → VX dX_bestBase post 21 [.inl r] [some (.inr 0), some (.inl x1), some (.inl x2), some (.inl x3), none] S1) : VX dX_bestBase post 18 [.inl s0, .inr 0] [some (.inr 0), some (.inl x1), some (.inl x2), some (.inl x3), none] S := cllX (idx := 40) [s0] hC cwX_sizeAt cnX_sizeAt (by decide +kernel) ⟨by decide, by decide⟩ (Nat.le_of_ble_eq_true rfl) k
def cutX_sizeAt : List (Nat × List Bool) := [(5, [true, true, true, true, false]), (20, [true, true, true, true, false]), (23, [true, true, true, true, false])]
theorem sgX_sizeAt_0 {post : Int32 → SX → Prop} {x1 : Int32} {sz la pk cd nb al : Nat → Int32} {hd cu : Int32} (h : VX dX_sizeAt post 5 [] [some (.inr 0), some (.inl x1), some (.inl 9), some (.inl 0), none] (sz, la, pk, hd, cd, nb, al, cu)) : VX dX_sizeAt post 0 [] [some (.inr 0), some (.inl x1), none, none, none] (sz, la, pk, hd, cd, nb, al, cu) := segX okX_sizeAt cutX_sizeAt 300 h
theorem sgX_sizeAt_5 {post : Int32 → SX → Prop} {x1 x2 x3 : Int32} {sz la pk cd nb al : Nat → Int32} {hd cu : Int32} (h : (x3 < hd → vp_in x3 8 ∧ (VX dX_sizeAt post 20 [.inl (cd (x3).toNatClampNeg), .inr 0] [some (.inr 0), some (.inl x1), some (.inl x2), some (.inl x3), none] (sz, la, pk, hd, cd, nb, al, cu))) ∧ (¬ x3 < hd → post x2 (sz, la, pk, hd, cd, nb, al, cu))) : VX dX_sizeAt post 5 [] [some (.inr 0), some (.inl x1), some (.inl x2), some (.inl x3), none] (sz, la, pk, hd, cd, nb, al, cu) := segX okX_sizeAt cutX_sizeAt 300 h
theorem sgX_sizeAt_23 {post : Int32 → SX → Prop} {x1 x2 x3 s0 : Int32} {sz la pk cd nb al : Nat → Int32} {hd cu : Int32} (h : (x1 < s0 → VX dX_sizeAt post 5 [] [some (.inr 0), some (.inl x1), some (.inl ((((x2 + x1) + 8) + s0) - x1)), some (.inl (x3 + 1)), none] (sz, la, pk, hd, cd, nb, al, cu)) ∧ (¬ x1 < s0 → VX dX_sizeAt post 5 [] [some (.inr 0), some (.inl x1), some (.inl (x2 + x1)), some (.inl (x3 + 1)), none] (sz, la, pk, hd, cd, nb, al, cu))) : VX dX_sizeAt post 23 [.inl s0] [some (.inr 0), some (.inl x1), some (.inl x2), some (.inl x3), none] (sz, la, pk, hd, cd, nb, al, cu) := segX okX_sizeAt cutX_sizeAt 300 h
theorem csX_sizeAt_20 {post post2 : Int32 → SX → Prop} {x1 x2 x3 s0 : Int32} {S : SX} (hC : CX yX0_width dX_width [s0] S post2) (k : ∀ r S1, post2 r S1 → VX dX_sizeAt post 23 [.inl r] [some (.inr 0), some (.inl x1), some (.inl x2), some (.inl x3), none] S1) : VX dX_sizeAt post 20 [.inl s0, .inr 0] [some (.inr 0), some (.inl x1), some (.inl x2), some (.inl x3), none] S := cllX (idx := 36) [s0] hC cwX_width cnX_width (by decide +kernel) ⟨by decide, by decide⟩ (Nat.le_of_ble_eq_true rfl) k
def cutX_width : List (Nat × List Bool) := [(4, [false, true, true, true])]
theorem sgX_width_0 {post : Int32 → SX → Prop} {x1 : Int32} {sz la pk cd nb al : Nat → Int32} {hd cu : Int32} (h : VX dX_width post 4 [] [none, some (.inl x1), some (.inl 0), some (.inl 0)] (sz, la, pk, hd, cd, nb, al, cu)) : VX dX_width post 0 [] [some (.inr 0), some (.inl x1), none, none] (sz, la, pk, hd, cd, nb, al, cu) := segX okX_width cutX_width 300 h
theorem sgX_width_4 {post : Int32 → SX → Prop} {x1 x2 x3 : Int32} {sz la pk cd nb al : Nat → Int32} {hd cu : Int32} (h : (x3 < 31 → ((x1 >>> (x3 &&& 31) : Int32) = 0 → post x2 (sz, la, pk, hd, cd, nb, al, cu)) ∧ (¬ (x1 >>> (x3 &&& 31) : Int32) = 0 → VX dX_width post 4 [] [none, some (.inl x1), some (.inl (x2 + 1)), some (.inl (x3 + 1))] (sz, la, pk, hd, cd, nb, al, cu))) ∧ (¬ x3 < 31 → post x2 (sz, la, pk, hd, cd, nb, al, cu))) : VX dX_width post 4 [] [none, some (.inl x1), some (.inl x2), some (.inl x3)] (sz, la, pk, hd, cd, nb, al, cu) := segX okX_width cutX_width 300 h
def cutX_put : List (Nat × List Bool) := [(5, [true, true, false, true, true, false, false])]
theorem sgX_put_0 {post : Int32 → SX → Prop} {x1 x2 x3 : Int32} {sz la pk cd nb al : Nat → Int32} {hd cu : Int32} (h : VX dX_put post 5 [] [some (.inr 0), some (.inl x1), none, some (.inl x3), some (.inl (x2 - 1)), none, none] (sz, la, pk, hd, cd, nb, al, cu)) : VX dX_put post 0 [] [some (.inr 0), some (.inl x1), some (.inl x2), some (.inl x3), none, none, none] (sz, la, pk, hd, cd, nb, al, cu) := segX okX_put cutX_put 300 h
theorem sgX_put_5 {post : Int32 → SX → Prop} {x1 x3 x4 : Int32} {sz la pk cd nb al : Nat → Int32} {hd cu : Int32} (h : (x4 < 0 → post 0 (sz, la, pk, hd, cd, nb, al, cu)) ∧ (¬ x4 < 0 → (((x3 >>> (x4 &&& 31) : Int32) &&& 1) = 1 → vp_in ((x1 * 6) + (cu >>> ((5 : Int32) &&& 31) : Int32)) 96 ∧ (vp_in ((x1 * 6) + (cu >>> ((5 : Int32) &&& 31) : Int32)) 96 ∧ (VX dX_put post 5 [] [some (.inr 0), some (.inl x1), none, some (.inl x3), some (.inl (x4 + (-1))), none, none] (sz, la, upd pk (((x1 * 6) + (cu >>> ((5 : Int32) &&& 31) : Int32))).toNatClampNeg ((pk (((x1 * 6) + (cu >>> ((5 : Int32) &&& 31) : Int32))).toNatClampNeg) ||| ((1 : Int32) <<< ((cu &&& 31) &&& 31) : Int32)), hd, cd, nb, al, (cu + 1))))) ∧ (¬ ((x3 >>> (x4 &&& 31) : Int32) &&& 1) = 1 → vp_in ((x1 * 6) + (cu >>> ((5 : Int32) &&& 31) : Int32)) 96 ∧ (vp_in ((x1 * 6) + (cu >>> ((5 : Int32) &&& 31) : Int32)) 96 ∧ (VX dX_put post 5 [] [some (.inr 0), some (.inl x1), none, some (.inl x3), some (.inl (x4 + (-1))), none, none] (sz, la, upd pk (((x1 * 6) + (cu >>> ((5 : Int32) &&& 31) : Int32))).toNatClampNeg ((pk (((x1 * 6) + (cu >>> ((5 : Int32) &&& 31) : Int32))).toNatClampNeg) &&& (((1 : Int32) <<< ((cu &&& 31) &&& 31) : Int32) ^^^ (-1))), hd, cd, nb, al, (cu + 1))))))) : VX dX_put post 5 [] [some (.inr 0), some (.inl x1), none, some (.inl x3), some (.inl x4), none, none] (sz, la, pk, hd, cd, nb, al, cu) := segX okX_put cutX_put 300 h
def cutX_run : List (Nat × List Bool) := [(2, [true, true, true, true, false, false]), (5, [true, true, true, true, false, false]), (50, [true, true, true, true, false, false]), (53, [true, true, true, true, false, false]), (75, [true, true, true, true, true, true]), (91, [true, true, true, true, true, true]), (94, [true, true, true, true, true, true])]
theorem sgX_run_0 {post : Int32 → SX → Prop} {x1 x2 x3 : Int32} {sz la pk cd nb al : Nat → Int32} {hd cu : Int32} (h : VX dX_run post 2 [.inl x1, .inr 0] [some (.inr 0), some (.inl x1), some (.inl x2), some (.inl x3), none, none] (sz, la, pk, hd, cd, nb, al, cu)) : VX dX_run post 0 [] [some (.inr 0), some (.inl x1), some (.inl x2), some (.inl x3), none, none] (sz, la, pk, hd, cd, nb, al, cu) := segX okX_run cutX_run 300 h
theorem sgX_run_5 {post : Int32 → SX → Prop} {x1 x2 x3 s0 : Int32} {sz la pk cd nb al : Nat → Int32} {hd cu : Int32} (h : (s0 = 0 → (x2 < 0 → post (-1) (sz, la, pk, hd, cd, nb, al, cu)) ∧ (¬ x2 < 0 → (64 < x2 → post (-1) (sz, la, pk, hd, cd, nb, al, cu)) ∧ (¬ 64 < x2 → (x3 < 1 → post (-1) (sz, la, pk, hd, cd, nb, al, cu)) ∧ (¬ x3 < 1 → (1000 < x3 → post (-1) (sz, la, pk, hd, cd, nb, al, cu)) ∧ (¬ 1000 < x3 → vp_in x1 2 ∧ ((64 < ((sz (x1).toNatClampNeg) + x2) → post (-2) (sz, la, pk, hd, cd, nb, al, cu)) ∧ (¬ 64 < ((sz (x1).toNatClampNeg) + x2) → VX dX_run post 50 [.inl x1, .inr 0] [some (.inr 0), some (.inl x1), some (.inl x2), some (.inl x3), none, none] (sz, la, pk, hd, cd, nb, al, cu)))))))) ∧ (¬ s0 = 0 → post (-1) (sz, la, pk, hd, cd, nb, al, cu))) : VX dX_run post 5 [.inl s0] [some (.inr 0), some (.inl x1), some (.inl x2), some (.inl x3), none, none] (sz, la, pk, hd, cd, nb, al, cu) := segX okX_run cutX_run 300 h
theorem sgX_run_53 {post : Int32 → SX → Prop} {x1 x2 x3 s0 : Int32} {sz la pk cd nb al : Nat → Int32} {hd cu : Int32} (h : (0 < x2 → (1000000 < (s0 + (x2 * x3)) → post (-1) (sz, la, pk, hd, cd, nb, al, cu)) ∧ (¬ 1000000 < (s0 + (x2 * x3)) → VX dX_run post 75 [] [some (.inr 0), some (.inl x1), some (.inl x2), some (.inl x3), some (.inl s0), some (.inl 0)] (sz, la, pk, hd, cd, nb, al, cu))) ∧ (¬ 0 < x2 → VX dX_run post 75 [] [some (.inr 0), some (.inl x1), some (.inl x2), some (.inl x3), some (.inl s0), some (.inl 0)] (sz, la, pk, hd, cd, nb, al, cu))) : VX dX_run post 53 [.inl s0] [some (.inr 0), some (.inl x1), some (.inl x2), some (.inl x3), none, none] (sz, la, pk, hd, cd, nb, al, cu) := segX okX_run cutX_run 300 h
theorem sgX_run_75 {post : Int32 → SX → Prop} {x1 x2 x3 x4 x5 : Int32} {sz la pk cd nb al : Nat → Int32} {hd cu : Int32} (h : (x5 < x2 → VX dX_run post 91 [.inl (x4 + x3), .inl x1, .inr 0] [some (.inr 0), some (.inl x1), some (.inl x2), some (.inl x3), some (.inl (x4 + x3)), some (.inl x5)] (sz, la, pk, hd, cd, nb, al, cu)) ∧ (¬ x5 < x2 → vp_in x1 2 ∧ (post (sz (x1).toNatClampNeg) (sz, la, pk, hd, cd, nb, al, cu)))) : VX dX_run post 75 [] [some (.inr 0), some (.inl x1), some (.inl x2), some (.inl x3), some (.inl x4), some (.inl x5)] (sz, la, pk, hd, cd, nb, al, cu) := segX okX_run cutX_run 300 h
theorem sgX_run_94 {post : Int32 → SX → Prop} {x1 x2 x3 x4 x5 : Int32} {sz la pk cd nb al : Nat → Int32} {hd cu : Int32} (h : VX dX_run post 75 [] [some (.inr 0), some (.inl x1), some (.inl x2), some (.inl x3), some (.inl x4), some (.inl (x5 + 1))] (sz, la, pk, hd, cd, nb, al, cu)) : VX dX_run post 94 [] [some (.inr 0), some (.inl x1), some (.inl x2), some (.inl x3), some (.inl x4), some (.inl x5)] (sz, la, pk, hd, cd, nb, al, cu) := segX okX_run cutX_run 300 h
theorem csX_run_2 {post post2 : Int32 → SX → Prop} {x1 x2 x3 s0 : Int32} {S : SX} (hC : CX yX0_badList dX_badList [s0] S post2) (k : ∀ r S1, post2 r S1 → VX dX_run post 5 [.inl r] [some (.inr 0), some (.inl x1), some (.inl x2), some (.inl x3), none, none] S1) : VX dX_run post 2 [.inl s0, .inr 0] [some (.inr 0), some (.inl x1), some (.inl x2), some (.inl x3), none, none] S := cllX (idx := 72) [s0] hC cwX_badList cnX_badList (by decide +kernel) ⟨by decide, by decide⟩ (Nat.le_of_ble_eq_true rfl) k
theorem csX_run_50 {post post2 : Int32 → SX → Prop} {x1 x2 x3 s0 : Int32} {S : SX} (hC : CX yX0_lastNumber dX_lastNumber [s0] S post2) (k : ∀ r S1, post2 r S1 → VX dX_run post 53 [.inl r] [some (.inr 0), some (.inl x1), some (.inl x2), some (.inl x3), none, none] S1) : VX dX_run post 50 [.inl s0, .inr 0] [some (.inr 0), some (.inl x1), some (.inl x2), some (.inl x3), none, none] S := cllX (idx := 61) [s0] hC cwX_lastNumber cnX_lastNumber (by decide +kernel) ⟨by decide, by decide⟩ (Nat.le_of_ble_eq_true rfl) k
theorem csX_run_91 {post post2 : Int32 → SX → Prop} {x1 x2 x3 x4 x5 s0 s1 : Int32} {S : SX} (hC : CX yX0_attach dX_attach [s1, s0] S post2) (k : ∀ r S1, post2 r S1 → VX dX_run post 94 [] [some (.inr 0), some (.inl x1), some (.inl x2), some (.inl x3), some (.inl x4), some (.inl x5)] S1) : VX dX_run post 91 [.inl s0, .inl s1, .inr 0] [some (.inr 0), some (.inl x1), some (.inl x2), some (.inl x3), some (.inl x4), some (.inl x5)] S := cllX (idx := 79) [s1, s0] hC cwX_attach cnX_attach (by decide +kernel) ⟨by decide, by decide⟩ (Nat.le_of_ble_eq_true rfl) k
def cutX_insert : List (Nat × List Bool) := [(2, [true, true, true, false, false, false]), (5, [true, true, true, false, false, false]), (10, [true, true, true, false, false, false]), (13, [true, true, true, false, false, false]), (21, [true, true, true, false, false, false]), (24, [true, true, true, false, false, false]), (38, [true, true, true, true, false, false]), (41, [true, true, true, true, false, false]), (76, [true, true, true, true, false, false]), (79, [true, true, true, true, false, false]), (87, [true, true, true, true, false, true]), (133, [false, false, false, true, false, false]), (136, [false, false, false, true, false, false])]
theorem sgX_insert_0 {post : Int32 → SX → Prop} {x1 x2 : Int32} {sz la pk cd nb al : Nat → Int32} {hd cu : Int32} (h : VX dX_insert post 2 [.inl x1, .inr 0] [some (.inr 0), some (.inl x1), some (.inl x2), none, none, none] (sz, la, pk, hd, cd, nb, al, cu)) : VX dX_insert post 0 [] [some (.inr 0), some (.inl x1), some (.inl x2), none, none, none] (sz, la, pk, hd, cd, nb, al, cu) := segX okX_insert cutX_insert 300 h
theorem sgX_insert_5 {post : Int32 → SX → Prop} {x1 x2 s0 : Int32} {sz la pk cd nb al : Nat → Int32} {hd cu : Int32} (h : (s0 = 0 → VX dX_insert post 10 [.inl x2, .inr 0] [some (.inr 0), some (.inl x1), some (.inl x2), none, none, none] (sz, la, pk, hd, cd, nb, al, cu)) ∧ (¬ s0 = 0 → post (-1) (sz, la, pk, hd, cd, nb, al, cu))) : VX dX_insert post 5 [.inl s0] [some (.inr 0), some (.inl x1), some (.inl x2), none, none, none] (sz, la, pk, hd, cd, nb, al, cu) := segX okX_insert cutX_insert 300 h
theorem sgX_insert_13 {post : Int32 → SX → Prop} {x1 x2 s0 : Int32} {sz la pk cd nb al : Nat → Int32} {hd cu : Int32} (h : (s0 = 0 → VX dX_insert post 21 [.inl x2, .inl x1, .inr 0] [some (.inr 0), some (.inl x1), some (.inl x2), none, none, none] (sz, la, pk, hd, cd, nb, al, cu)) ∧ (¬ s0 = 0 → post (-1) (sz, la, pk, hd, cd, nb, al, cu))) : VX dX_insert post 13 [.inl s0] [some (.inr 0), some (.inl x1), some (.inl x2), none, none, none] (sz, la, pk, hd, cd, nb, al, cu) := segX okX_insert cutX_insert 300 h
theorem sgX_insert_24 {post : Int32 → SX → Prop} {x1 x2 s0 : Int32} {sz la pk cd nb al : Nat → Int32} {hd cu : Int32} (h : vp_in x1 2 ∧ ((s0 < (sz (x1).toNatClampNeg) → VX dX_insert post 38 [.inl s0, .inl x1, .inr 0] [some (.inr 0), some (.inl x1), some (.inl x2), some (.inl s0), none, none] (sz, la, pk, hd, cd, nb, al, cu)) ∧ (¬ s0 < (sz (x1).toNatClampNeg) → ((0 : Int32) = 0 → vp_in x1 2 ∧ (((sz (x1).toNatClampNeg) = 64 → post (-2) (sz, la, pk, hd, cd, nb, al, cu)) ∧ (¬ (sz (x1).toNatClampNeg) = 64 → VX dX_insert post 76 [.inl x1, .inr 0] [some (.inr 0), some (.inl x1), some (.inl x2), some (.inl s0), none, none] (sz, la, pk, hd, cd, nb, al, cu)))) ∧ (¬ (0 : Int32) = 0 → post (-4) (sz, la, pk, hd, cd, nb, al, cu))))) : VX dX_insert post 24 [.inl s0] [some (.inr 0), some (.inl x1), some (.inl x2), none, none, none] (sz, la, pk, hd, cd, nb, al, cu) := segX okX_insert cutX_insert 300 h
theorem sgX_insert_41 {post : Int32 → SX → Prop} {x1 x2 x3 s0 : Int32} {sz la pk cd nb al : Nat → Int32} {hd cu : Int32} (h : (s0 = x2 → ((1 : Int32) = 0 → vp_in x1 2 ∧ (((sz (x1).toNatClampNeg) = 64 → post (-2) (sz, la, pk, hd, cd, nb, al, cu)) ∧ (¬ (sz (x1).toNatClampNeg) = 64 → VX dX_insert post 76 [.inl x1, .inr 0] [some (.inr 0), some (.inl x1), some (.inl x2), some (.inl x3), none, none] (sz, la, pk, hd, cd, nb, al, cu)))) ∧ (¬ (1 : Int32) = 0 → post (-4) (sz, la, pk, hd, cd, nb, al, cu))) ∧ (¬ s0 = x2 → ((0 : Int32) = 0 → vp_in x1 2 ∧ (((sz (x1).toNatClampNeg) = 64 → post (-2) (sz, la, pk, hd, cd, nb, al, cu)) ∧ (¬ (sz (x1).toNatClampNeg) = 64 → VX dX_insert post 76 [.inl x1, .inr 0] [some (.inr 0), some (.inl x1), some (.inl x2), some (.inl x3), none, none] (sz, la, pk, hd, cd, nb, al, cu)))) ∧ (¬ (0 : Int32) = 0 → post (-4) (sz, la, pk, hd, cd, nb, al, cu)))) : VX dX_insert post 41 [.inl s0] [some (.inr 0), some (.inl x1), some (.inl x2), some (.inl x3), none, none] (sz, la, pk, hd, cd, nb, al, cu) := segX okX_insert cutX_insert 300 h
theorem sgX_insert_79 {post : Int32 → SX → Prop} {x1 x2 x3 : Int32} {sz la pk cd nb al : Nat → Int32} {hd cu : Int32} (h : vp_in x1 2 ∧ (VX dX_insert post 87 [] [some (.inr 0), some (.inl x1), some (.inl x2), some (.inl x3), none, some (.inl (sz (x1).toNatClampNeg))] (sz, la, pk, hd, cd, nb, al, cu))) : VX dX_insert post 79 [] [some (.inr 0), some (.inl x1), some (.inl x2), some (.inl x3), none, none] (sz, la, pk, hd, cd, nb, al, cu) := segX okX_insert cutX_insert 300 h
theorem sgX_insert_87 {post : Int32 → SX → Prop} {x1 x2 x3 x5 : Int32} {sz la pk cd nb al : Nat → Int32} {hd cu : Int32} (h : (x3 < x5 → vp_in (x5 - 1) 65 ∧ (vp_in x5 65 ∧ (VX dX_insert post 87 [] [some (.inr 0), some (.inl x1), some (.inl x2), some (.inl x3), none, some (.inl (x5 + (-1)))] (sz, la, pk, hd, cd, nb, upd al (x5).toNatClampNeg (al ((x5 - 1)).toNatClampNeg), cu)))) ∧ (¬ x3 < x5 → vp_in x3 65 ∧ (vp_in x1 2 ∧ (VX dX_insert post 133 [.inl x3, .inl ((sz (x1).toNatClampNeg) + 1), .inl x1, .inr 0] [none, none, none, some (.inl x3), none, none] (sz, la, pk, hd, cd, nb, upd al (x3).toNatClampNeg x2, cu))))) : VX dX_insert post 87 [] [some (.inr 0), some (.inl x1), some (.inl x2), some (.inl x3), none, some (.inl x5)] (sz, la, pk, hd, cd, nb, al, cu) := segX okX_insert cutX_insert 300 h
theorem sgX_insert_136 {post : Int32 → SX → Prop} {x3 : Int32} {sz la pk cd nb al : Nat → Int32} {hd cu : Int32} (h : post x3 (sz, la, pk, hd, cd, nb, al, cu)) : VX dX_insert post 136 [] [none, none, none, some (.inl x3), none, none] (sz, la, pk, hd, cd, nb, al, cu) := segX okX_insert cutX_insert 300 h
theorem csX_insert_2 {post post2 : Int32 → SX → Prop} {x1 x2 s0 : Int32} {S : SX} (hC : CX yX0_badList dX_badList [s0] S post2) (k : ∀ r S1, post2 r S1 → VX dX_insert post 5 [.inl r] [some (.inr 0), some (.inl x1), some (.inl x2), none, none, none] S1) : VX dX_insert post 2 [.inl s0, .inr 0] [some (.inr 0), some (.inl x1), some (.inl x2), none, none, none] S := cllX (idx := 72) [s0] hC cwX_badList cnX_badList (by decide +kernel) ⟨by decide, by decide⟩ (Nat.le_of_ble_eq_true rfl) k
theorem csX_insert_10 {post post2 : Int32 → SX → Prop} {x1 x2 s0 : Int32} {S : SX} (hC : CX yX0_badNumber dX_badNumber [s0] S post2) (k : ∀ r S1, post2 r S1 → VX dX_insert post 13 [.inl r] [some (.inr 0), some (.inl x1), some (.inl x2), none, none, none] S1) : VX dX_insert post 10 [.inl s0, .inr 0] [some (.inr 0), some (.inl x1), some (.inl x2), none, none, none] S := cllX (idx := 76) [s0] hC cwX_badNumber cnX_badNumber (by decide +kernel) ⟨by decide, by decide⟩ (Nat.le_of_ble_eq_true rfl) k
theorem csX_insert_21 {post post2 : Int32 → SX → Prop} {x1 x2 s0 s1 : Int32} {S : SX} (hC : CX yX0_firstFrom dX_firstFrom [s1, s0] S post2) (k : ∀ r S1, post2 r S1 → VX dX_insert post 24 [.inl r] [some (.inr 0), some (.inl x1), some (.inl x2), none, none, none] S1) : VX dX_insert post 21 [.inl s0, .inl s1, .inr 0] [some (.inr 0), some (.inl x1), some (.inl x2), none, none, none] S := cllX (idx := 82) [s1, s0] hC cwX_firstFrom cnX_firstFrom (by decide +kernel) ⟨by decide, by decide⟩ (Nat.le_of_ble_eq_true rfl) k
theorem csX_insert_38 {post post2 : Int32 → SX → Prop} {x1 x2 x3 s0 s1 : Int32} {S : SX} (hC : CX yX0_numberAt dX_numberAt [s1, s0] S post2) (k : ∀ r S1, post2 r S1 → VX dX_insert post 41 [.inl r] [some (.inr 0), some (.inl x1), some (.inl x2), some (.inl x3), none, none] S1) : VX dX_insert post 38 [.inl s0, .inl s1, .inr 0] [some (.inr 0), some (.inl x1), some (.inl x2), some (.inl x3), none, none] S := cllX (idx := 85) [s1, s0] hC cwX_numberAt cnX_numberAt (by decide +kernel) ⟨by decide, by decide⟩ (Nat.le_of_ble_eq_true rfl) k
theorem csX_insert_76 {post post2 : Int32 → SX → Prop} {x1 x2 x3 s0 : Int32} {S : SX} (hC : CX yX0_spread dX_spread [s0] S post2) (k : ∀ r S1, post2 r S1 → VX dX_insert post 79 [] [some (.inr 0), some (.inl x1), some (.inl x2), some (.inl x3), none, none] S1) : VX dX_insert post 76 [.inl s0, .inr 0] [some (.inr 0), some (.inl x1), some (.inl x2), some (.inl x3), none, none] S := cllX (idx := 88) [s0] hC cwX_spread cnX_spread (by decide +kernel) ⟨by decide, by decide⟩ (Nat.le_of_ble_eq_true rfl) k
theorem csX_insert_133 {post post2 : Int32 → SX → Prop} {x3 s0 s1 s2 : Int32} {S : SX} (hC : CX yX0_rebuild dX_rebuild [s2, s1, s0] S post2) (k : ∀ r S1, post2 r S1 → VX dX_insert post 136 [] [none, none, none, some (.inl x3), none, none] S1) : VX dX_insert post 133 [.inl s0, .inl s1, .inl s2, .inr 0] [none, none, none, some (.inl x3), none, none] S := cllX (idx := 91) [s2, s1, s0] hC cwX_rebuild cnX_rebuild (by decide +kernel) ⟨by decide, by decide⟩ (Nat.le_of_ble_eq_true rfl) k
def cutX_firstFrom : List (Nat × List Bool) := [(3, [true, true, true, false, false, false, false]), (6, [true, true, true, false, false, false, false]), (9, [true, true, true, true, false, false, false]), (12, [true, true, true, true, false, false, false]), (30, [true, false, true, true, false, false, false]), (33, [true, false, true, true, false, false, false]), (39, [true, false, true, true, false, true, true])]
theorem sgX_firstFrom_0 {post : Int32 → SX → Prop} {x1 x2 : Int32} {sz la pk cd nb al : Nat → Int32} {hd cu : Int32} (h : VX dX_firstFrom post 3 [.inl x2, .inl x1, .inr 0] [some (.inr 0), some (.inl x1), some (.inl x2), none, none, none, none] (sz, la, pk, hd, cd, nb, al, cu)) : VX dX_firstFrom post 0 [] [some (.inr 0), some (.inl x1), some (.inl x2), none, none, none, none] (sz, la, pk, hd, cd, nb, al, cu) := segX okX_firstFrom cutX_firstFrom 300 h
theorem sgX_firstFrom_6 {post : Int32 → SX → Prop} {x1 x2 s0 : Int32} {sz la pk cd nb al : Nat → Int32} {hd cu : Int32} (h : VX dX_firstFrom post 9 [.inl x1, .inr 0] [some (.inr 0), some (.inl x1), some (.inl x2), some (.inl s0), none, none, none] (sz, la, pk, hd, cd, nb, al, cu)) : VX dX_firstFrom post 6 [.inl s0] [some (.inr 0), some (.inl x1), some (.inl x2), none, none, none, none] (sz, la, pk, hd, cd, nb, al, cu) := segX okX_firstFrom cutX_firstFrom 300 h
theorem sgX_firstFrom_12 {post : Int32 → SX → Prop} {x1 x2 x3 s0 : Int32} {sz la pk cd nb al : Nat → Int32} {hd cu : Int32} (h : (x3 = s0 → vp_in x1 2 ∧ (post (sz (x1).toNatClampNeg) (sz, la, pk, hd, cd, nb, al, cu))) ∧ (¬ x3 = s0 → VX dX_firstFrom post 30 [.inl x3, .inl x1, .inr 0] [some (.inr 0), none, some (.inl x2), some (.inl x3), none, none, none] (sz, la, pk, hd, cd, nb, al, cu))) : VX dX_firstFrom post 12 [.inl s0] [some (.inr 0), some (.inl x1), some (.inl x2), some (.inl x3), none, none, none] (sz, la, pk, hd, cd, nb, al, cu) := segX okX_firstFrom cutX_firstFrom 300 h
theorem sgX_firstFrom_33 {post : Int32 → SX → Prop} {x2 x3 : Int32} {sz la pk cd nb al : Nat → Int32} {hd cu : Int32} (h : VX dX_firstFrom post 39 [] [some (.inr 0), none, some (.inl x2), some (.inl x3), none, some (.inl 0), some (.inl 0)] (sz, la, pk, hd, cd, nb, al, cu)) : VX dX_firstFrom post 33 [] [some (.inr 0), none, some (.inl x2), some (.inl x3), none, none, none] (sz, la, pk, hd, cd, nb, al, cu) := segX okX_firstFrom cutX_firstFrom 300 h
theorem sgX_firstFrom_39 {post : Int32 → SX → Prop} {x2 x3 x5 x6 : Int32} {sz la pk cd nb al : Nat → Int32} {hd cu : Int32} (h : (x6 < 8 → (x5 < hd → vp_in x5 8 ∧ (((nb (x5).toNatClampNeg) < x2 → VX dX_firstFrom post 39 [] [some (.inr 0), none, some (.inl x2), some (.inl x3), none, some (.inl (x5 + 1)), some (.inl (x6 + 1))] (sz, la, pk, hd, cd, nb, al, cu)) ∧ (¬ (nb (x5).toNatClampNeg) < x2 → post ((x3 * 8) + x5) (sz, la, pk, hd, cd, nb, al, cu)))) ∧ (¬ x5 < hd → post ((x3 * 8) + x5) (sz, la, pk, hd, cd, nb, al, cu))) ∧ (¬ x6 < 8 → post ((x3 * 8) + x5) (sz, la, pk, hd, cd, nb, al, cu))) : VX dX_firstFrom post 39 [] [some (.inr 0), none, some (.inl x2), some (.inl x3), none, some (.inl x5), some (.inl x6)] (sz, la, pk, hd, cd, nb, al, cu) := segX okX_firstFrom cutX_firstFrom 300 h
theorem csX_firstFrom_3 {post post2 : Int32 → SX → Prop} {x1 x2 s0 s1 : Int32} {S : SX} (hC : CX yX0_blockFrom dX_blockFrom [s1, s0] S post2) (k : ∀ r S1, post2 r S1 → VX dX_firstFrom post 6 [.inl r] [some (.inr 0), some (.inl x1), some (.inl x2), none, none, none, none] S1) : VX dX_firstFrom post 3 [.inl s0, .inl s1, .inr 0] [some (.inr 0), some (.inl x1), some (.inl x2), none, none, none, none] S := cllX (idx := 94) [s1, s0] hC cwX_blockFrom cnX_blockFrom (by decide +kernel) ⟨by decide, by decide⟩ (Nat.le_of_ble_eq_true rfl) k
theorem csX_firstFrom_9 {post post2 : Int32 → SX → Prop} {x1 x2 x3 s0 : Int32} {S : SX} (hC : CX yX0_blockCount dX_blockCount [s0] S post2) (k : ∀ r S1, post2 r S1 → VX dX_firstFrom post 12 [.inl r] [some (.inr 0), some (.inl x1), some (.inl x2), some (.inl x3), none, none, none] S1) : VX dX_firstFrom post 9 [.inl s0, .inr 0] [some (.inr 0), some (.inl x1), some (.inl x2), some (.inl x3), none, none, none] S := cllX (idx := 58) [s0] hC cwX_blockCount cnX_blockCount (by decide +kernel) ⟨by decide, by decide⟩ (Nat.le_of_ble_eq_true rfl) k
theorem csX_firstFrom_30 {post post2 : Int32 → SX → Prop} {x2 x3 s0 s1 : Int32} {S : SX} (hC : CX yX0_unpack dX_unpack [s1, s0] S post2) (k : ∀ r S1, post2 r S1 → VX dX_firstFrom post 33 [] [some (.inr 0), none, some (.inl x2), some (.inl x3), none, none, none] S1) : VX dX_firstFrom post 30 [.inl s0, .inl s1, .inr 0] [some (.inr 0), none, some (.inl x2), some (.inl x3), none, none, none] S := cllX (idx := 64) [s1, s0] hC cwX_unpack cnX_unpack (by decide +kernel) ⟨by decide, by decide⟩ (Nat.le_of_ble_eq_true rfl) k
def cutX_blockFrom : List (Nat × List Bool) := [(4, [true, true, true, true, false, false, false]), (7, [true, true, true, true, false, false, false]), (12, [true, true, true, true, true, true, false])]
theorem sgX_blockFrom_0 {post : Int32 → SX → Prop} {x1 x2 : Int32} {sz la pk cd nb al : Nat → Int32} {hd cu : Int32} (h : VX dX_blockFrom post 4 [.inl x1, .inr 0] [some (.inr 0), some (.inl x1), some (.inl x2), some (.inl 0), none, none, none] (sz, la, pk, hd, cd, nb, al, cu)) : VX dX_blockFrom post 0 [] [some (.inr 0), some (.inl x1), some (.inl x2), none, none, none, none] (sz, la, pk, hd, cd, nb, al, cu) := segX okX_blockFrom cutX_blockFrom 300 h
theorem sgX_blockFrom_7 {post : Int32 → SX → Prop} {x1 x2 x3 s0 : Int32} {sz la pk cd nb al : Nat → Int32} {hd cu : Int32} (h : VX dX_blockFrom post 12 [] [some (.inr 0), some (.inl x1), some (.inl x2), some (.inl x3), some (.inl s0), some (.inl 0), none] (sz, la, pk, hd, cd, nb, al, cu)) : VX dX_blockFrom post 7 [.inl s0] [some (.inr 0), some (.inl x1), some (.inl x2), some (.inl x3), none, none, none] (sz, la, pk, hd, cd, nb, al, cu) := segX okX_blockFrom cutX_blockFrom 300 h
theorem sgX_blockFrom_12 {post : Int32 → SX → Prop} {x1 x2 x3 x4 x5 : Int32} {sz la pk cd nb al : Nat → Int32} {hd cu : Int32} (h : (x5 < 5 → (x3 < x4 → vp_in ((x1 * 8) + ((x3 + x4) >>> ((1 : Int32) &&& 31) : Int32)) 16 ∧ (((la (((x1 * 8) + ((x3 + x4) >>> ((1 : Int32) &&& 31) : Int32))).toNatClampNeg) < x2 → VX dX_blockFrom post 12 [] [some (.inr 0), some (.inl x1), some (.inl x2), some (.inl (((x3 + x4) >>> ((1 : Int32) &&& 31) : Int32) + 1)), some (.inl x4), some (.inl (x5 + 1)), none] (sz, la, pk, hd, cd, nb, al, cu)) ∧ (¬ (la (((x1 * 8) + ((x3 + x4) >>> ((1 : Int32) &&& 31) : Int32))).toNatClampNeg) < x2 → VX dX_blockFrom post 12 [] [some (.inr 0), some (.inl x1), some (.inl x2), some (.inl x3), some (.inl ((x3 + x4) >>> ((1 : Int32) &&& 31) : Int32)), some (.inl (x5 + 1)), none] (sz, la, pk, hd, cd, nb, al, cu)))) ∧ (¬ x3 < x4 → post x3 (sz, la, pk, hd, cd, nb, al, cu))) ∧ (¬ x5 < 5 → post x3 (sz, la, pk, hd, cd, nb, al, cu))) : VX dX_blockFrom post 12 [] [some (.inr 0), some (.inl x1), some (.inl x2), some (.inl x3), some (.inl x4), some (.inl x5), none] (sz, la, pk, hd, cd, nb, al, cu) := segX okX_blockFrom cutX_blockFrom 300 h
theorem csX_blockFrom_4 {post post2 : Int32 → SX → Prop} {x1 x2 x3 s0 : Int32} {S : SX} (hC : CX yX0_blockCount dX_blockCount [s0] S post2) (k : ∀ r S1, post2 r S1 → VX dX_blockFrom post 7 [.inl r] [some (.inr 0), some (.inl x1), some (.inl x2), some (.inl x3), none, none, none] S1) : VX dX_blockFrom post 4 [.inl s0, .inr 0] [some (.inr 0), some (.inl x1), some (.inl x2), some (.inl x3), none, none, none] S := cllX (idx := 58) [s0] hC cwX_blockCount cnX_blockCount (by decide +kernel) ⟨by decide, by decide⟩ (Nat.le_of_ble_eq_true rfl) k
def cutX_numberAt : List (Nat × List Bool) := [(5, [true, false, true]), (8, [true, false, true])]
theorem sgX_numberAt_0 {post : Int32 → SX → Prop} {x1 x2 : Int32} {sz la pk cd nb al : Nat → Int32} {hd cu : Int32} (h : VX dX_numberAt post 5 [.inl (x2 >>> ((3 : Int32) &&& 31) : Int32), .inl x1, .inr 0] [some (.inr 0), none, some (.inl x2)] (sz, la, pk, hd, cd, nb, al, cu)) : VX dX_numberAt post 0 [] [some (.inr 0), some (.inl x1), some (.inl x2)] (sz, la, pk, hd, cd, nb, al, cu) := segX okX_numberAt cutX_numberAt 300 h
theorem sgX_numberAt_8 {post : Int32 → SX → Prop} {x2 : Int32} {sz la pk cd nb al : Nat → Int32} {hd cu : Int32} (h : vp_in (x2 &&& 7) 8 ∧ (post (nb ((x2 &&& 7)).toNatClampNeg) (sz, la, pk, hd, cd, nb, al, cu))) : VX dX_numberAt post 8 [] [some (.inr 0), none, some (.inl x2)] (sz, la, pk, hd, cd, nb, al, cu) := segX okX_numberAt cutX_numberAt 300 h
theorem csX_numberAt_5 {post post2 : Int32 → SX → Prop} {x2 s0 s1 : Int32} {S : SX} (hC : CX yX0_unpack dX_unpack [s1, s0] S post2) (k : ∀ r S1, post2 r S1 → VX dX_numberAt post 8 [] [some (.inr 0), none, some (.inl x2)] S1) : VX dX_numberAt post 5 [.inl s0, .inl s1, .inr 0] [some (.inr 0), none, some (.inl x2)] S := cllX (idx := 64) [s1, s0] hC cwX_unpack cnX_unpack (by decide +kernel) ⟨by decide, by decide⟩ (Nat.le_of_ble_eq_true rfl) k
def cutX_spread : List (Nat × List Bool) := [(2, [true, true, false, false, false]), (5, [true, true, false, false, false]), (8, [true, true, true, true, false]), (16, [true, true, true, true, false]), (19, [true, true, true, true, false]), (22, [true, true, true, true, true])]
theorem sgX_spread_0 {post : Int32 → SX → Prop} {x1 : Int32} {sz la pk cd nb al : Nat → Int32} {hd cu : Int32} (h : VX dX_spread post 2 [.inl x1, .inr 0] [some (.inr 0), some (.inl x1), none, none, none] (sz, la, pk, hd, cd, nb, al, cu)) : VX dX_spread post 0 [] [some (.inr 0), some (.inl x1), none, none, none] (sz, la, pk, hd, cd, nb, al, cu) := segX okX_spread cutX_spread 300 h
theorem sgX_spread_5 {post : Int32 → SX → Prop} {x1 s0 : Int32} {sz la pk cd nb al : Nat → Int32} {hd cu : Int32} (h : VX dX_spread post 8 [] [some (.inr 0), some (.inl x1), some (.inl s0), some (.inl 0), none] (sz, la, pk, hd, cd, nb, al, cu)) : VX dX_spread post 5 [.inl s0] [some (.inr 0), some (.inl x1), none, none, none] (sz, la, pk, hd, cd, nb, al, cu) := segX okX_spread cutX_spread 300 h
theorem sgX_spread_8 {post : Int32 → SX → Prop} {x1 x2 x3 : Int32} {sz la pk cd nb al : Nat → Int32} {hd cu : Int32} (h : (x3 < x2 → VX dX_spread post 16 [.inl x3, .inl x1, .inr 0] [some (.inr 0), some (.inl x1), some (.inl x2), some (.inl x3), none] (sz, la, pk, hd, cd, nb, al, cu)) ∧ (¬ x3 < x2 → post 0 (sz, la, pk, hd, cd, nb, al, cu))) : VX dX_spread post 8 [] [some (.inr 0), some (.inl x1), some (.inl x2), some (.inl x3), none] (sz, la, pk, hd, cd, nb, al, cu) := segX okX_spread cutX_spread 300 h
theorem sgX_spread_19 {post : Int32 → SX → Prop} {x1 x2 x3 : Int32} {sz la pk cd nb al : Nat → Int32} {hd cu : Int32} (h : VX dX_spread post 22 [] [some (.inr 0), some (.inl x1), some (.inl x2), some (.inl x3), some (.inl 0)] (sz, la, pk, hd, cd, nb, al, cu)) : VX dX_spread post 19 [] [some (.inr 0), some (.inl x1), some (.inl x2), some (.inl x3), none] (sz, la, pk, hd, cd, nb, al, cu) := segX okX_spread cutX_spread 300 h
theorem sgX_spread_22 {post : Int32 → SX → Prop} {x1 x2 x3 x4 : Int32} {sz la pk cd nb al : Nat → Int32} {hd cu : Int32} (h : (x4 < hd → vp_in x4 8 ∧ (vp_in ((x3 * 8) + x4) 65 ∧ (VX dX_spread post 22 [] [some (.inr 0), some (.inl x1), some (.inl x2), some (.inl x3), some (.inl (x4 + 1))] (sz, la, pk, hd, cd, nb, upd al (((x3 * 8) + x4)).toNatClampNeg (nb (x4).toNatClampNeg), cu)))) ∧ (¬ x4 < hd → VX dX_spread post 8 [] [some (.inr 0), some (.inl x1), some (.inl x2), some (.inl (x3 + 1)), none] (sz, la, pk, hd, cd, nb, al, cu))) : VX dX_spread post 22 [] [some (.inr 0), some (.inl x1), some (.inl x2), some (.inl x3), some (.inl x4)] (sz, la, pk, hd, cd, nb, al, cu) := segX okX_spread cutX_spread 300 h
theorem csX_spread_2 {post post2 : Int32 → SX → Prop} {x1 s0 : Int32} {S : SX} (hC : CX yX0_blockCount dX_blockCount [s0] S post2) (k : ∀ r S1, post2 r S1 → VX dX_spread post 5 [.inl r] [some (.inr 0), some (.inl x1), none, none, none] S1) : VX dX_spread post 2 [.inl s0, .inr 0] [some (.inr 0), some (.inl x1), none, none, none] S := cllX (idx := 58) [s0] hC cwX_blockCount cnX_blockCount (by decide +kernel) ⟨by decide, by decide⟩ (Nat.le_of_ble_eq_true rfl) k
theorem csX_spread_16 {post post2 : Int32 → SX → Prop} {x1 x2 x3 s0 s1 : Int32} {S : SX} (hC : CX yX0_unpack dX_unpack [s1, s0] S post2) (k : ∀ r S1, post2 r S1 → VX dX_spread post 19 [] [some (.inr 0), some (.inl x1), some (.inl x2), some (.inl x3), none] S1) : VX dX_spread post 16 [.inl s0, .inl s1, .inr 0] [some (.inr 0), some (.inl x1), some (.inl x2), some (.inl x3), none] S := cllX (idx := 64) [s1, s0] hC cwX_unpack cnX_unpack (by decide +kernel) ⟨by decide, by decide⟩ (Nat.le_of_ble_eq_true rfl) k
def cutX_rebuild : List (Nat × List Bool) := [(9, [true, true, false, true, false, false, false, false]), (12, [true, true, false, true, false, false, false, false]), (19, [true, true, false, false, true, true, false, false]), (31, [true, true, false, false, true, true, false, false]), (34, [true, true, false, false, true, true, false, false]), (63, [true, true, false, false, true, true, true, true]), (126, [true, true, false, false, true, true, true, false]), (129, [true, true, false, false, true, true, true, false])]
theorem sgX_rebuild_0 {post : Int32 → SX → Prop} {x1 x2 x3 : Int32} {sz la pk cd nb al : Nat → Int32} {hd cu : Int32} (h : vp_in x1 2 ∧ (VX dX_rebuild post 9 [.inl x1, .inr 0] [some (.inr 0), some (.inl x1), none, some (.inl x3), none, none, none, none] (upd sz (x1).toNatClampNeg x2, la, pk, hd, cd, nb, al, cu))) : VX dX_rebuild post 0 [] [some (.inr 0), some (.inl x1), some (.inl x2), some (.inl x3), none, none, none, none] (sz, la, pk, hd, cd, nb, al, cu) := segX okX_rebuild cutX_rebuild 300 h
theorem sgX_rebuild_12 {post : Int32 → SX → Prop} {x1 x3 s0 : Int32} {sz la pk cd nb al : Nat → Int32} {hd cu : Int32} (h : VX dX_rebuild post 19 [] [some (.inr 0), some (.inl x1), none, none, some (.inl s0), some (.inl (x3 >>> ((3 : Int32) &&& 31) : Int32)), none, none] (sz, la, pk, hd, cd, nb, al, cu)) : VX dX_rebuild post 12 [.inl s0] [some (.inr 0), some (.inl x1), none, some (.inl x3), none, none, none, none] (sz, la, pk, hd, cd, nb, al, cu) := segX okX_rebuild cutX_rebuild 300 h
theorem sgX_rebuild_19 {post : Int32 → SX → Prop} {x1 x4 x5 : Int32} {sz la pk cd nb al : Nat → Int32} {hd cu : Int32} (h : (x5 < x4 → VX dX_rebuild post 31 [.inl x5, .inl x1, .inr 0, .inr 0] [some (.inr 0), some (.inl x1), none, none, some (.inl x4), some (.inl x5), none, none] (sz, la, pk, hd, cd, nb, al, cu)) ∧ (¬ x5 < x4 → post 0 (sz, la, pk, hd, cd, nb, al, cu))) : VX dX_rebuild post 19 [] [some (.inr 0), some (.inl x1), none, none, some (.inl x4), some (.inl x5), none, none] (sz, la, pk, hd, cd, nb, al, cu) := segX okX_rebuild cutX_rebuild 300 h
theorem sgX_rebuild_34 {post : Int32 → SX → Prop} {x1 x4 x5 s0 : Int32} {sz la pk cd nb al : Nat → Int32} {hd cu : Int32} (h : (x5 = 0 → VX dX_rebuild post 63 [] [some (.inr 0), some (.inl x1), none, none, some (.inl x4), some (.inl x5), some (.inl (-1)), some (.inl 0)] (sz, la, pk, s0, cd, nb, al, cu)) ∧ (¬ x5 = 0 → vp_in ((x5 * 8) - 1) 65 ∧ (VX dX_rebuild post 63 [] [some (.inr 0), some (.inl x1), none, none, some (.inl x4), some (.inl x5), some (.inl (al (((x5 * 8) - 1)).toNatClampNeg)), some (.inl 0)] (sz, la, pk, s0, cd, nb, al, cu)))) : VX dX_rebuild post 34 [.inl s0, .inr 0] [some (.inr 0), some (.inl x1), none, none, some (.inl x4), some (.inl x5), none, none] (sz, la, pk, hd, cd, nb, al, cu) := segX okX_rebuild cutX_rebuild 300 h
theorem sgX_rebuild_63 {post : Int32 → SX → Prop} {x1 x4 x5 x6 x7 : Int32} {sz la pk cd nb al : Nat → Int32} {hd cu : Int32} (h : (x7 < hd → vp_in ((x5 * 8) + x7) 65 ∧ (vp_in x7 8 ∧ (vp_in ((x5 * 8) + x7) 65 ∧ (VX dX_rebuild post 63 [] [some (.inr 0), some (.inl x1), none, none, some (.inl x4), some (.inl x5), some (.inl (al (((x5 * 8) + x7)).toNatClampNeg)), some (.inl (x7 + 1))] (sz, la, pk, hd, upd cd (x7).toNatClampNeg (((al (((x5 * 8) + x7)).toNatClampNeg) - x6) - 1), nb, al, cu))))) ∧ (¬ x7 < hd → VX dX_rebuild post 126 [.inl ((x1 * 8) + x5), .inr 0] [some (.inr 0), some (.inl x1), none, none, some (.inl x4), some (.inl x5), some (.inl x6), none] (sz, la, pk, hd, cd, nb, al, cu))) : VX dX_rebuild post 63 [] [some (.inr 0), some (.inl x1), none, none, some (.inl x4), some (.inl x5), some (.inl x6), some (.inl x7)] (sz, la, pk, hd, cd, nb, al, cu) := segX okX_rebuild cutX_rebuild 300 h
theorem sgX_rebuild_129 {post : Int32 → SX → Prop} {x1 x4 x5 x6 : Int32} {sz la pk cd nb al : Nat → Int32} {hd cu : Int32} (h : vp_in ((x1 * 8) + x5) 16 ∧ (VX dX_rebuild post 19 [] [some (.inr 0), some (.inl x1), none, none, some (.inl x4), some (.inl (x5 + 1)), none, none] (sz, upd la (((x1 * 8) + x5)).toNatClampNeg x6, pk, hd, cd, nb, al, cu))) : VX dX_rebuild post 129 [] [some (.inr 0), some (.inl x1), none, none, some (.inl x4), some (.inl x5), some (.inl x6), none] (sz, la, pk, hd, cd, nb, al, cu) := segX okX_rebuild cutX_rebuild 300 h
theorem csX_rebuild_9 {post post2 : Int32 → SX → Prop} {x1 x3 s0 : Int32} {S : SX} (hC : CX yX0_blockCount dX_blockCount [s0] S post2) (k : ∀ r S1, post2 r S1 → VX dX_rebuild post 12 [.inl r] [some (.inr 0), some (.inl x1), none, some (.inl x3), none, none, none, none] S1) : VX dX_rebuild post 9 [.inl s0, .inr 0] [some (.inr 0), some (.inl x1), none, some (.inl x3), none, none, none, none] S := cllX (idx := 58) [s0] hC cwX_blockCount cnX_blockCount (by decide +kernel) ⟨by decide, by decide⟩ (Nat.le_of_ble_eq_true rfl) k
theorem csX_rebuild_31 {post post2 : Int32 → SX → Prop} {x1 x4 x5 s0 s1 : Int32} {S : SX} (hC : CX yX0_inBlock dX_inBlock [s1, s0] S post2) (k : ∀ r S1, post2 r S1 → VX dX_rebuild post 34 [.inl r, .inr 0] [some (.inr 0), some (.inl x1), none, none, some (.inl x4), some (.inl x5), none, none] S1) : VX dX_rebuild post 31 [.inl s0, .inl s1, .inr 0, .inr 0] [some (.inr 0), some (.inl x1), none, none, some (.inl x4), some (.inl x5), none, none] S := cllX (idx := 51) [s1, s0] hC cwX_inBlock cnX_inBlock (by decide +kernel) ⟨by decide, by decide⟩ (Nat.le_of_ble_eq_true rfl) k
theorem csX_rebuild_126 {post post2 : Int32 → SX → Prop} {x1 x4 x5 x6 s0 : Int32} {S : SX} (hC : CX yX0_pack dX_pack [s0] S post2) (k : ∀ r S1, post2 r S1 → VX dX_rebuild post 129 [] [some (.inr 0), some (.inl x1), none, none, some (.inl x4), some (.inl x5), some (.inl x6), none] S1) : VX dX_rebuild post 126 [.inl s0, .inr 0] [some (.inr 0), some (.inl x1), none, none, some (.inl x4), some (.inl x5), some (.inl x6), none] S := cllX (idx := 68) [s0] hC cwX_pack cnX_pack (by decide +kernel) ⟨by decide, by decide⟩ (Nat.le_of_ble_eq_true rfl) k
def cutX_remove : List (Nat × List Bool) := [(2, [true, true, true, false, false, false, false]), (5, [true, true, true, false, false, false, false]), (13, [true, true, true, false, false, false, false]), (16, [true, true, true, false, false, false, false]), (30, [true, true, true, true, false, false, false]), (33, [true, true, true, true, false, false, false]), (54, [true, true, false, true, false, false, false]), (57, [true, true, false, true, false, false, false]), (70, [true, true, false, true, false, true, true]), (104, [false, false, false, true, false, false, false]), (107, [false, false, false, true, false, false, false])]
theorem sgX_remove_0 {post : Int32 → SX → Prop} {x1 x2 : Int32} {sz la pk cd nb al : Nat → Int32} {hd cu : Int32} (h : VX dX_remove post 2 [.inl x1, .inr 0] [some (.inr 0), some (.inl x1), some (.inl x2), none, none, none, none] (sz, la, pk, hd, cd, nb, al, cu)) : VX dX_remove post 0 [] [some (.inr 0), some (.inl x1), some (.inl x2), none, none, none, none] (sz, la, pk, hd, cd, nb, al, cu) := segX okX_remove cutX_remove 300 h
theorem sgX_remove_5 {post : Int32 → SX → Prop} {x1 x2 s0 : Int32} {sz la pk cd nb al : Nat → Int32} {hd cu : Int32} (h : (s0 = 0 → VX dX_remove post 13 [.inl x2, .inl x1, .inr 0] [some (.inr 0), some (.inl x1), some (.inl x2), none, none, none, none] (sz, la, pk, hd, cd, nb, al, cu)) ∧ (¬ s0 = 0 → post (-1) (sz, la, pk, hd, cd, nb, al, cu))) : VX dX_remove post 5 [.inl s0] [some (.inr 0), some (.inl x1), some (.inl x2), none, none, none, none] (sz, la, pk, hd, cd, nb, al, cu) := segX okX_remove cutX_remove 300 h
theorem sgX_remove_16 {post : Int32 → SX → Prop} {x1 x2 s0 : Int32} {sz la pk cd nb al : Nat → Int32} {hd cu : Int32} (h : vp_in x1 2 ∧ ((s0 < (sz (x1).toNatClampNeg) → VX dX_remove post 30 [.inl s0, .inl x1, .inr 0] [some (.inr 0), some (.inl x1), some (.inl x2), some (.inl s0), none, none, none] (sz, la, pk, hd, cd, nb, al, cu)) ∧ (¬ s0 < (sz (x1).toNatClampNeg) → ((0 : Int32) = 0 → post (-4) (sz, la, pk, hd, cd, nb, al, cu)) ∧ (¬ (0 : Int32) = 0 → VX dX_remove post 54 [.inl x1, .inr 0] [some (.inr 0), some (.inl x1), none, some (.inl s0), none, none, none] (sz, la, pk, hd, cd, nb, al, cu))))) : VX dX_remove post 16 [.inl s0] [some (.inr 0), some (.inl x1), some (.inl x2), none, none, none, none] (sz, la, pk, hd, cd, nb, al, cu) := segX okX_remove cutX_remove 300 h
theorem sgX_remove_33 {post : Int32 → SX → Prop} {x1 x2 x3 s0 : Int32} {sz la pk cd nb al : Nat → Int32} {hd cu : Int32} (h : (s0 = x2 → ((1 : Int32) = 0 → post (-4) (sz, la, pk, hd, cd, nb, al, cu)) ∧ (¬ (1 : Int32) = 0 → VX dX_remove post 54 [.inl x1, .inr 0] [some (.inr 0), some (.inl x1), none, some (.inl x3), none, none, none] (sz, la, pk, hd, cd, nb, al, cu))) ∧ (¬ s0 = x2 → ((0 : Int32) = 0 → post (-4) (sz, la, pk, hd, cd, nb, al, cu)) ∧ (¬ (0 : Int32) = 0 → VX dX_remove post 54 [.inl x1, .inr 0] [some (.inr 0), some (.inl x1), none, some (.inl x3), none, none, none] (sz, la, pk, hd, cd, nb, al, cu)))) : VX dX_remove post 33 [.inl s0] [some (.inr 0), some (.inl x1), some (.inl x2), some (.inl x3), none, none, none] (sz, la, pk, hd, cd, nb, al, cu) := segX okX_remove cutX_remove 300 h
theorem sgX_remove_57 {post : Int32 → SX → Prop} {x1 x3 : Int32} {sz la pk cd nb al : Nat → Int32} {hd cu : Int32} (h : vp_in x1 2 ∧ (VX dX_remove post 70 [] [some (.inr 0), some (.inl x1), none, some (.inl x3), none, some (.inl ((sz (x1).toNatClampNeg) - 1)), some (.inl x3)] (sz, la, pk, hd, cd, nb, al, cu))) : VX dX_remove post 57 [] [some (.inr 0), some (.inl x1), none, some (.inl x3), none, none, none] (sz, la, pk, hd, cd, nb, al, cu) := segX okX_remove cutX_remove 300 h
theorem sgX_remove_70 {post : Int32 → SX → Prop} {x1 x3 x5 x6 : Int32} {sz la pk cd nb al : Nat → Int32} {hd cu : Int32} (h : (x6 < x5 → vp_in (x6 + 1) 65 ∧ (vp_in x6 65 ∧ (VX dX_remove post 70 [] [some (.inr 0), some (.inl x1), none, some (.inl x3), none, some (.inl x5), some (.inl (x6 + 1))] (sz, la, pk, hd, cd, nb, upd al (x6).toNatClampNeg (al ((x6 + 1)).toNatClampNeg), cu)))) ∧ (¬ x6 < x5 → VX dX_remove post 104 [.inl x3, .inl x5, .inl x1, .inr 0] [none, none, none, some (.inl x3), none, none, none] (sz, la, pk, hd, cd, nb, al, cu))) : VX dX_remove post 70 [] [some (.inr 0), some (.inl x1), none, some (.inl x3), none, some (.inl x5), some (.inl x6)] (sz, la, pk, hd, cd, nb, al, cu) := segX okX_remove cutX_remove 300 h
theorem sgX_remove_107 {post : Int32 → SX → Prop} {x3 : Int32} {sz la pk cd nb al : Nat → Int32} {hd cu : Int32} (h : post x3 (sz, la, pk, hd, cd, nb, al, cu)) : VX dX_remove post 107 [] [none, none, none, some (.inl x3), none, none, none] (sz, la, pk, hd, cd, nb, al, cu) := segX okX_remove cutX_remove 300 h
theorem csX_remove_2 {post post2 : Int32 → SX → Prop} {x1 x2 s0 : Int32} {S : SX} (hC : CX yX0_badList dX_badList [s0] S post2) (k : ∀ r S1, post2 r S1 → VX dX_remove post 5 [.inl r] [some (.inr 0), some (.inl x1), some (.inl x2), none, none, none, none] S1) : VX dX_remove post 2 [.inl s0, .inr 0] [some (.inr 0), some (.inl x1), some (.inl x2), none, none, none, none] S := cllX (idx := 72) [s0] hC cwX_badList cnX_badList (by decide +kernel) ⟨by decide, by decide⟩ (Nat.le_of_ble_eq_true rfl) k
theorem csX_remove_13 {post post2 : Int32 → SX → Prop} {x1 x2 s0 s1 : Int32} {S : SX} (hC : CX yX0_firstFrom dX_firstFrom [s1, s0] S post2) (k : ∀ r S1, post2 r S1 → VX dX_remove post 16 [.inl r] [some (.inr 0), some (.inl x1), some (.inl x2), none, none, none, none] S1) : VX dX_remove post 13 [.inl s0, .inl s1, .inr 0] [some (.inr 0), some (.inl x1), some (.inl x2), none, none, none, none] S := cllX (idx := 82) [s1, s0] hC cwX_firstFrom cnX_firstFrom (by decide +kernel) ⟨by decide, by decide⟩ (Nat.le_of_ble_eq_true rfl) k
theorem csX_remove_30 {post post2 : Int32 → SX → Prop} {x1 x2 x3 s0 s1 : Int32} {S : SX} (hC : CX yX0_numberAt dX_numberAt [s1, s0] S post2) (k : ∀ r S1, post2 r S1 → VX dX_remove post 33 [.inl r] [some (.inr 0), some (.inl x1), some (.inl x2), some (.inl x3), none, none, none] S1) : VX dX_remove post 30 [.inl s0, .inl s1, .inr 0] [some (.inr 0), some (.inl x1), some (.inl x2), some (.inl x3), none, none, none] S := cllX (idx := 85) [s1, s0] hC cwX_numberAt cnX_numberAt (by decide +kernel) ⟨by decide, by decide⟩ (Nat.le_of_ble_eq_true rfl) k
theorem csX_remove_54 {post post2 : Int32 → SX → Prop} {x1 x3 s0 : Int32} {S : SX} (hC : CX yX0_spread dX_spread [s0] S post2) (k : ∀ r S1, post2 r S1 → VX dX_remove post 57 [] [some (.inr 0), some (.inl x1), none, some (.inl x3), none, none, none] S1) : VX dX_remove post 54 [.inl s0, .inr 0] [some (.inr 0), some (.inl x1), none, some (.inl x3), none, none, none] S := cllX (idx := 88) [s0] hC cwX_spread cnX_spread (by decide +kernel) ⟨by decide, by decide⟩ (Nat.le_of_ble_eq_true rfl) k
theorem csX_remove_104 {post post2 : Int32 → SX → Prop} {x3 s0 s1 s2 : Int32} {S : SX} (hC : CX yX0_rebuild dX_rebuild [s2, s1, s0] S post2) (k : ∀ r S1, post2 r S1 → VX dX_remove post 107 [] [none, none, none, some (.inl x3), none, none, none] S1) : VX dX_remove post 104 [.inl s0, .inl s1, .inl s2, .inr 0] [none, none, none, some (.inl x3), none, none, none] S := cllX (idx := 91) [s2, s1, s0] hC cwX_rebuild cnX_rebuild (by decide +kernel) ⟨by decide, by decide⟩ (Nat.le_of_ble_eq_true rfl) k
def cutX_clear : List (Nat × List Bool) := [(2, [true, true, false]), (5, [true, true, false])]
theorem sgX_clear_0 {post : Int32 → SX → Prop} {x1 : Int32} {sz la pk cd nb al : Nat → Int32} {hd cu : Int32} (h : VX dX_clear post 2 [.inl x1, .inr 0] [some (.inr 0), some (.inl x1), none] (sz, la, pk, hd, cd, nb, al, cu)) : VX dX_clear post 0 [] [some (.inr 0), some (.inl x1), none] (sz, la, pk, hd, cd, nb, al, cu) := segX okX_clear cutX_clear 300 h
theorem sgX_clear_5 {post : Int32 → SX → Prop} {x1 s0 : Int32} {sz la pk cd nb al : Nat → Int32} {hd cu : Int32} (h : (s0 = 0 → vp_in x1 2 ∧ (vp_in x1 2 ∧ (post (sz (x1).toNatClampNeg) (upd sz (x1).toNatClampNeg 0, la, pk, hd, cd, nb, al, cu)))) ∧ (¬ s0 = 0 → post (-1) (sz, la, pk, hd, cd, nb, al, cu))) : VX dX_clear post 5 [.inl s0] [some (.inr 0), some (.inl x1), none] (sz, la, pk, hd, cd, nb, al, cu) := segX okX_clear cutX_clear 300 h
theorem csX_clear_2 {post post2 : Int32 → SX → Prop} {x1 s0 : Int32} {S : SX} (hC : CX yX0_badList dX_badList [s0] S post2) (k : ∀ r S1, post2 r S1 → VX dX_clear post 5 [.inl r] [some (.inr 0), some (.inl x1), none] S1) : VX dX_clear post 2 [.inl s0, .inr 0] [some (.inr 0), some (.inl x1), none] S := cllX (idx := 72) [s0] hC cwX_badList cnX_badList (by decide +kernel) ⟨by decide, by decide⟩ (Nat.le_of_ble_eq_true rfl) k
def cutX_size : List (Nat × List Bool) := [(2, [true, true]), (5, [true, true])]
theorem sgX_size_0 {post : Int32 → SX → Prop} {x1 : Int32} {sz la pk cd nb al : Nat → Int32} {hd cu : Int32} (h : VX dX_size post 2 [.inl x1, .inr 0] [some (.inr 0), some (.inl x1)] (sz, la, pk, hd, cd, nb, al, cu)) : VX dX_size post 0 [] [some (.inr 0), some (.inl x1)] (sz, la, pk, hd, cd, nb, al, cu) := segX okX_size cutX_size 300 h
theorem sgX_size_5 {post : Int32 → SX → Prop} {x1 s0 : Int32} {sz la pk cd nb al : Nat → Int32} {hd cu : Int32} (h : (s0 = 0 → vp_in x1 2 ∧ (post (sz (x1).toNatClampNeg) (sz, la, pk, hd, cd, nb, al, cu))) ∧ (¬ s0 = 0 → post (-1) (sz, la, pk, hd, cd, nb, al, cu))) : VX dX_size post 5 [.inl s0] [some (.inr 0), some (.inl x1)] (sz, la, pk, hd, cd, nb, al, cu) := segX okX_size cutX_size 300 h
theorem csX_size_2 {post post2 : Int32 → SX → Prop} {x1 s0 : Int32} {S : SX} (hC : CX yX0_badList dX_badList [s0] S post2) (k : ∀ r S1, post2 r S1 → VX dX_size post 5 [.inl r] [some (.inr 0), some (.inl x1)] S1) : VX dX_size post 2 [.inl s0, .inr 0] [some (.inr 0), some (.inl x1)] S := cllX (idx := 72) [s0] hC cwX_badList cnX_badList (by decide +kernel) ⟨by decide, by decide⟩ (Nat.le_of_ble_eq_true rfl) k
def cutX_at : List (Nat × List Bool) := [(2, [true, true, true]), (5, [true, true, true]), (30, [false, false, false]), (33, [false, false, false])]
theorem sgX_at_0 {post : Int32 → SX → Prop} {x1 x2 : Int32} {sz la pk cd nb al : Nat → Int32} {hd cu : Int32} (h : VX dX_at post 2 [.inl x1, .inr 0] [some (.inr 0), some (.inl x1), some (.inl x2)] (sz, la, pk, hd, cd, nb, al, cu)) : VX dX_at post 0 [] [some (.inr 0), some (.inl x1), some (.inl x2)] (sz, la, pk, hd, cd, nb, al, cu) := segX okX_at cutX_at 300 h
theorem sgX_at_5 {post : Int32 → SX → Prop} {x1 x2 s0 : Int32} {sz la pk cd nb al : Nat → Int32} {hd cu : Int32} (h : (s0 = 0 → (x2 < 0 → post (-4) (sz, la, pk, hd, cd, nb, al, cu)) ∧ (¬ x2 < 0 → vp_in x1 2 ∧ ((x2 < (sz (x1).toNatClampNeg) → VX dX_at post 30 [.inl x2, .inl x1, .inr 0] [none, none, none] (sz, la, pk, hd, cd, nb, al, cu)) ∧ (¬ x2 < (sz (x1).toNatClampNeg) → post (-4) (sz, la, pk, hd, cd, nb, al, cu))))) ∧ (¬ s0 = 0 → post (-1) (sz, la, pk, hd, cd, nb, al, cu))) : VX dX_at post 5 [.inl s0] [some (.inr 0), some (.inl x1), some (.inl x2)] (sz, la, pk, hd, cd, nb, al, cu) := segX okX_at cutX_at 300 h
theorem sgX_at_33 {post : Int32 → SX → Prop} {s0 : Int32} {sz la pk cd nb al : Nat → Int32} {hd cu : Int32} (h : post s0 (sz, la, pk, hd, cd, nb, al, cu)) : VX dX_at post 33 [.inl s0] [none, none, none] (sz, la, pk, hd, cd, nb, al, cu) := segX okX_at cutX_at 300 h
theorem csX_at_2 {post post2 : Int32 → SX → Prop} {x1 x2 s0 : Int32} {S : SX} (hC : CX yX0_badList dX_badList [s0] S post2) (k : ∀ r S1, post2 r S1 → VX dX_at post 5 [.inl r] [some (.inr 0), some (.inl x1), some (.inl x2)] S1) : VX dX_at post 2 [.inl s0, .inr 0] [some (.inr 0), some (.inl x1), some (.inl x2)] S := cllX (idx := 72) [s0] hC cwX_badList cnX_badList (by decide +kernel) ⟨by decide, by decide⟩ (Nat.le_of_ble_eq_true rfl) k
theorem csX_at_30 {post post2 : Int32 → SX → Prop} {s0 s1 : Int32} {S : SX} (hC : CX yX0_numberAt dX_numberAt [s1, s0] S post2) (k : ∀ r S1, post2 r S1 → VX dX_at post 33 [.inl r] [none, none, none] S1) : VX dX_at post 30 [.inl s0, .inl s1, .inr 0] [none, none, none] S := cllX (idx := 85) [s1, s0] hC cwX_numberAt cnX_numberAt (by decide +kernel) ⟨by decide, by decide⟩ (Nat.le_of_ble_eq_true rfl) k
def cutX_seek : List (Nat × List Bool) := [(2, [true, true, true, false]), (5, [true, true, true, false]), (13, [true, true, false, false]), (16, [true, true, false, false])]
theorem sgX_seek_0 {post : Int32 → SX → Prop} {x1 x2 : Int32} {sz la pk cd nb al : Nat → Int32} {hd cu : Int32} (h : VX dX_seek post 2 [.inl x1, .inr 0] [some (.inr 0), some (.inl x1), some (.inl x2), none] (sz, la, pk, hd, cd, nb, al, cu)) : VX dX_seek post 0 [] [some (.inr 0), some (.inl x1), some (.inl x2), none] (sz, la, pk, hd, cd, nb, al, cu) := segX okX_seek cutX_seek 300 h
theorem sgX_seek_5 {post : Int32 → SX → Prop} {x1 x2 s0 : Int32} {sz la pk cd nb al : Nat → Int32} {hd cu : Int32} (h : (s0 = 0 → VX dX_seek post 13 [.inl x2, .inl x1, .inr 0] [some (.inr 0), some (.inl x1), none, none] (sz, la, pk, hd, cd, nb, al, cu)) ∧ (¬ s0 = 0 → post (-1) (sz, la, pk, hd, cd, nb, al, cu))) : VX dX_seek post 5 [.inl s0] [some (.inr 0), some (.inl x1), some (.inl x2), none] (sz, la, pk, hd, cd, nb, al, cu) := segX okX_seek cutX_seek 300 h
theorem sgX_seek_16 {post : Int32 → SX → Prop} {x1 s0 : Int32} {sz la pk cd nb al : Nat → Int32} {hd cu : Int32} (h : vp_in x1 2 ∧ ((s0 = (sz (x1).toNatClampNeg) → post (-4) (sz, la, pk, hd, cd, nb, al, cu)) ∧ (¬ s0 = (sz (x1).toNatClampNeg) → post s0 (sz, la, pk, hd, cd, nb, al, cu)))) : VX dX_seek post 16 [.inl s0] [some (.inr 0), some (.inl x1), none, none] (sz, la, pk, hd, cd, nb, al, cu) := segX okX_seek cutX_seek 300 h
theorem csX_seek_2 {post post2 : Int32 → SX → Prop} {x1 x2 s0 : Int32} {S : SX} (hC : CX yX0_badList dX_badList [s0] S post2) (k : ∀ r S1, post2 r S1 → VX dX_seek post 5 [.inl r] [some (.inr 0), some (.inl x1), some (.inl x2), none] S1) : VX dX_seek post 2 [.inl s0, .inr 0] [some (.inr 0), some (.inl x1), some (.inl x2), none] S := cllX (idx := 72) [s0] hC cwX_badList cnX_badList (by decide +kernel) ⟨by decide, by decide⟩ (Nat.le_of_ble_eq_true rfl) k
theorem csX_seek_13 {post post2 : Int32 → SX → Prop} {x1 s0 s1 : Int32} {S : SX} (hC : CX yX0_firstFrom dX_firstFrom [s1, s0] S post2) (k : ∀ r S1, post2 r S1 → VX dX_seek post 16 [.inl r] [some (.inr 0), some (.inl x1), none, none] S1) : VX dX_seek post 13 [.inl s0, .inl s1, .inr 0] [some (.inr 0), some (.inl x1), none, none] S := cllX (idx := 82) [s1, s0] hC cwX_firstFrom cnX_firstFrom (by decide +kernel) ⟨by decide, by decide⟩ (Nat.le_of_ble_eq_true rfl) k
def cutX_has : List (Nat × List Bool) := [(2, [true, true, true, false]), (5, [true, true, true, false]), (13, [true, true, true, false]), (16, [true, true, true, false])]
theorem sgX_has_0 {post : Int32 → SX → Prop} {x1 x2 : Int32} {sz la pk cd nb al : Nat → Int32} {hd cu : Int32} (h : VX dX_has post 2 [.inl x1, .inr 0] [some (.inr 0), some (.inl x1), some (.inl x2), none] (sz, la, pk, hd, cd, nb, al, cu)) : VX dX_has post 0 [] [some (.inr 0), some (.inl x1), some (.inl x2), none] (sz, la, pk, hd, cd, nb, al, cu) := segX okX_has cutX_has 300 h
theorem sgX_has_5 {post : Int32 → SX → Prop} {x1 x2 s0 : Int32} {sz la pk cd nb al : Nat → Int32} {hd cu : Int32} (h : (s0 = 0 → VX dX_has post 13 [.inl x2, .inl x1, .inr 0] [some (.inr 0), some (.inl x1), some (.inl x2), none] (sz, la, pk, hd, cd, nb, al, cu)) ∧ (¬ s0 = 0 → post 0 (sz, la, pk, hd, cd, nb, al, cu))) : VX dX_has post 5 [.inl s0] [some (.inr 0), some (.inl x1), some (.inl x2), none] (sz, la, pk, hd, cd, nb, al, cu) := segX okX_has cutX_has 300 h
theorem sgX_has_16 {post : Int32 → SX → Prop} {x1 x2 s0 : Int32} {sz la pk cd nb al : Nat → Int32} {hd cu : Int32} (h : vp_in x1 2 ∧ ((s0 < (sz (x1).toNatClampNeg) → vp_in (s0 &&& 7) 8 ∧ (((nb ((s0 &&& 7)).toNatClampNeg) = x2 → post 1 (sz, la, pk, hd, cd, nb, al, cu)) ∧ (¬ (nb ((s0 &&& 7)).toNatClampNeg) = x2 → post 0 (sz, la, pk, hd, cd, nb, al, cu)))) ∧ (¬ s0 < (sz (x1).toNatClampNeg) → post 0 (sz, la, pk, hd, cd, nb, al, cu)))) : VX dX_has post 16 [.inl s0] [some (.inr 0), some (.inl x1), some (.inl x2), none] (sz, la, pk, hd, cd, nb, al, cu) := segX okX_has cutX_has 300 h
theorem csX_has_2 {post post2 : Int32 → SX → Prop} {x1 x2 s0 : Int32} {S : SX} (hC : CX yX0_badList dX_badList [s0] S post2) (k : ∀ r S1, post2 r S1 → VX dX_has post 5 [.inl r] [some (.inr 0), some (.inl x1), some (.inl x2), none] S1) : VX dX_has post 2 [.inl s0, .inr 0] [some (.inr 0), some (.inl x1), some (.inl x2), none] S := cllX (idx := 72) [s0] hC cwX_badList cnX_badList (by decide +kernel) ⟨by decide, by decide⟩ (Nat.le_of_ble_eq_true rfl) k
theorem csX_has_13 {post post2 : Int32 → SX → Prop} {x1 x2 s0 s1 : Int32} {S : SX} (hC : CX yX0_firstFrom dX_firstFrom [s1, s0] S post2) (k : ∀ r S1, post2 r S1 → VX dX_has post 16 [.inl r] [some (.inr 0), some (.inl x1), some (.inl x2), none] S1) : VX dX_has post 13 [.inl s0, .inl s1, .inr 0] [some (.inr 0), some (.inl x1), some (.inl x2), none] S := cllX (idx := 82) [s1, s0] hC cwX_firstFrom cnX_firstFrom (by decide +kernel) ⟨by decide, by decide⟩ (Nat.le_of_ble_eq_true rfl) k
def cutX_sum : List (Nat × List Bool) := [(2, [true, true, true, true, false, false, false, false, false]), (5, [true, true, true, true, false, false, false, false, false]), (54, [true, true, false, false, true, true, true, true, false]), (81, [true, true, false, false, true, true, true, true, false]), (84, [true, true, false, false, true, true, true, true, false]), (87, [true, true, false, false, true, true, true, true, true])]
theorem sgX_sum_0 {post : Int32 → SX → Prop} {x1 x2 x3 : Int32} {sz la pk cd nb al : Nat → Int32} {hd cu : Int32} (h : VX dX_sum post 2 [.inl x1, .inr 0] [some (.inr 0), some (.inl x1), some (.inl x2), some (.inl x3), none, none, none, none, none] (sz, la, pk, hd, cd, nb, al, cu)) : VX dX_sum post 0 [] [some (.inr 0), some (.inl x1), some (.inl x2), some (.inl x3), none, none, none, none, none] (sz, la, pk, hd, cd, nb, al, cu) := segX okX_sum cutX_sum 300 h
theorem sgX_sum_5 {post : Int32 → SX → Prop} {x1 x2 x3 s0 : Int32} {sz la pk cd nb al : Nat → Int32} {hd cu : Int32} (h : (s0 = 0 → (x2 < 0 → vp_in x1 2 ∧ ((x3 < (sz (x1).toNatClampNeg) → VX dX_sum post 54 [] [some (.inr 0), some (.inl x1), none, none, some (.inl 0), some (.inl x3), some (.inl 0), some (.inl ((0 : Int32) >>> ((3 : Int32) &&& 31) : Int32)), none] (sz, la, pk, hd, cd, nb, al, cu)) ∧ (¬ x3 < (sz (x1).toNatClampNeg) → vp_in x1 2 ∧ (VX dX_sum post 54 [] [some (.inr 0), some (.inl x1), none, none, some (.inl 0), some (.inl ((sz (x1).toNatClampNeg) - 1)), some (.inl 0), some (.inl ((0 : Int32) >>> ((3 : Int32) &&& 31) : Int32)), none] (sz, la, pk, hd, cd, nb, al, cu))))) ∧ (¬ x2 < 0 → vp_in x1 2 ∧ ((x3 < (sz (x1).toNatClampNeg) → VX dX_sum post 54 [] [some (.inr 0), some (.inl x1), none, none, some (.inl x2), some (.inl x3), some (.inl 0), some (.inl (x2 >>> ((3 : Int32) &&& 31) : Int32)), none] (sz, la, pk, hd, cd, nb, al, cu)) ∧ (¬ x3 < (sz (x1).toNatClampNeg) → vp_in x1 2 ∧ (VX dX_sum post 54 [] [some (.inr 0), some (.inl x1), none, none, some (.inl x2), some (.inl ((sz (x1).toNatClampNeg) - 1)), some (.inl 0), some (.inl (x2 >>> ((3 : Int32) &&& 31) : Int32)), none] (sz, la, pk, hd, cd, nb, al, cu)))))) ∧ (¬ s0 = 0 → post (-1) (sz, la, pk, hd, cd, nb, al, cu))) : VX dX_sum post 5 [.inl s0] [some (.inr 0), some (.inl x1), some (.inl x2), some (.inl x3), none, none, none, none, none] (sz, la, pk, hd, cd, nb, al, cu) := segX okX_sum cutX_sum 300 h
theorem sgX_sum_54 {post : Int32 → SX → Prop} {x1 x4 x5 x6 x7 : Int32} {sz la pk cd nb al : Nat → Int32} {hd cu : Int32} (h : ((x5 >>> ((3 : Int32) &&& 31) : Int32) < x7 → post x6 (sz, la, pk, hd, cd, nb, al, cu)) ∧ (¬ (x5 >>> ((3 : Int32) &&& 31) : Int32) < x7 → (x7 < 8 → (x5 < x4 → post x6 (sz, la, pk, hd, cd, nb, al, cu)) ∧ (¬ x5 < x4 → VX dX_sum post 81 [.inl x7, .inl x1, .inr 0] [some (.inr 0), some (.inl x1), none, none, some (.inl x4), some (.inl x5), some (.inl x6), some (.inl x7), none] (sz, la, pk, hd, cd, nb, al, cu))) ∧ (¬ x7 < 8 → post x6 (sz, la, pk, hd, cd, nb, al, cu)))) : VX dX_sum post 54 [] [some (.inr 0), some (.inl x1), none, none, some (.inl x4), some (.inl x5), some (.inl x6), some (.inl x7), none] (sz, la, pk, hd, cd, nb, al, cu) := segX okX_sum cutX_sum 300 h
theorem sgX_sum_84 {post : Int32 → SX → Prop} {x1 x4 x5 x6 x7 : Int32} {sz la pk cd nb al : Nat → Int32} {hd cu : Int32} (h : VX dX_sum post 87 [] [some (.inr 0), some (.inl x1), none, none, some (.inl x4), some (.inl x5), some (.inl x6), some (.inl x7), some (.inl 0)] (sz, la, pk, hd, cd, nb, al, cu)) : VX dX_sum post 84 [] [some (.inr 0), some (.inl x1), none, none, some (.inl x4), some (.inl x5), some (.inl x6), some (.inl x7), none] (sz, la, pk, hd, cd, nb, al, cu) := segX okX_sum cutX_sum 300 h
theorem sgX_sum_87 {post : Int32 → SX → Prop} {x1 x4 x5 x6 x7 x8 : Int32} {sz la pk cd nb al : Nat → Int32} {hd cu : Int32} (h : (x8 < hd → (((x7 * 8) + x8) < x4 → VX dX_sum post 87 [] [some (.inr 0), some (.inl x1), none, none, some (.inl x4), some (.inl x5), some (.inl x6), some (.inl x7), some (.inl (x8 + 1))] (sz, la, pk, hd, cd, nb, al, cu)) ∧ (¬ ((x7 * 8) + x8) < x4 → (x5 < ((x7 * 8) + x8) → VX dX_sum post 87 [] [some (.inr 0), some (.inl x1), none, none, some (.inl x4), some (.inl x5), some (.inl x6), some (.inl x7), some (.inl (x8 + 1))] (sz, la, pk, hd, cd, nb, al, cu)) ∧ (¬ x5 < ((x7 * 8) + x8) → vp_in x8 8 ∧ (VX dX_sum post 87 [] [some (.inr 0), some (.inl x1), none, none, some (.inl x4), some (.inl x5), some (.inl (x6 + (nb (x8).toNatClampNeg))), some (.inl x7), some (.inl (x8 + 1))] (sz, la, pk, hd, cd, nb, al, cu))))) ∧ (¬ x8 < hd → VX dX_sum post 54 [] [some (.inr 0), some (.inl x1), none, none, some (.inl x4), some (.inl x5), some (.inl x6), some (.inl (x7 + 1)), none] (sz, la, pk, hd, cd, nb, al, cu))) : VX dX_sum post 87 [] [some (.inr 0), some (.inl x1), none, none, some (.inl x4), some (.inl x5), some (.inl x6), some (.inl x7), some (.inl x8)] (sz, la, pk, hd, cd, nb, al, cu) := segX okX_sum cutX_sum 300 h
theorem csX_sum_2 {post post2 : Int32 → SX → Prop} {x1 x2 x3 s0 : Int32} {S : SX} (hC : CX yX0_badList dX_badList [s0] S post2) (k : ∀ r S1, post2 r S1 → VX dX_sum post 5 [.inl r] [some (.inr 0), some (.inl x1), some (.inl x2), some (.inl x3), none, none, none, none, none] S1) : VX dX_sum post 2 [.inl s0, .inr 0] [some (.inr 0), some (.inl x1), some (.inl x2), some (.inl x3), none, none, none, none, none] S := cllX (idx := 72) [s0] hC cwX_badList cnX_badList (by decide +kernel) ⟨by decide, by decide⟩ (Nat.le_of_ble_eq_true rfl) k
theorem csX_sum_81 {post post2 : Int32 → SX → Prop} {x1 x4 x5 x6 x7 s0 s1 : Int32} {S : SX} (hC : CX yX0_unpack dX_unpack [s1, s0] S post2) (k : ∀ r S1, post2 r S1 → VX dX_sum post 84 [] [some (.inr 0), some (.inl x1), none, none, some (.inl x4), some (.inl x5), some (.inl x6), some (.inl x7), none] S1) : VX dX_sum post 81 [.inl s0, .inl s1, .inr 0] [some (.inr 0), some (.inl x1), none, none, some (.inl x4), some (.inl x5), some (.inl x6), some (.inl x7), none] S := cllX (idx := 64) [s1, s0] hC cwX_unpack cnX_unpack (by decide +kernel) ⟨by decide, by decide⟩ (Nat.le_of_ble_eq_true rfl) k
def cutX_blocks : List (Nat × List Bool) := [(2, [true, true]), (5, [true, true]), (14, [false, false]), (17, [false, false])]
theorem sgX_blocks_0 {post : Int32 → SX → Prop} {x1 : Int32} {sz la pk cd nb al : Nat → Int32} {hd cu : Int32} (h : VX dX_blocks post 2 [.inl x1, .inr 0] [some (.inr 0), some (.inl x1)] (sz, la, pk, hd, cd, nb, al, cu)) : VX dX_blocks post 0 [] [some (.inr 0), some (.inl x1)] (sz, la, pk, hd, cd, nb, al, cu) := segX okX_blocks cutX_blocks 300 h
theorem sgX_blocks_5 {post : Int32 → SX → Prop} {x1 s0 : Int32} {sz la pk cd nb al : Nat → Int32} {hd cu : Int32} (h : (s0 = 0 → VX dX_blocks post 14 [.inl x1, .inr 0] [none, none] (sz, la, pk, hd, cd, nb, al, cu)) ∧ (¬ s0 = 0 → VX dX_blocks post 17 [.inl (-1)] [none, none] (sz, la, pk, hd, cd, nb, al, cu))) : VX dX_blocks post 5 [.inl s0] [some (.inr 0), some (.inl x1)] (sz, la, pk, hd, cd, nb, al, cu) := segX okX_blocks cutX_blocks 300 h
theorem sgX_blocks_17 {post : Int32 → SX → Prop} {s0 : Int32} {sz la pk cd nb al : Nat → Int32} {hd cu : Int32} (h : post s0 (sz, la, pk, hd, cd, nb, al, cu)) : VX dX_blocks post 17 [.inl s0] [none, none] (sz, la, pk, hd, cd, nb, al, cu) := segX okX_blocks cutX_blocks 300 h
theorem csX_blocks_2 {post post2 : Int32 → SX → Prop} {x1 s0 : Int32} {S : SX} (hC : CX yX0_badList dX_badList [s0] S post2) (k : ∀ r S1, post2 r S1 → VX dX_blocks post 5 [.inl r] [some (.inr 0), some (.inl x1)] S1) : VX dX_blocks post 2 [.inl s0, .inr 0] [some (.inr 0), some (.inl x1)] S := cllX (idx := 72) [s0] hC cwX_badList cnX_badList (by decide +kernel) ⟨by decide, by decide⟩ (Nat.le_of_ble_eq_true rfl) k
theorem csX_blocks_14 {post post2 : Int32 → SX → Prop} {s0 : Int32} {S : SX} (hC : CX yX0_blockCount dX_blockCount [s0] S post2) (k : ∀ r S1, post2 r S1 → VX dX_blocks post 17 [.inl r] [none, none] S1) : VX dX_blocks post 14 [.inl s0, .inr 0] [none, none] S := cllX (idx := 58) [s0] hC cwX_blockCount cnX_blockCount (by decide +kernel) ⟨by decide, by decide⟩ (Nat.le_of_ble_eq_true rfl) k
def cutX_base : List (Nat × List Bool) := [(2, [true, true, true]), (5, [true, true, true]), (13, [true, true, true]), (16, [true, true, true]), (35, [false, false, false]), (38, [false, false, false])]
theorem sgX_base_0 {post : Int32 → SX → Prop} {x1 x2 : Int32} {sz la pk cd nb al : Nat → Int32} {hd cu : Int32} (h : VX dX_base post 2 [.inl x1, .inr 0] [some (.inr 0), some (.inl x1), some (.inl x2)] (sz, la, pk, hd, cd, nb, al, cu)) : VX dX_base post 0 [] [some (.inr 0), some (.inl x1), some (.inl x2)] (sz, la, pk, hd, cd, nb, al, cu) := segX okX_base cutX_base 300 h
theorem sgX_base_5 {post : Int32 → SX → Prop} {x1 x2 s0 : Int32} {sz la pk cd nb al : Nat → Int32} {hd cu : Int32} (h : (s0 = 0 → VX dX_base post 13 [.inl x2, .inl x1, .inr 0] [some (.inr 0), some (.inl x1), some (.inl x2)] (sz, la, pk, hd, cd, nb, al, cu)) ∧ (¬ s0 = 0 → post (-1) (sz, la, pk, hd, cd, nb, al, cu))) : VX dX_base post 5 [.inl s0] [some (.inr 0), some (.inl x1), some (.inl x2)] (sz, la, pk, hd, cd, nb, al, cu) := segX okX_base cutX_base 300 h
theorem sgX_base_16 {post : Int32 → SX → Prop} {x1 x2 s0 : Int32} {sz la pk cd nb al : Nat → Int32} {hd cu : Int32} (h : (s0 = 0 → VX dX_base post 35 [.inl 5, .inl ((x1 * 8) + x2), .inr 0] [none, none, none] (sz, la, pk, hd, cd, nb, al, 0)) ∧ (¬ s0 = 0 → post (-4) (sz, la, pk, hd, cd, nb, al, cu))) : VX dX_base post 16 [.inl s0] [some (.inr 0), some (.inl x1), some (.inl x2)] (sz, la, pk, hd, cd, nb, al, cu) := segX okX_base cutX_base 300 h
theorem sgX_base_38 {post : Int32 → SX → Prop} {s0 : Int32} {sz la pk cd nb al : Nat → Int32} {hd cu : Int32} (h : post s0 (sz, la, pk, hd, cd, nb, al, cu)) : VX dX_base post 38 [.inl s0] [none, none, none] (sz, la, pk, hd, cd, nb, al, cu) := segX okX_base cutX_base 300 h
theorem csX_base_2 {post post2 : Int32 → SX → Prop} {x1 x2 s0 : Int32} {S : SX} (hC : CX yX0_badList dX_badList [s0] S post2) (k : ∀ r S1, post2 r S1 → VX dX_base post 5 [.inl r] [some (.inr 0), some (.inl x1), some (.inl x2)] S1) : VX dX_base post 2 [.inl s0, .inr 0] [some (.inr 0), some (.inl x1), some (.inl x2)] S := cllX (idx := 72) [s0] hC cwX_badList cnX_badList (by decide +kernel) ⟨by decide, by decide⟩ (Nat.le_of_ble_eq_true rfl) k
theorem csX_base_13 {post post2 : Int32 → SX → Prop} {x1 x2 s0 s1 : Int32} {S : SX} (hC : CX yX0_noBlock dX_noBlock [s1, s0] S post2) (k : ∀ r S1, post2 r S1 → VX dX_base post 16 [.inl r] [some (.inr 0), some (.inl x1), some (.inl x2)] S1) : VX dX_base post 13 [.inl s0, .inl s1, .inr 0] [some (.inr 0), some (.inl x1), some (.inl x2)] S := cllX (idx := 97) [s1, s0] hC cwX_noBlock cnX_noBlock (by decide +kernel) ⟨by decide, by decide⟩ (Nat.le_of_ble_eq_true rfl) k
theorem csX_base_35 {post post2 : Int32 → SX → Prop} {s0 s1 : Int32} {S : SX} (hC : CX yX0_get dX_get [s1, s0] S post2) (k : ∀ r S1, post2 r S1 → VX dX_base post 38 [.inl r] [none, none, none] S1) : VX dX_base post 35 [.inl s0, .inl s1, .inr 0] [none, none, none] S := cllX (idx := 55) [s1, s0] hC cwX_get cnX_get (by decide +kernel) ⟨by decide, by decide⟩ (Nat.le_of_ble_eq_true rfl) k
def cutX_noBlock : List (Nat × List Bool) := [(7, [false, false, false]), (10, [false, false, false])]
theorem sgX_noBlock_0 {post : Int32 → SX → Prop} {x1 x2 : Int32} {sz la pk cd nb al : Nat → Int32} {hd cu : Int32} (h : (x2 < 0 → post 1 (sz, la, pk, hd, cd, nb, al, cu)) ∧ (¬ x2 < 0 → VX dX_noBlock post 7 [.inl x1, .inr 0, .inl x2] [none, none, none] (sz, la, pk, hd, cd, nb, al, cu))) : VX dX_noBlock post 0 [] [some (.inr 0), some (.inl x1), some (.inl x2)] (sz, la, pk, hd, cd, nb, al, cu) := segX okX_noBlock cutX_noBlock 300 h
theorem sgX_noBlock_10 {post : Int32 → SX → Prop} {s0 s1 : Int32} {sz la pk cd nb al : Nat → Int32} {hd cu : Int32} (h : (s1 < s0 → post 0 (sz, la, pk, hd, cd, nb, al, cu)) ∧ (¬ s1 < s0 → post 1 (sz, la, pk, hd, cd, nb, al, cu))) : VX dX_noBlock post 10 [.inl s0, .inl s1] [none, none, none] (sz, la, pk, hd, cd, nb, al, cu) := segX okX_noBlock cutX_noBlock 300 h
theorem csX_noBlock_7 {post post2 : Int32 → SX → Prop} {s0 s2 : Int32} {S : SX} (hC : CX yX0_blockCount dX_blockCount [s0] S post2) (k : ∀ r S1, post2 r S1 → VX dX_noBlock post 10 [.inl r, .inl s2] [none, none, none] S1) : VX dX_noBlock post 7 [.inl s0, .inr 0, .inl s2] [none, none, none] S := cllX (idx := 58) [s0] hC cwX_blockCount cnX_blockCount (by decide +kernel) ⟨by decide, by decide⟩ (Nat.le_of_ble_eq_true rfl) k
def cutX_blockSize : List (Nat × List Bool) := [(2, [true, true, true]), (5, [true, true, true]), (13, [true, true, true]), (16, [true, true, true]), (25, [true, false, false]), (28, [true, false, false])]
theorem sgX_blockSize_0 {post : Int32 → SX → Prop} {x1 x2 : Int32} {sz la pk cd nb al : Nat → Int32} {hd cu : Int32} (h : VX dX_blockSize post 2 [.inl x1, .inr 0] [some (.inr 0), some (.inl x1), some (.inl x2)] (sz, la, pk, hd, cd, nb, al, cu)) : VX dX_blockSize post 0 [] [some (.inr 0), some (.inl x1), some (.inl x2)] (sz, la, pk, hd, cd, nb, al, cu) := segX okX_blockSize cutX_blockSize 300 h
theorem sgX_blockSize_5 {post : Int32 → SX → Prop} {x1 x2 s0 : Int32} {sz la pk cd nb al : Nat → Int32} {hd cu : Int32} (h : (s0 = 0 → VX dX_blockSize post 13 [.inl x2, .inl x1, .inr 0] [some (.inr 0), some (.inl x1), some (.inl x2)] (sz, la, pk, hd, cd, nb, al, cu)) ∧ (¬ s0 = 0 → post (-1) (sz, la, pk, hd, cd, nb, al, cu))) : VX dX_blockSize post 5 [.inl s0] [some (.inr 0), some (.inl x1), some (.inl x2)] (sz, la, pk, hd, cd, nb, al, cu) := segX okX_blockSize cutX_blockSize 300 h
theorem sgX_blockSize_16 {post : Int32 → SX → Prop} {x1 x2 s0 : Int32} {sz la pk cd nb al : Nat → Int32} {hd cu : Int32} (h : (s0 = 0 → VX dX_blockSize post 25 [.inl x2, .inl x1, .inr 0] [some (.inr 0), none, none] (sz, la, pk, hd, cd, nb, al, cu)) ∧ (¬ s0 = 0 → post (-4) (sz, la, pk, hd, cd, nb, al, cu))) : VX dX_blockSize post 16 [.inl s0] [some (.inr 0), some (.inl x1), some (.inl x2)] (sz, la, pk, hd, cd, nb, al, cu) := segX okX_blockSize cutX_blockSize 300 h
theorem sgX_blockSize_28 {post : Int32 → SX → Prop} {sz la pk cd nb al : Nat → Int32} {hd cu : Int32} (h : post cu (sz, la, pk, hd, cd, nb, al, cu)) : VX dX_blockSize post 28 [] [some (.inr 0), none, none] (sz, la, pk, hd, cd, nb, al, cu) := segX okX_blockSize cutX_blockSize 300 h
theorem csX_blockSize_2 {post post2 : Int32 → SX → Prop} {x1 x2 s0 : Int32} {S : SX} (hC : CX yX0_badList dX_badList [s0] S post2) (k : ∀ r S1, post2 r S1 → VX dX_blockSize post 5 [.inl r] [some (.inr 0), some (.inl x1), some (.inl x2)] S1) : VX dX_blockSize post 2 [.inl s0, .inr 0] [some (.inr 0), some (.inl x1), some (.inl x2)] S := cllX (idx := 72) [s0] hC cwX_badList cnX_badList (by decide +kernel) ⟨by decide, by decide⟩ (Nat.le_of_ble_eq_true rfl) k
theorem csX_blockSize_13 {post post2 : Int32 → SX → Prop} {x1 x2 s0 s1 : Int32} {S : SX} (hC : CX yX0_noBlock dX_noBlock [s1, s0] S post2) (k : ∀ r S1, post2 r S1 → VX dX_blockSize post 16 [.inl r] [some (.inr 0), some (.inl x1), some (.inl x2)] S1) : VX dX_blockSize post 13 [.inl s0, .inl s1, .inr 0] [some (.inr 0), some (.inl x1), some (.inl x2)] S := cllX (idx := 97) [s1, s0] hC cwX_noBlock cnX_noBlock (by decide +kernel) ⟨by decide, by decide⟩ (Nat.le_of_ble_eq_true rfl) k
theorem csX_blockSize_25 {post post2 : Int32 → SX → Prop} {s0 s1 : Int32} {S : SX} (hC : CX yX0_unpack dX_unpack [s1, s0] S post2) (k : ∀ r S1, post2 r S1 → VX dX_blockSize post 28 [] [some (.inr 0), none, none] S1) : VX dX_blockSize post 25 [.inl s0, .inl s1, .inr 0] [some (.inr 0), none, none] S := cllX (idx := 64) [s1, s0] hC cwX_unpack cnX_unpack (by decide +kernel) ⟨by decide, by decide⟩ (Nat.le_of_ble_eq_true rfl) k
def cutX_packed : List (Nat × List Bool) := [(4, [true, true, true, false, false]), (11, [true, true, true, false, false]), (14, [true, true, true, false, false]), (18, [true, true, true, true, true]), (28, [true, true, true, true, true]), (31, [true, true, true, true, true])]
theorem sgX_packed_0 {post : Int32 → SX → Prop} {sz la pk cd nb al : Nat → Int32} {hd cu : Int32} (h : VX dX_packed post 4 [] [some (.inr 0), some (.inl 0), some (.inl 0), none, none] (sz, la, pk, hd, cd, nb, al, cu)) : VX dX_packed post 0 [] [some (.inr 0), none, none, none, none] (sz, la, pk, hd, cd, nb, al, cu) := segX okX_packed cutX_packed 300 h
theorem sgX_packed_4 {post : Int32 → SX → Prop} {x1 x2 : Int32} {sz la pk cd nb al : Nat → Int32} {hd cu : Int32} (h : (x2 < 2 → VX dX_packed post 11 [.inl x2, .inr 0] [some (.inr 0), some (.inl x1), some (.inl x2), none, none] (sz, la, pk, hd, cd, nb, al, cu)) ∧ (¬ x2 < 2 → post x1 (sz, la, pk, hd, cd, nb, al, cu))) : VX dX_packed post 4 [] [some (.inr 0), some (.inl x1), some (.inl x2), none, none] (sz, la, pk, hd, cd, nb, al, cu) := segX okX_packed cutX_packed 300 h
theorem sgX_packed_14 {post : Int32 → SX → Prop} {x1 x2 s0 : Int32} {sz la pk cd nb al : Nat → Int32} {hd cu : Int32} (h : VX dX_packed post 18 [] [some (.inr 0), some (.inl x1), some (.inl x2), some (.inl s0), some (.inl 0)] (sz, la, pk, hd, cd, nb, al, cu)) : VX dX_packed post 14 [.inl s0] [some (.inr 0), some (.inl x1), some (.inl x2), none, none] (sz, la, pk, hd, cd, nb, al, cu) := segX okX_packed cutX_packed 300 h
theorem sgX_packed_18 {post : Int32 → SX → Prop} {x1 x2 x3 x4 : Int32} {sz la pk cd nb al : Nat → Int32} {hd cu : Int32} (h : (x4 < x3 → VX dX_packed post 28 [.inl x4, .inl x2, .inr 0] [some (.inr 0), some (.inl x1), some (.inl x2), some (.inl x3), some (.inl x4)] (sz, la, pk, hd, cd, nb, al, cu)) ∧ (¬ x4 < x3 → VX dX_packed post 4 [] [some (.inr 0), some (.inl x1), some (.inl (x2 + 1)), none, none] (sz, la, pk, hd, cd, nb, al, cu))) : VX dX_packed post 18 [] [some (.inr 0), some (.inl x1), some (.inl x2), some (.inl x3), some (.inl x4)] (sz, la, pk, hd, cd, nb, al, cu) := segX okX_packed cutX_packed 300 h
theorem sgX_packed_31 {post : Int32 → SX → Prop} {x1 x2 x3 x4 : Int32} {sz la pk cd nb al : Nat → Int32} {hd cu : Int32} (h : VX dX_packed post 18 [] [some (.inr 0), some (.inl (x1 + cu)), some (.inl x2), some (.inl x3), some (.inl (x4 + 1))] (sz, la, pk, hd, cd, nb, al, cu)) : VX dX_packed post 31 [] [some (.inr 0), some (.inl x1), some (.inl x2), some (.inl x3), some (.inl x4)] (sz, la, pk, hd, cd, nb, al, cu) := segX okX_packed cutX_packed 300 h
theorem csX_packed_11 {post post2 : Int32 → SX → Prop} {x1 x2 s0 : Int32} {S : SX} (hC : CX yX0_blockCount dX_blockCount [s0] S post2) (k : ∀ r S1, post2 r S1 → VX dX_packed post 14 [.inl r] [some (.inr 0), some (.inl x1), some (.inl x2), none, none] S1) : VX dX_packed post 11 [.inl s0, .inr 0] [some (.inr 0), some (.inl x1), some (.inl x2), none, none] S := cllX (idx := 58) [s0] hC cwX_blockCount cnX_blockCount (by decide +kernel) ⟨by decide, by decide⟩ (Nat.le_of_ble_eq_true rfl) k
theorem csX_packed_28 {post post2 : Int32 → SX → Prop} {x1 x2 x3 x4 s0 s1 : Int32} {S : SX} (hC : CX yX0_unpack dX_unpack [s1, s0] S post2) (k : ∀ r S1, post2 r S1 → VX dX_packed post 31 [] [some (.inr 0), some (.inl x1), some (.inl x2), some (.inl x3), some (.inl x4)] S1) : VX dX_packed post 28 [.inl s0, .inl s1, .inr 0] [some (.inr 0), some (.inl x1), some (.inl x2), some (.inl x3), some (.inl x4)] S := cllX (idx := 64) [s1, s0] hC cwX_unpack cnX_unpack (by decide +kernel) ⟨by decide, by decide⟩ (Nat.le_of_ble_eq_true rfl) k
def cutX_common : List (Nat × List Bool) := [(4, [true, true, false, false]), (7, [true, true, false, false]), (10, [true, true, true, true]), (33, [true, true, false, true]), (36, [true, true, false, true])]
theorem sgX_common_0 {post : Int32 → SX → Prop} {sz la pk cd nb al : Nat → Int32} {hd cu : Int32} (h : VX dX_common post 4 [.inl 0, .inr 0] [some (.inr 0), some (.inl 0), none, none] (sz, la, pk, hd, cd, nb, al, cu)) : VX dX_common post 0 [] [some (.inr 0), none, none, none] (sz, la, pk, hd, cd, nb, al, cu) := segX okX_common cutX_common 300 h
theorem sgX_common_7 {post : Int32 → SX → Prop} {x1 s0 : Int32} {sz la pk cd nb al : Nat → Int32} {hd cu : Int32} (h : VX dX_common post 10 [] [some (.inr 0), some (.inl x1), some (.inl s0), some (.inl 0)] (sz, la, pk, hd, cd, nb, al, cu)) : VX dX_common post 7 [.inl s0] [some (.inr 0), some (.inl x1), none, none] (sz, la, pk, hd, cd, nb, al, cu) := segX okX_common cutX_common 300 h
theorem sgX_common_10 {post : Int32 → SX → Prop} {x1 x2 x3 : Int32} {sz la pk cd nb al : Nat → Int32} {hd cu : Int32} (h : (64 < x3 → post x1 (sz, la, pk, hd, cd, nb, al, cu)) ∧ (¬ 64 < x3 → vp_in 0 2 ∧ ((x2 < (sz ((0 : Int32)).toNatClampNeg) → VX dX_common post 33 [.inl (x2 + 1), .inr 0] [some (.inr 0), some (.inl (x1 + 1)), none, some (.inl x3)] (sz, la, pk, hd, cd, nb, al, cu)) ∧ (¬ x2 < (sz ((0 : Int32)).toNatClampNeg) → post x1 (sz, la, pk, hd, cd, nb, al, cu))))) : VX dX_common post 10 [] [some (.inr 0), some (.inl x1), some (.inl x2), some (.inl x3)] (sz, la, pk, hd, cd, nb, al, cu) := segX okX_common cutX_common 300 h
theorem sgX_common_36 {post : Int32 → SX → Prop} {x1 x3 s0 : Int32} {sz la pk cd nb al : Nat → Int32} {hd cu : Int32} (h : VX dX_common post 10 [] [some (.inr 0), some (.inl x1), some (.inl s0), some (.inl (x3 + 1))] (sz, la, pk, hd, cd, nb, al, cu)) : VX dX_common post 36 [.inl s0] [some (.inr 0), some (.inl x1), none, some (.inl x3)] (sz, la, pk, hd, cd, nb, al, cu) := segX okX_common cutX_common 300 h
theorem csX_common_4 {post post2 : Int32 → SX → Prop} {x1 s0 : Int32} {S : SX} (hC : CX yX0_nextCommon dX_nextCommon [s0] S post2) (k : ∀ r S1, post2 r S1 → VX dX_common post 7 [.inl r] [some (.inr 0), some (.inl x1), none, none] S1) : VX dX_common post 4 [.inl s0, .inr 0] [some (.inr 0), some (.inl x1), none, none] S := cllX (idx := 101) [s0] hC cwX_nextCommon cnX_nextCommon (by decide +kernel) ⟨by decide, by decide⟩ (Nat.le_of_ble_eq_true rfl) k
theorem csX_common_33 {post post2 : Int32 → SX → Prop} {x1 x3 s0 : Int32} {S : SX} (hC : CX yX0_nextCommon dX_nextCommon [s0] S post2) (k : ∀ r S1, post2 r S1 → VX dX_common post 36 [.inl r] [some (.inr 0), some (.inl x1), none, some (.inl x3)] S1) : VX dX_common post 33 [.inl s0, .inr 0] [some (.inr 0), some (.inl x1), none, some (.inl x3)] S := cllX (idx := 101) [s0] hC cwX_nextCommon cnX_nextCommon (by decide +kernel) ⟨by decide, by decide⟩ (Nat.le_of_ble_eq_true rfl) k
def cutX_nextCommon : List (Nat × List Bool) := [(4, [true, false, true, true, false, false, false]), (23, [true, false, true, true, false, false, false]), (26, [true, false, true, true, false, false, false]), (32, [true, false, true, true, true, false, false]), (35, [true, false, true, true, true, false, false]), (59, [true, false, true, true, true, false, false]), (62, [true, false, true, true, true, false, false]), (77, [true, false, false, true, false, false, false]), (80, [true, false, false, true, false, false, false])]
theorem sgX_nextCommon_0 {post : Int32 → SX → Prop} {x1 : Int32} {sz la pk cd nb al : Nat → Int32} {hd cu : Int32} (h : VX dX_nextCommon post 4 [] [some (.inr 0), none, some (.inl x1), some (.inl 0), none, none, none] (sz, la, pk, hd, cd, nb, al, cu)) : VX dX_nextCommon post 0 [] [some (.inr 0), some (.inl x1), none, none, none, none, none] (sz, la, pk, hd, cd, nb, al, cu) := segX okX_nextCommon cutX_nextCommon 300 h
theorem sgX_nextCommon_4 {post : Int32 → SX → Prop} {x2 x3 : Int32} {sz la pk cd nb al : Nat → Int32} {hd cu : Int32} (h : (64 < x3 → vp_in 0 2 ∧ (post (sz ((0 : Int32)).toNatClampNeg) (sz, la, pk, hd, cd, nb, al, cu))) ∧ (¬ 64 < x3 → vp_in 0 2 ∧ ((x2 < (sz ((0 : Int32)).toNatClampNeg) → VX dX_nextCommon post 23 [.inl x2, .inl 0, .inr 0] [some (.inr 0), none, some (.inl x2), some (.inl x3), none, none, none] (sz, la, pk, hd, cd, nb, al, cu)) ∧ (¬ x2 < (sz ((0 : Int32)).toNatClampNeg) → vp_in 0 2 ∧ (post (sz ((0 : Int32)).toNatClampNeg) (sz, la, pk, hd, cd, nb, al, cu)))))) : VX dX_nextCommon post 4 [] [some (.inr 0), none, some (.inl x2), some (.inl x3), none, none, none] (sz, la, pk, hd, cd, nb, al, cu) := segX okX_nextCommon cutX_nextCommon 300 h
theorem sgX_nextCommon_26 {post : Int32 → SX → Prop} {x2 x3 s0 : Int32} {sz la pk cd nb al : Nat → Int32} {hd cu : Int32} (h : VX dX_nextCommon post 32 [.inl s0, .inl 1, .inr 0] [some (.inr 0), none, some (.inl x2), some (.inl x3), some (.inl s0), none, none] (sz, la, pk, hd, cd, nb, al, cu)) : VX dX_nextCommon post 26 [.inl s0] [some (.inr 0), none, some (.inl x2), some (.inl x3), none, none, none] (sz, la, pk, hd, cd, nb, al, cu) := segX okX_nextCommon cutX_nextCommon 300 h
theorem sgX_nextCommon_35 {post : Int32 → SX → Prop} {x2 x3 x4 s0 : Int32} {sz la pk cd nb al : Nat → Int32} {hd cu : Int32} (h : vp_in 1 2 ∧ ((s0 = (sz ((1 : Int32)).toNatClampNeg) → vp_in 0 2 ∧ (post (sz ((0 : Int32)).toNatClampNeg) (sz, la, pk, hd, cd, nb, al, cu))) ∧ (¬ s0 = (sz ((1 : Int32)).toNatClampNeg) → VX dX_nextCommon post 59 [.inl s0, .inl 1, .inr 0] [some (.inr 0), none, some (.inl x2), some (.inl x3), some (.inl x4), none, none] (sz, la, pk, hd, cd, nb, al, cu)))) : VX dX_nextCommon post 35 [.inl s0] [some (.inr 0), none, some (.inl x2), some (.inl x3), some (.inl x4), none, none] (sz, la, pk, hd, cd, nb, al, cu) := segX okX_nextCommon cutX_nextCommon 300 h
theorem sgX_nextCommon_62 {post : Int32 → SX → Prop} {x2 x3 x4 s0 : Int32} {sz la pk cd nb al : Nat → Int32} {hd cu : Int32} (h : (s0 = x4 → post x2 (sz, la, pk, hd, cd, nb, al, cu)) ∧ (¬ s0 = x4 → VX dX_nextCommon post 77 [.inl s0, .inl 0, .inr 0] [some (.inr 0), none, none, some (.inl x3), none, none, none] (sz, la, pk, hd, cd, nb, al, cu))) : VX dX_nextCommon post 62 [.inl s0] [some (.inr 0), none, some (.inl x2), some (.inl x3), some (.inl x4), none, none] (sz, la, pk, hd, cd, nb, al, cu) := segX okX_nextCommon cutX_nextCommon 300 h
theorem sgX_nextCommon_80 {post : Int32 → SX → Prop} {x3 s0 : Int32} {sz la pk cd nb al : Nat → Int32} {hd cu : Int32} (h : VX dX_nextCommon post 4 [] [some (.inr 0), none, some (.inl s0), some (.inl (x3 + 1)), none, none, none] (sz, la, pk, hd, cd, nb, al, cu)) : VX dX_nextCommon post 80 [.inl s0] [some (.inr 0), none, none, some (.inl x3), none, none, none] (sz, la, pk, hd, cd, nb, al, cu) := segX okX_nextCommon cutX_nextCommon 300 h
theorem csX_nextCommon_23 {post post2 : Int32 → SX → Prop} {x2 x3 s0 s1 : Int32} {S : SX} (hC : CX yX0_numberAt dX_numberAt [s1, s0] S post2) (k : ∀ r S1, post2 r S1 → VX dX_nextCommon post 26 [.inl r] [some (.inr 0), none, some (.inl x2), some (.inl x3), none, none, none] S1) : VX dX_nextCommon post 23 [.inl s0, .inl s1, .inr 0] [some (.inr 0), none, some (.inl x2), some (.inl x3), none, none, none] S := cllX (idx := 85) [s1, s0] hC cwX_numberAt cnX_numberAt (by decide +kernel) ⟨by decide, by decide⟩ (Nat.le_of_ble_eq_true rfl) k
theorem csX_nextCommon_32 {post post2 : Int32 → SX → Prop} {x2 x3 x4 s0 s1 : Int32} {S : SX} (hC : CX yX0_firstFrom dX_firstFrom [s1, s0] S post2) (k : ∀ r S1, post2 r S1 → VX dX_nextCommon post 35 [.inl r] [some (.inr 0), none, some (.inl x2), some (.inl x3), some (.inl x4), none, none] S1) : VX dX_nextCommon post 32 [.inl s0, .inl s1, .inr 0] [some (.inr 0), none, some (.inl x2), some (.inl x3), some (.inl x4), none, none] S := cllX (idx := 82) [s1, s0] hC cwX_firstFrom cnX_firstFrom (by decide +kernel) ⟨by decide, by decide⟩ (Nat.le_of_ble_eq_true rfl) k
theorem csX_nextCommon_59 {post post2 : Int32 → SX → Prop} {x2 x3 x4 s0 s1 : Int32} {S : SX} (hC : CX yX0_numberAt dX_numberAt [s1, s0] S post2) (k : ∀ r S1, post2 r S1 → VX dX_nextCommon post 62 [.inl r] [some (.inr 0), none, some (.inl x2), some (.inl x3), some (.inl x4), none, none] S1) : VX dX_nextCommon post 59 [.inl s0, .inl s1, .inr 0] [some (.inr 0), none, some (.inl x2), some (.inl x3), some (.inl x4), none, none] S := cllX (idx := 85) [s1, s0] hC cwX_numberAt cnX_numberAt (by decide +kernel) ⟨by decide, by decide⟩ (Nat.le_of_ble_eq_true rfl) k
theorem csX_nextCommon_77 {post post2 : Int32 → SX → Prop} {x3 s0 s1 : Int32} {S : SX} (hC : CX yX0_firstFrom dX_firstFrom [s1, s0] S post2) (k : ∀ r S1, post2 r S1 → VX dX_nextCommon post 80 [.inl r] [some (.inr 0), none, none, some (.inl x3), none, none, none] S1) : VX dX_nextCommon post 77 [.inl s0, .inl s1, .inr 0] [some (.inr 0), none, none, some (.inl x3), none, none, none] S := cllX (idx := 82) [s1, s0] hC cwX_firstFrom cnX_firstFrom (by decide +kernel) ⟨by decide, by decide⟩ (Nat.le_of_ble_eq_true rfl) k
def cutX_commonAt : List (Nat × List Bool) := [(9, [true, true, false, false]), (12, [true, true, false, false]), (15, [true, true, true, true]), (40, [true, true, false, true]), (43, [true, true, false, true]), (63, [false, false, false, false]), (66, [false, false, false, false])]
theorem sgX_commonAt_0 {post : Int32 → SX → Prop} {x1 : Int32} {sz la pk cd nb al : Nat → Int32} {hd cu : Int32} (h : (x1 < 0 → post (-4) (sz, la, pk, hd, cd, nb, al, cu)) ∧ (¬ x1 < 0 → VX dX_commonAt post 9 [.inl 0, .inr 0] [some (.inr 0), some (.inl x1), none, none] (sz, la, pk, hd, cd, nb, al, cu))) : VX dX_commonAt post 0 [] [some (.inr 0), some (.inl x1), none, none] (sz, la, pk, hd, cd, nb, al, cu) := segX okX_commonAt cutX_commonAt 300 h
theorem sgX_commonAt_12 {post : Int32 → SX → Prop} {x1 s0 : Int32} {sz la pk cd nb al : Nat → Int32} {hd cu : Int32} (h : VX dX_commonAt post 15 [] [some (.inr 0), some (.inl x1), some (.inl s0), some (.inl 0)] (sz, la, pk, hd, cd, nb, al, cu)) : VX dX_commonAt post 12 [.inl s0] [some (.inr 0), some (.inl x1), none, none] (sz, la, pk, hd, cd, nb, al, cu) := segX okX_commonAt cutX_commonAt 300 h
theorem sgX_commonAt_15 {post : Int32 → SX → Prop} {x1 x2 x3 : Int32} {sz la pk cd nb al : Nat → Int32} {hd cu : Int32} (h : (x3 < x1 → (64 < x3 → vp_in 0 2 ∧ ((x2 < (sz ((0 : Int32)).toNatClampNeg) → VX dX_commonAt post 63 [.inl x2, .inl 0, .inr 0] [none, none, none, none] (sz, la, pk, hd, cd, nb, al, cu)) ∧ (¬ x2 < (sz ((0 : Int32)).toNatClampNeg) → post (-4) (sz, la, pk, hd, cd, nb, al, cu)))) ∧ (¬ 64 < x3 → vp_in 0 2 ∧ ((x2 < (sz ((0 : Int32)).toNatClampNeg) → VX dX_commonAt post 40 [.inl (x2 + 1), .inr 0] [some (.inr 0), some (.inl x1), none, some (.inl x3)] (sz, la, pk, hd, cd, nb, al, cu)) ∧ (¬ x2 < (sz ((0 : Int32)).toNatClampNeg) → vp_in 0 2 ∧ ((x2 < (sz ((0 : Int32)).toNatClampNeg) → VX dX_commonAt post 63 [.inl x2, .inl 0, .inr 0] [none, none, none, none] (sz, la, pk, hd, cd, nb, al, cu)) ∧ (¬ x2 < (sz ((0 : Int32)).toNatClampNeg) → post (-4) (sz, la, pk, hd, cd, nb, al, cu))))))) ∧ (¬ x3 < x1 → vp_in 0 2 ∧ ((x2 < (sz ((0 : Int32)).toNatClampNeg) → VX dX_commonAt post 63 [.inl x2, .inl 0, .inr 0] [none, none, none, none] (sz, la, pk, hd, cd, nb, al, cu)) ∧ (¬ x2 < (sz ((0 : Int32)).toNatClampNeg) → post (-4) (sz, la, pk, hd, cd, nb, al, cu))))) : VX dX_commonAt post 15 [] [some (.inr 0), some (.inl x1), some (.inl x2), some (.inl x3)] (sz, la, pk, hd, cd, nb, al, cu) := segX okX_commonAt cutX_commonAt 300 h
theorem sgX_commonAt_43 {post : Int32 → SX → Prop} {x1 x3 s0 : Int32} {sz la pk cd nb al : Nat → Int32} {hd cu : Int32} (h : VX dX_commonAt post 15 [] [some (.inr 0), some (.inl x1), some (.inl s0), some (.inl (x3 + 1))] (sz, la, pk, hd, cd, nb, al, cu)) : VX dX_commonAt post 43 [.inl s0] [some (.inr 0), some (.inl x1), none, some (.inl x3)] (sz, la, pk, hd, cd, nb, al, cu) := segX okX_commonAt cutX_commonAt 300 h
theorem sgX_commonAt_66 {post : Int32 → SX → Prop} {s0 : Int32} {sz la pk cd nb al : Nat → Int32} {hd cu : Int32} (h : post s0 (sz, la, pk, hd, cd, nb, al, cu)) : VX dX_commonAt post 66 [.inl s0] [none, none, none, none] (sz, la, pk, hd, cd, nb, al, cu) := segX okX_commonAt cutX_commonAt 300 h
theorem csX_commonAt_9 {post post2 : Int32 → SX → Prop} {x1 s0 : Int32} {S : SX} (hC : CX yX0_nextCommon dX_nextCommon [s0] S post2) (k : ∀ r S1, post2 r S1 → VX dX_commonAt post 12 [.inl r] [some (.inr 0), some (.inl x1), none, none] S1) : VX dX_commonAt post 9 [.inl s0, .inr 0] [some (.inr 0), some (.inl x1), none, none] S := cllX (idx := 101) [s0] hC cwX_nextCommon cnX_nextCommon (by decide +kernel) ⟨by decide, by decide⟩ (Nat.le_of_ble_eq_true rfl) k
theorem csX_commonAt_40 {post post2 : Int32 → SX → Prop} {x1 x3 s0 : Int32} {S : SX} (hC : CX yX0_nextCommon dX_nextCommon [s0] S post2) (k : ∀ r S1, post2 r S1 → VX dX_commonAt post 43 [.inl r] [some (.inr 0), some (.inl x1), none, some (.inl x3)] S1) : VX dX_commonAt post 40 [.inl s0, .inr 0] [some (.inr 0), some (.inl x1), none, some (.inl x3)] S := cllX (idx := 101) [s0] hC cwX_nextCommon cnX_nextCommon (by decide +kernel) ⟨by decide, by decide⟩ (Nat.le_of_ble_eq_true rfl) k
theorem csX_commonAt_63 {post post2 : Int32 → SX → Prop} {s0 s1 : Int32} {S : SX} (hC : CX yX0_numberAt dX_numberAt [s1, s0] S post2) (k : ∀ r S1, post2 r S1 → VX dX_commonAt post 66 [.inl r] [none, none, none, none] S1) : VX dX_commonAt post 63 [.inl s0, .inl s1, .inr 0] [none, none, none, none] S := cllX (idx := 85) [s1, s0] hC cwX_numberAt cnX_numberAt (by decide +kernel) ⟨by decide, by decide⟩ (Nat.le_of_ble_eq_true rfl) k
def cutX_tail : List (Nat × List Bool) := [(2, [true, true, false, false, false, false]), (5, [true, true, false, false, false, false]), (25, [true, true, true, true, true, false]), (38, [true, true, true, false, true, false]), (41, [true, true, true, false, true, false]), (49, [true, true, true, false, true, true]), (52, [true, true, true, false, true, true])]
theorem sgX_tail_0 {post : Int32 → SX → Prop} {x1 : Int32} {sz la pk cd nb al : Nat → Int32} {hd cu : Int32} (h : VX dX_tail post 2 [.inl x1, .inr 0] [some (.inr 0), some (.inl x1), none, none, none, none] (sz, la, pk, hd, cd, nb, al, cu)) : VX dX_tail post 0 [] [some (.inr 0), some (.inl x1), none, none, none, none] (sz, la, pk, hd, cd, nb, al, cu) := segX okX_tail cutX_tail 300 h
theorem sgX_tail_5 {post : Int32 → SX → Prop} {x1 s0 : Int32} {sz la pk cd nb al : Nat → Int32} {hd cu : Int32} (h : (s0 = 0 → vp_in x1 2 ∧ (VX dX_tail post 25 [] [some (.inr 0), some (.inl x1), some (.inl (-4)), some (.inl 1), some (.inl ((sz (x1).toNatClampNeg) - 1)), none] (sz, la, pk, hd, cd, nb, al, cu))) ∧ (¬ s0 = 0 → post (-1) (sz, la, pk, hd, cd, nb, al, cu))) : VX dX_tail post 5 [.inl s0] [some (.inr 0), some (.inl x1), none, none, none, none] (sz, la, pk, hd, cd, nb, al, cu) := segX okX_tail cutX_tail 300 h
theorem sgX_tail_25 {post : Int32 → SX → Prop} {x1 x2 x3 x4 : Int32} {sz la pk cd nb al : Nat → Int32} {hd cu : Int32} (h : (x4 < 0 → post x2 (sz, la, pk, hd, cd, nb, al, cu)) ∧ (¬ x4 < 0 → (x3 = 0 → post x2 (sz, la, pk, hd, cd, nb, al, cu)) ∧ (¬ x3 = 0 → VX dX_tail post 38 [.inl x4, .inl x1, .inr 0] [some (.inr 0), some (.inl x1), some (.inl x2), none, some (.inl x4), none] (sz, la, pk, hd, cd, nb, al, cu)))) : VX dX_tail post 25 [] [some (.inr 0), some (.inl x1), some (.inl x2), some (.inl x3), some (.inl x4), none] (sz, la, pk, hd, cd, nb, al, cu) := segX okX_tail cutX_tail 300 h
theorem sgX_tail_41 {post : Int32 → SX → Prop} {x1 x2 x4 s0 : Int32} {sz la pk cd nb al : Nat → Int32} {hd cu : Int32} (h : VX dX_tail post 49 [.inl s0, .inl (1 - x1), .inr 0] [some (.inr 0), some (.inl x1), some (.inl x2), none, some (.inl x4), some (.inl s0)] (sz, la, pk, hd, cd, nb, al, cu)) : VX dX_tail post 41 [.inl s0] [some (.inr 0), some (.inl x1), some (.inl x2), none, some (.inl x4), none] (sz, la, pk, hd, cd, nb, al, cu) := segX okX_tail cutX_tail 300 h
theorem sgX_tail_52 {post : Int32 → SX → Prop} {x1 x2 x4 x5 s0 : Int32} {sz la pk cd nb al : Nat → Int32} {hd cu : Int32} (h : (s0 = 0 → VX dX_tail post 25 [] [some (.inr 0), some (.inl x1), some (.inl x2), some (.inl s0), some (.inl (x4 + (-1))), none] (sz, la, pk, hd, cd, nb, al, cu)) ∧ (¬ s0 = 0 → VX dX_tail post 25 [] [some (.inr 0), some (.inl x1), some (.inl x5), some (.inl s0), some (.inl (x4 + (-1))), none] (sz, la, pk, hd, cd, nb, al, cu))) : VX dX_tail post 52 [.inl s0] [some (.inr 0), some (.inl x1), some (.inl x2), none, some (.inl x4), some (.inl x5)] (sz, la, pk, hd, cd, nb, al, cu) := segX okX_tail cutX_tail 300 h
theorem csX_tail_2 {post post2 : Int32 → SX → Prop} {x1 s0 : Int32} {S : SX} (hC : CX yX0_badList dX_badList [s0] S post2) (k : ∀ r S1, post2 r S1 → VX dX_tail post 5 [.inl r] [some (.inr 0), some (.inl x1), none, none, none, none] S1) : VX dX_tail post 2 [.inl s0, .inr 0] [some (.inr 0), some (.inl x1), none, none, none, none] S := cllX (idx := 72) [s0] hC cwX_badList cnX_badList (by decide +kernel) ⟨by decide, by decide⟩ (Nat.le_of_ble_eq_true rfl) k
theorem csX_tail_38 {post post2 : Int32 → SX → Prop} {x1 x2 x4 s0 s1 : Int32} {S : SX} (hC : CX yX0_numberAt dX_numberAt [s1, s0] S post2) (k : ∀ r S1, post2 r S1 → VX dX_tail post 41 [.inl r] [some (.inr 0), some (.inl x1), some (.inl x2), none, some (.inl x4), none] S1) : VX dX_tail post 38 [.inl s0, .inl s1, .inr 0] [some (.inr 0), some (.inl x1), some (.inl x2), none, some (.inl x4), none] S := cllX (idx := 85) [s1, s0] hC cwX_numberAt cnX_numberAt (by decide +kernel) ⟨by decide, by decide⟩ (Nat.le_of_ble_eq_true rfl) k
theorem csX_tail_49 {post post2 : Int32 → SX → Prop} {x1 x2 x4 x5 s0 s1 : Int32} {S : SX} (hC : CX yX0_has dX_has [s1, s0] S post2) (k : ∀ r S1, post2 r S1 → VX dX_tail post 52 [.inl r] [some (.inr 0), some (.inl x1), some (.inl x2), none, some (.inl x4), some (.inl x5)] S1) : VX dX_tail post 49 [.inl s0, .inl s1, .inr 0] [some (.inr 0), some (.inl x1), some (.inl x2), none, some (.inl x4), some (.inl x5)] S := cllX (idx := 104) [s1, s0] hC cwX_has cnX_has (by decide +kernel) ⟨by decide, by decide⟩ (Nat.le_of_ble_eq_true rfl) k
end
section
set_option maxRecDepth 100000
def PM_append : List EN := [(0, .aload_n 0, 0, 0), (1, .iload_n 1, 0, 0), (2, .invokevirtual 17, 0, 0), (5, .ifCond .eq 20, 0, 25), (8, .aload_n 0, 0, 0), (9, .iload_n 2, 0, 0), (10, .invokevirtual 21, 0, 0), (13, .ifCond .eq 12, 0, 25), (16, .iload_n 2, 0, 0), (17, .aload_n 0, 0, 0), (18, .iload_n 1, 0, 0), (19, .invokevirtual 24, 0, 0), (22, .if_icmp .gt 5, 0, 27), (25, .iconst (-1), (-1), 0), (26, .ireturn, 0, 0), (27, .aload_n 0, 0, 0), (28, .getfield 13, 0, 1), (31, .iload_n 1, 0, 0), (32, .iaload, 0, 0), (33, .bipush 64, 64, 0), (35, .if_icmp .ne 6, 0, 41), (38, .bipush (-2), (-2), 0), (40, .ireturn, 0, 0), (41, .aload_n 0, 0, 0), (42, .iload_n 1, 0, 0), (43, .iload_n 2, 0, 0), (44, .invokevirtual 28, 0, 0), (47, .aload_n 0, 0, 0), (48, .getfield 13, 0, 1), (51, .iload_n 1, 0, 0), (52, .iaload, 0, 0), (53, .ireturn, 0, 0)]
abbrev dM_append : MD := (cX1_append, 3, some .int, 1, 22)
theorem okM_append : PM_append.all (okE dM_append.1 ksM flM) = true := by decide +kernel
theorem hyM_append : plainName yX1_append.cls = true ∧ yX1_append.cls = RX1 := by decide +kernel
def PM_isList : List EN := [(0, .iload_n 1, 0, 0), (1, .ifCond .eq 8, 0, 9), (4, .iload_n 1, 0, 0), (5, .iconst 1, 1, 0), (6, .if_icmp .ne 7, 0, 13), (9, .iconst 1, 1, 0), (10, .goto 4, 0, 14), (13, .iconst 0, 0, 0), (14, .ireturn, 0, 0)]
abbrev dM_isList : MD := (cX1_isList, 2, some .boolean, 0, 0)
theorem okM_isList : PM_isList.all (okE dM_isList.1 ksM flM) = true := by decide +kernel
theorem hyM_isList : plainName yX1_isList.cls = true ∧ yX1_isList.cls = RX1 := by decide +kernel
theorem cwM_isList : GoodIn lw_all (wsV RX1 17 RX1 yX1_isList (ws_ yX1_isList dM_isList.1 dM_isList.2.1 dM_isList.2.2.1)) := lw_V q233 q235 qs20 q31 q236
theorem cnM_isList : yX1_isList.cls = RX1 ∧ yX1_isList.cls ≠ "java/lang/invoke/MethodHandle" ∧ yX1_isList.cls ≠ "java/lang/invoke/VarHandle" ∧ (parseMethodDescriptor yX1_isList.desc).map (fun d => d.parameters.length) = some 1 := by decide +kernel
def PM_isNumber : List EN := [(0, .iload_n 1, 0, 0), (1, .ifCond .lt 13, 0, 14), (4, .iload_n 1, 0, 0), (5, .ldc 16, 1000000, 0), (7, .if_icmp .gt 7, 0, 14), (10, .iconst 1, 1, 0), (11, .goto 4, 0, 15), (14, .iconst 0, 0, 0), (15, .ireturn, 0, 0)]
abbrev dM_isNumber : MD := (cX1_isNumber, 2, some .boolean, 0, 0)
theorem okM_isNumber : PM_isNumber.all (okE dM_isNumber.1 ksM flM) = true := by decide +kernel
theorem hyM_isNumber : plainName yX1_isNumber.cls = true ∧ yX1_isNumber.cls = RX1 := by decide +kernel
theorem cwM_isNumber : GoodIn lw_all (wsV RX1 21 RX1 yX1_isNumber (ws_ yX1_isNumber dM_isNumber.1 dM_isNumber.2.1 dM_isNumber.2.2.1)) := lw_V q237 q239 qs21 q31 q240
theorem cnM_isNumber : yX1_isNumber.cls = RX1 ∧ yX1_isNumber.cls ≠ "java/lang/invoke/MethodHandle" ∧ yX1_isNumber.cls ≠ "java/lang/invoke/VarHandle" ∧ (parseMethodDescriptor yX1_isNumber.desc).map (fun d => d.parameters.length) = some 1 := by decide +kernel
def PM_lastOf : List EN := [(0, .aload_n 0, 0, 0), (1, .getfield 13, 0, 1), (4, .iload_n 1, 0, 0), (5, .iaload, 0, 0), (6, .ifCond .ne 7, 0, 13), (9, .iconst (-1), (-1), 0), (10, .goto 21, 0, 31), (13, .aload_n 0, 0, 0), (14, .getfield 7, 0, 0), (17, .bipush 64, 64, 0), (19, .iload_n 1, 0, 0), (20, .imul, 0, 0), (21, .aload_n 0, 0, 0), (22, .getfield 13, 0, 1), (25, .iload_n 1, 0, 0), (26, .iaload, 0, 0), (27, .iadd, 0, 0), (28, .iconst 1, 1, 0), (29, .isub, 0, 0), (30, .iaload, 0, 0), (31, .ireturn, 0, 0)]
abbrev dM_lastOf : MD := (cX1_lastOf, 2, some .int, 0, 0)
theorem okM_lastOf : PM_lastOf.all (okE dM_lastOf.1 ksM flM) = true := by decide +kernel
theorem hyM_lastOf : plainName yX1_lastOf.cls = true ∧ yX1_lastOf.cls = RX1 := by decide +kernel
theorem cwM_lastOf : GoodIn lw_all (wsV RX1 24 RX1 yX1_lastOf (ws_ yX1_lastOf dM_lastOf.1 dM_lastOf.2.1 dM_lastOf.2.2.1)) := lw_V q242 q244 qs22 q31 q245
theorem cnM_lastOf : yX1_lastOf.cls = RX1 ∧ yX1_lastOf.cls ≠ "java/lang/invoke/MethodHandle" ∧ yX1_lastOf.cls ≠ "java/lang/invoke/VarHandle" ∧ (parseMethodDescriptor yX1_lastOf.desc).map (fun d => d.parameters.length) = some 1 := by decide +kernel
def PM_put : List EN := [(0, .aload_n 0, 0, 0), (1, .getfield 7, 0, 0), (4, .bipush 64, 64, 0), (6, .iload_n 1, 0, 0), (7, .imul, 0, 0), (8, .aload_n 0, 0, 0), (9, .getfield 13, 0, 1), (12, .iload_n 1, 0, 0), (13, .iaload, 0, 0), (14, .iadd, 0, 0), (15, .iload_n 2, 0, 0), (16, .iastore, 0, 0), (17, .aload_n 0, 0, 0), (18, .getfield 13, 0, 1), (21, .iload_n 1, 0, 0), (22, .dup2, 0, 0), (23, .iaload, 0, 0), (24, .iconst 1, 1, 0), (25, .iadd, 0, 0), (26, .iastore, 0, 0), (27, .return_, 0, 0)]
abbrev dM_put : MD := (cX1_put, 3, none, 0, 0)
theorem okM_put : PM_put.all (okE dM_put.1 ksM flM) = true := by decide +kernel
theorem hyM_put : plainName yX1_put.cls = true ∧ yX1_put.cls = RX1 := by decide +kernel
theorem cwM_put : GoodIn lw_all (wsV RX1 28 RX1 yX1_put (ws_ yX1_put dM_put.1 dM_put.2.1 dM_put.2.2.1)) := lw_V q246 q248 qs23 q31 q249
theorem cnM_put : yX1_put.cls = RX1 ∧ yX1_put.cls ≠ "java/lang/invoke/MethodHandle" ∧ yX1_put.cls ≠ "java/lang/invoke/VarHandle" ∧ (parseMethodDescriptor yX1_put.desc).map (fun d => d.parameters.length) = some 2 := by decide +kernel
def PM_run : List EN := [(0, .aload_n 0, 0, 0), (1, .iload_n 1, 0, 0), (2, .invokevirtual 17, 0, 0), (5, .ifCond .eq 25, 0, 30), (8, .iload_n 2, 0, 0), (9, .ifCond .lt 21, 0, 30), (12, .iload_n 2, 0, 0), (13, .bipush 64, 64, 0), (15, .if_icmp .gt 15, 0, 30), (18, .iload_n 3, 0, 0), (19, .iconst 1, 1, 0), (20, .if_icmp .lt 10, 0, 30), (23, .iload_n 3, 0, 0), (24, .sipush 1000, 1000, 0), (27, .if_icmp .le 5, 0, 32), (30, .iconst (-1), (-1), 0), (31, .ireturn, 0, 0), (32, .aload_n 0, 0, 0), (33, .getfield 13, 0, 1), (36, .iload_n 1, 0, 0), (37, .iaload, 0, 0), (38, .iload_n 2, 0, 0), (39, .iadd, 0, 0), (40, .bipush 64, 64, 0), (42, .if_icmp .le 6, 0, 48), (45, .bipush (-2), (-2), 0), (47, .ireturn, 0, 0), (48, .aload_n 0, 0, 0), (49, .iload_n 1, 0, 0), (50, .invokevirtual 24, 0, 0), (53, .iload_n 2, 0, 0), (54, .iload_n 3, 0, 0), (55, .imul, 0, 0), (56, .iadd, 0, 0), (57, .ldc 16, 1000000, 0), (59, .if_icmp .le 5, 0, 64), (62, .iconst (-1), (-1), 0), (63, .ireturn, 0, 0), (64, .iconst 0, 0, 0), (65, .istore 4, 0, 0), (67, .iload 4, 0, 0), (69, .iload_n 2, 0, 0), (70, .if_icmp .ge 25, 0, 95), (73, .aload_n 0, 0, 0), (74, .iload_n 1, 0, 0), (75, .invokevirtual 24, 0, 0), (78, .iload_n 3, 0, 0), (79, .iadd, 0, 0), (80, .istore 5, 0, 0), (82, .aload_n 0, 0, 0), (83, .iload_n 1, 0, 0), (84, .iload 5, 0, 0), (86, .invokevirtual 28, 0, 0), (89, .iinc 4 1, 1, 0), (92, .goto (-25), 0, 67), (95, .aload_n 0, 0, 0), (96, .getfield 13, 0, 1), (99, .iload_n 1, 0, 0), (100, .iaload, 0, 0), (101, .ireturn, 0, 0)]
abbrev dM_run : MD := (cX1_run, 6, some .int, 1, 22)
theorem okM_run : PM_run.all (okE dM_run.1 ksM flM) = true := by decide +kernel
theorem hyM_run : plainName yX1_run.cls = true ∧ yX1_run.cls = RX1 := by decide +kernel
def PM_insert : List EN := [(0, .aload_n 0, 0, 0), (1, .iload_n 1, 0, 0), (2, .invokevirtual 17, 0, 0), (5, .ifCond .eq 11, 0, 16), (8, .aload_n 0, 0, 0), (9, .iload_n 2, 0, 0), (10, .invokevirtual 21, 0, 0), (13, .ifCond .ne 5, 0, 18), (16, .iconst (-1), (-1), 0), (17, .ireturn, 0, 0), (18, .aload_n 0, 0, 0), (19, .iload_n 1, 0, 0), (20, .iload_n 2, 0, 0), (21, .invokevirtual 32, 0, 0), (24, .ifCond .eq 6, 0, 30), (27, .bipush (-4), (-4), 0), (29, .ireturn, 0, 0), (30, .aload_n 0, 0, 0), (31, .getfield 13, 0, 1), (34, .iload_n 1, 0, 0), (35, .iaload, 0, 0), (36, .bipush 64, 64, 0), (38, .if_icmp .ne 6, 0, 44), (41, .bipush (-2), (-2), 0), (43, .ireturn, 0, 0), (44, .iconst 0, 0, 0), (45, .istore_n 3, 0, 0), (46, .aload_n 0, 0, 0), (47, .getfield 13, 0, 1), (50, .iload_n 1, 0, 0), (51, .iaload, 0, 0), (52, .istore 4, 0, 0), (54, .iload 4, 0, 0), (56, .ifCond .le 59, 0, 115), (59, .aload_n 0, 0, 0), (60, .getfield 7, 0, 0), (63, .bipush 64, 64, 0), (65, .iload_n 1, 0, 0), (66, .imul, 0, 0), (67, .iload 4, 0, 0), (69, .iadd, 0, 0), (70, .iconst 1, 1, 0), (71, .isub, 0, 0), (72, .iaload, 0, 0), (73, .iload_n 2, 0, 0), (74, .if_icmp .le 32, 0, 106), (77, .aload_n 0, 0, 0), (78, .getfield 7, 0, 0), (81, .bipush 64, 64, 0), (83, .iload_n 1, 0, 0), (84, .imul, 0, 0), (85, .iload 4, 0, 0), (87, .iadd, 0, 0), (88, .aload_n 0, 0, 0), (89, .getfield 7, 0, 0), (92, .bipush 64, 64, 0), (94, .iload_n 1, 0, 0), (95, .imul, 0, 0), (96, .iload 4, 0, 0), (98, .iadd, 0, 0), (99, .iconst 1, 1, 0), (100, .isub, 0, 0), (101, .iaload, 0, 0), (102, .iastore, 0, 0), (103, .goto 6, 0, 109), (106, .iinc 3 1, 1, 0), (109, .iinc 4 (-1), (-1), 0), (112, .goto (-58), 0, 54), (115, .aload_n 0, 0, 0), (116, .getfield 7, 0, 0), (119, .bipush 64, 64, 0), (121, .iload_n 1, 0, 0), (122, .imul, 0, 0), (123, .iload_n 3, 0, 0), (124, .iadd, 0, 0), (125, .iload_n 2, 0, 0), (126, .iastore, 0, 0), (127, .aload_n 0, 0, 0), (128, .getfield 13, 0, 1), (131, .iload_n 1, 0, 0), (132, .dup2, 0, 0), (133, .iaload, 0, 0), (134, .iconst 1, 1, 0), (135, .iadd, 0, 0), (136, .iastore, 0, 0), (137, .iload_n 3, 0, 0), (138, .ireturn, 0, 0)]
abbrev dM_insert : MD := (cX1_insert, 5, some .int, 2, 44)
theorem okM_insert : PM_insert.all (okE dM_insert.1 ksM flM) = true := by decide +kernel
theorem hyM_insert : plainName yX1_insert.cls = true ∧ yX1_insert.cls = RX1 := by decide +kernel
def PM_has : List EN := [(0, .aload_n 0, 0, 0), (1, .iload_n 1, 0, 0), (2, .invokevirtual 17, 0, 0), (5, .ifCond .ne 5, 0, 10), (8, .iconst 0, 0, 0), (9, .ireturn, 0, 0), (10, .iconst 0, 0, 0), (11, .istore_n 3, 0, 0), (12, .iload_n 3, 0, 0), (13, .aload_n 0, 0, 0), (14, .getfield 13, 0, 1), (17, .iload_n 1, 0, 0), (18, .iaload, 0, 0), (19, .if_icmp .ge 26, 0, 45), (22, .aload_n 0, 0, 0), (23, .getfield 7, 0, 0), (26, .bipush 64, 64, 0), (28, .iload_n 1, 0, 0), (29, .imul, 0, 0), (30, .iload_n 3, 0, 0), (31, .iadd, 0, 0), (32, .iaload, 0, 0), (33, .iload_n 2, 0, 0), (34, .if_icmp .ne 5, 0, 39), (37, .iconst 1, 1, 0), (38, .ireturn, 0, 0), (39, .iinc 3 1, 1, 0), (42, .goto (-30), 0, 12), (45, .iconst 0, 0, 0), (46, .ireturn, 0, 0)]
abbrev dM_has : MD := (cX1_has, 4, some .boolean, 1, 21)
theorem okM_has : PM_has.all (okE dM_has.1 ksM flM) = true := by decide +kernel
theorem hyM_has : plainName yX1_has.cls = true ∧ yX1_has.cls = RX1 := by decide +kernel
theorem cwM_has : GoodIn lw_all (wsV RX1 32 RX1 yX1_has (ws_ yX1_has dM_has.1 dM_has.2.1 dM_has.2.2.1)) := lw_V q258 q259 q260 q31 q261
theorem cnM_has : yX1_has.cls = RX1 ∧ yX1_has.cls ≠ "java/lang/invoke/MethodHandle" ∧ yX1_has.cls ≠ "java/lang/invoke/VarHandle" ∧ (parseMethodDescriptor yX1_has.desc).map (fun d => d.parameters.length) = some 2 := by decide +kernel
def PM_remove : List EN := [(0, .aload_n 0, 0, 0), (1, .iload_n 1, 0, 0), (2, .invokevirtual 17, 0, 0), (5, .ifCond .ne 5, 0, 10), (8, .iconst (-1), (-1), 0), (9, .ireturn, 0, 0), (10, .aload_n 0, 0, 0), (11, .iload_n 1, 0, 0), (12, .iload_n 2, 0, 0), (13, .invokevirtual 32, 0, 0), (16, .ifCond .ne 6, 0, 22), (19, .bipush (-4), (-4), 0), (21, .ireturn, 0, 0), (22, .aload_n 0, 0, 0), (23, .iload_n 1, 0, 0), (24, .iload_n 2, 0, 0), (25, .invokevirtual 36, 0, 0), (28, .istore_n 3, 0, 0), (29, .iload_n 3, 0, 0), (30, .iconst 1, 1, 0), (31, .iadd, 0, 0), (32, .istore 4, 0, 0), (34, .iload 4, 0, 0), (36, .aload_n 0, 0, 0), (37, .getfield 13, 0, 1), (40, .iload_n 1, 0, 0), (41, .iaload, 0, 0), (42, .if_icmp .ge 35, 0, 77), (45, .aload_n 0, 0, 0), (46, .getfield 7, 0, 0), (49, .bipush 64, 64, 0), (51, .iload_n 1, 0, 0), (52, .imul, 0, 0), (53, .iload 4, 0, 0), (55, .iadd, 0, 0), (56, .iconst 1, 1, 0), (57, .isub, 0, 0), (58, .aload_n 0, 0, 0), (59, .getfield 7, 0, 0), (62, .bipush 64, 64, 0), (64, .iload_n 1, 0, 0), (65, .imul, 0, 0), (66, .iload 4, 0, 0), (68, .iadd, 0, 0), (69, .iaload, 0, 0), (70, .iastore, 0, 0), (71, .iinc 4 1, 1, 0), (74, .goto (-40), 0, 34), (77, .aload_n 0, 0, 0), (78, .getfield 13, 0, 1), (81, .iload_n 1, 0, 0), (82, .dup2, 0, 0), (83, .iaload, 0, 0), (84, .iconst 1, 1, 0), (85, .isub, 0, 0), (86, .iastore, 0, 0), (87, .iload_n 3, 0, 0), (88, .ireturn, 0, 0)]
abbrev dM_remove : MD := (cX1_remove, 5, some .int, 2, 44)
theorem okM_remove : PM_remove.all (okE dM_remove.1 ksM flM) = true := by decide +kernel
theorem hyM_remove : plainName yX1_remove.cls = true ∧ yX1_remove.cls = RX1 := by decide +kernel
def PM_seek : List EN := [(0, .aload_n 0, 0, 0), (1, .iload_n 1, 0, 0), (2, .invokevirtual 17, 0, 0), (5, .ifCond .ne 5, 0, 10), (8, .iconst (-1), (-1), 0), (9, .ireturn, 0, 0), (10, .iconst 0, 0, 0), (11, .istore_n 3, 0, 0), (12, .iload_n 3, 0, 0), (13, .aload_n 0, 0, 0), (14, .getfield 13, 0, 1), (17, .iload_n 1, 0, 0), (18, .iaload, 0, 0), (19, .if_icmp .ge 26, 0, 45), (22, .aload_n 0, 0, 0), (23, .getfield 7, 0, 0), (26, .bipush 64, 64, 0), (28, .iload_n 1, 0, 0), (29, .imul, 0, 0), (30, .iload_n 3, 0, 0), (31, .iadd, 0, 0), (32, .iaload, 0, 0), (33, .iload_n 2, 0, 0), (34, .if_icmp .lt 5, 0, 39), (37, .iload_n 3, 0, 0), (38, .ireturn, 0, 0), (39, .iinc 3 1, 1, 0), (42, .goto (-30), 0, 12), (45, .bipush (-4), (-4), 0), (47, .ireturn, 0, 0)]
abbrev dM_seek : MD := (cX1_seek, 4, some .int, 1, 21)
theorem okM_seek : PM_seek.all (okE dM_seek.1 ksM flM) = true := by decide +kernel
theorem hyM_seek : plainName yX1_seek.cls = true ∧ yX1_seek.cls = RX1 := by decide +kernel
theorem cwM_seek : GoodIn lw_all (wsV RX1 36 RX1 yX1_seek (ws_ yX1_seek dM_seek.1 dM_seek.2.1 dM_seek.2.2.1)) := lw_V q266 q267 q268 q31 q269
theorem cnM_seek : yX1_seek.cls = RX1 ∧ yX1_seek.cls ≠ "java/lang/invoke/MethodHandle" ∧ yX1_seek.cls ≠ "java/lang/invoke/VarHandle" ∧ (parseMethodDescriptor yX1_seek.desc).map (fun d => d.parameters.length) = some 2 := by decide +kernel
def PM_clear : List EN := [(0, .aload_n 0, 0, 0), (1, .iload_n 1, 0, 0), (2, .invokevirtual 17, 0, 0), (5, .ifCond .ne 5, 0, 10), (8, .iconst (-1), (-1), 0), (9, .ireturn, 0, 0), (10, .aload_n 0, 0, 0), (11, .getfield 13, 0, 1), (14, .iload_n 1, 0, 0), (15, .iaload, 0, 0), (16, .istore_n 2, 0, 0), (17, .aload_n 0, 0, 0), (18, .getfield 13, 0, 1), (21, .iload_n 1, 0, 0), (22, .iconst 0, 0, 0), (23, .iastore, 0, 0), (24, .iload_n 2, 0, 0), (25, .ireturn, 0, 0)]
abbrev dM_clear : MD := (cX1_clear, 3, some .int, 1, 21)
theorem okM_clear : PM_clear.all (okE dM_clear.1 ksM flM) = true := by decide +kernel
theorem hyM_clear : plainName yX1_clear.cls = true ∧ yX1_clear.cls = RX1 := by decide +kernel
def PM_size : List EN := [(0, .aload_n 0, 0, 0), (1, .iload_n 1, 0, 0), (2, .invokevirtual 17, 0, 0), (5, .ifCond .eq 12, 0, 17), (8, .aload_n 0, 0, 0), (9, .getfield 13, 0, 1), (12, .iload_n 1, 0, 0), (13, .iaload, 0, 0), (14, .goto 4, 0, 18), (17, .iconst (-1), (-1), 0), (18, .ireturn, 0, 0)]
abbrev dM_size : MD := (cX1_size, 2, some .int, 1, 21)
theorem okM_size : PM_size.all (okE dM_size.1 ksM flM) = true := by decide +kernel
theorem hyM_size : plainName yX1_size.cls = true ∧ yX1_size.cls = RX1 := by decide +kernel
def PM_at : List EN := [(0, .aload_n 0, 0, 0), (1, .iload_n 1, 0, 0), (2, .invokevirtual 17, 0, 0), (5, .ifCond .ne 5, 0, 10), (8, .iconst (-1), (-1), 0), (9, .ireturn, 0, 0), (10, .iload_n 2, 0, 0), (11, .ifCond .lt 13, 0, 24), (14, .iload_n 2, 0, 0), (15, .aload_n 0, 0, 0), (16, .getfield 13, 0, 1), (19, .iload_n 1, 0, 0), (20, .iaload, 0, 0), (21, .if_icmp .lt 8, 0, 29), (24, .bipush (-4), (-4), 0), (26, .goto 14, 0, 40), (29, .aload_n 0, 0, 0), (30, .getfield 7, 0, 0), (33, .bipush 64, 64, 0), (35, .iload_n 1, 0, 0), (36, .imul, 0, 0), (37, .iload_n 2, 0, 0), (38, .iadd, 0, 0), (39, .iaload, 0, 0), (40, .ireturn, 0, 0)]
abbrev dM_at : MD := (cX1_at, 3, some .int, 1, 21)
theorem okM_at : PM_at.all (okE dM_at.1 ksM flM) = true := by decide +kernel
theorem hyM_at : plainName yX1_at.cls = true ∧ yX1_at.cls = RX1 := by decide +kernel
def PM_sum : List EN := [(0, .aload_n 0, 0, 0), (1, .iload_n 1, 0, 0), (2, .invokevirtual 17, 0, 0), (5, .ifCond .ne 5, 0, 10), (8, .iconst (-1), (-1), 0), (9, .ireturn, 0, 0), (10, .iconst 0, 0, 0), (11, .istore 4, 0, 0), (13, .iconst 0, 0, 0), (14, .istore 5, 0, 0), (16, .iload 5, 0, 0), (18, .aload_n 0, 0, 0), (19, .getfield 13, 0, 1), (22, .iload_n 1, 0, 0), (23, .iaload, 0, 0), (24, .if_icmp .ge 38, 0, 62), (27, .iload 5, 0, 0), (29, .iload_n 2, 0, 0), (30, .if_icmp .lt 26, 0, 56), (33, .iload 5, 0, 0), (35, .iload_n 3, 0, 0), (36, .if_icmp .gt 20, 0, 56), (39, .iload 4, 0, 0), (41, .aload_n 0, 0, 0), (42, .getfield 7, 0, 0), (45, .bipush 64, 64, 0), (47, .iload_n 1, 0, 0), (48, .imul, 0, 0), (49, .iload 5, 0, 0), (51, .iadd, 0, 0), (52, .iaload, 0, 0), (53, .iadd, 0, 0), (54, .istore 4, 0, 0), (56, .iinc 5 1, 1, 0), (59, .goto (-43), 0, 16), (62, .iload 4, 0, 0), (64, .ireturn, 0, 0)]
abbrev dM_sum : MD := (cX1_sum, 6, some .int, 1, 21)
theorem okM_sum : PM_sum.all (okE dM_sum.1 ksM flM) = true := by decide +kernel
theorem hyM_sum : plainName yX1_sum.cls = true ∧ yX1_sum.cls = RX1 := by decide +kernel
def PM_blocks : List EN := [(0, .aload_n 0, 0, 0), (1, .iload_n 1, 0, 0), (2, .invokevirtual 17, 0, 0), (5, .ifCond .eq 18, 0, 23), (8, .aload_n 0, 0, 0), (9, .getfield 13, 0, 1), (12, .iload_n 1, 0, 0), (13, .iaload, 0, 0), (14, .bipush 7, 7, 0), (16, .iadd, 0, 0), (17, .bipush 8, 8, 0), (19, .idiv, 0, 0), (20, .goto 4, 0, 24), (23, .iconst (-1), (-1), 0), (24, .ireturn, 0, 0)]
abbrev dM_blocks : MD := (cX1_blocks, 2, some .int, 1, 21)
theorem okM_blocks : PM_blocks.all (okE dM_blocks.1 ksM flM) = true := by decide +kernel
theorem hyM_blocks : plainName yX1_blocks.cls = true ∧ yX1_blocks.cls = RX1 := by decide +kernel
def PM_base : List EN := [(0, .aload_n 0, 0, 0), (1, .iload_n 1, 0, 0), (2, .invokevirtual 17, 0, 0), (5, .ifCond .ne 5, 0, 10), (8, .iconst (-1), (-1), 0), (9, .ireturn, 0, 0), (10, .aload_n 0, 0, 0), (11, .iload_n 1, 0, 0), (12, .iload_n 2, 0, 0), (13, .invokevirtual 50, 0, 0), (16, .ifCond .eq 12, 0, 28), (19, .aload_n 0, 0, 0), (20, .iload_n 1, 0, 0), (21, .iload_n 2, 0, 0), (22, .invokevirtual 53, 0, 0), (25, .goto 5, 0, 30), (28, .bipush (-4), (-4), 0), (30, .ireturn, 0, 0)]
abbrev dM_base : MD := (cX1_base, 3, some .int, 3, 74)
theorem okM_base : PM_base.all (okE dM_base.1 ksM flM) = true := by decide +kernel
theorem hyM_base : plainName yX1_base.cls = true ∧ yX1_base.cls = RX1 := by decide +kernel
def PM_isBlock : List EN := [(0, .iload_n 2, 0, 0), (1, .ifCond .lt 23, 0, 24), (4, .iload_n 2, 0, 0), (5, .aload_n 0, 0, 0), (6, .getfield 13, 0, 1), (9, .iload_n 1, 0, 0), (10, .iaload, 0, 0), (11, .bipush 7, 7, 0), (13, .iadd, 0, 0), (14, .bipush 8, 8, 0), (16, .idiv, 0, 0), (17, .if_icmp .ge 7, 0, 24), (20, .iconst 1, 1, 0), (21, .goto 4, 0, 25), (24, .iconst 0, 0, 0), (25, .ireturn, 0, 0)]
abbrev dM_isBlock : MD := (cX1_isBlock, 3, some .boolean, 0, 0)
theorem okM_isBlock : PM_isBlock.all (okE dM_isBlock.1 ksM flM) = true := by decide +kernel
theorem hyM_isBlock : plainName yX1_isBlock.cls = true ∧ yX1_isBlock.cls = RX1 := by decide +kernel
theorem cwM_isBlock : GoodIn lw_all (wsV RX1 50 RX1 yX1_isBlock (ws_ yX1_isBlock dM_isBlock.1 dM_isBlock.2.1 dM_isBlock.2.2.1)) := lw_V q296 q298 qs24 q31 q299
theorem cnM_isBlock : yX1_isBlock.cls = RX1 ∧ yX1_isBlock.cls ≠ "java/lang/invoke/MethodHandle" ∧ yX1_isBlock.cls ≠ "java/lang/invoke/VarHandle" ∧ (parseMethodDescriptor yX1_isBlock.desc).map (fun d => d.parameters.length) = some 2 := by decide +kernel
def PM_bestBase : List EN := [(0, .iconst 0, 0, 0), (1, .istore_n 3, 0, 0), (2, .iconst 1, 1, 0), (3, .istore 4, 0, 0), (5, .iload 4, 0, 0), (7, .bipush 20, 20, 0), (9, .if_icmp .gt 30, 0, 39), (12, .aload_n 0, 0, 0), (13, .iload_n 1, 0, 0), (14, .iload_n 2, 0, 0), (15, .iload 4, 0, 0), (17, .invokevirtual 46, 0, 0), (20, .aload_n 0, 0, 0), (21, .iload_n 1, 0, 0), (22, .iload_n 2, 0, 0), (23, .iload_n 3, 0, 0), (24, .invokevirtual 46, 0, 0), (27, .if_icmp .ge 6, 0, 33), (30, .iload 4, 0, 0), (32, .istore_n 3, 0, 0), (33, .iinc 4 1, 1, 0), (36, .goto (-31), 0, 5), (39, .iload_n 3, 0, 0), (40, .ireturn, 0, 0)]
abbrev dM_bestBase : MD := (cX1_bestBase, 5, some .int, 2, 50)
theorem okM_bestBase : PM_bestBase.all (okE dM_bestBase.1 ksM flM) = true := by decide +kernel
theorem hyM_bestBase : plainName yX1_bestBase.cls = true ∧ yX1_bestBase.cls = RX1 := by decide +kernel
theorem cwM_bestBase : GoodIn lw_all (wsV RX1 53 RX1 yX1_bestBase (ws_ yX1_bestBase dM_bestBase.1 dM_bestBase.2.1 dM_bestBase.2.2.1)) := lw_V q300 q302 qs25 q31 q303
theorem cnM_bestBase : yX1_bestBase.cls = RX1 ∧ yX1_bestBase.cls ≠ "java/lang/invoke/MethodHandle" ∧ yX1_bestBase.cls ≠ "java/lang/invoke/VarHandle" ∧ (parseMethodDescriptor yX1_bestBase.desc).map (fun d => d.parameters.length) = some 2 := by decide +kernel
def PM_sizeAt : List EN := [(0, .bipush 9, 9, 0), (2, .istore 4, 0, 0), (4, .bipush 8, 8, 0), (6, .iload_n 2, 0, 0), (7, .imul, 0, 0), (8, .istore 5, 0, 0), (10, .iload 5, 0, 0), (12, .bipush 8, 8, 0), (14, .iload_n 2, 0, 0), (15, .imul, 0, 0), (16, .bipush 8, 8, 0), (18, .iadd, 0, 0), (19, .if_icmp .ge 61, 0, 80), (22, .iload 5, 0, 0), (24, .aload_n 0, 0, 0), (25, .getfield 13, 0, 1), (28, .iload_n 1, 0, 0), (29, .iaload, 0, 0), (30, .if_icmp .ge 50, 0, 80), (33, .aload_n 0, 0, 0), (34, .iload_n 1, 0, 0), (35, .iload 5, 0, 0), (37, .invokevirtual 40, 0, 0), (40, .istore 6, 0, 0), (42, .aload_n 0, 0, 0), (43, .iload 6, 0, 0), (45, .invokevirtual 43, 0, 0), (48, .istore 7, 0, 0), (50, .iload 4, 0, 0), (52, .iload 7, 0, 0), (54, .iload_n 3, 0, 0), (55, .if_icmp .gt 7, 0, 62), (58, .iload_n 3, 0, 0), (59, .goto 12, 0, 71), (62, .iload_n 3, 0, 0), (63, .bipush 8, 8, 0), (65, .iadd, 0, 0), (66, .iload 7, 0, 0), (68, .iadd, 0, 0), (69, .iload_n 3, 0, 0), (70, .isub, 0, 0), (71, .iadd, 0, 0), (72, .istore 4, 0, 0), (74, .iinc 5 1, 1, 0), (77, .goto (-67), 0, 10), (80, .iload 4, 0, 0), (82, .ireturn, 0, 0)]
abbrev dM_sizeAt : MD := (cX1_sizeAt, 8, some .int, 1, 23)
theorem okM_sizeAt : PM_sizeAt.all (okE dM_sizeAt.1 ksM flM) = true := by decide +kernel
theorem hyM_sizeAt : plainName yX1_sizeAt.cls = true ∧ yX1_sizeAt.cls = RX1 := by decide +kernel
theorem cwM_sizeAt : GoodIn lw_all (wsV RX1 46 RX1 yX1_sizeAt (ws_ yX1_sizeAt dM_sizeAt.1 dM_sizeAt.2.1 dM_sizeAt.2.2.1)) := lw_V q304 q306 qs26 q31 q307
theorem cnM_sizeAt : yX1_sizeAt.cls = RX1 ∧ yX1_sizeAt.cls ≠ "java/lang/invoke/MethodHandle" ∧ yX1_sizeAt.cls ≠ "java/lang/invoke/VarHandle" ∧ (parseMethodDescriptor yX1_sizeAt.desc).map (fun d => d.parameters.length) = some 3 := by decide +kernel
def PM_codeAt : List EN := [(0, .iload_n 2, 0, 0), (1, .ifCond .ne 7, 0, 8), (4, .iconst (-1), (-1), 0), (5, .goto 16, 0, 21), (8, .aload_n 0, 0, 0), (9, .getfield 7, 0, 0), (12, .bipush 64, 64, 0), (14, .iload_n 1, 0, 0), (15, .imul, 0, 0), (16, .iload_n 2, 0, 0), (17, .iadd, 0, 0), (18, .iconst 1, 1, 0), (19, .isub, 0, 0), (20, .iaload, 0, 0), (21, .istore_n 3, 0, 0), (22, .aload_n 0, 0, 0), (23, .getfield 7, 0, 0), (26, .bipush 64, 64, 0), (28, .iload_n 1, 0, 0), (29, .imul, 0, 0), (30, .iload_n 2, 0, 0), (31, .iadd, 0, 0), (32, .iaload, 0, 0), (33, .iload_n 3, 0, 0), (34, .isub, 0, 0), (35, .iconst 1, 1, 0), (36, .isub, 0, 0), (37, .ireturn, 0, 0)]
abbrev dM_codeAt : MD := (cX1_codeAt, 4, some .int, 0, 0)
theorem okM_codeAt : PM_codeAt.all (okE dM_codeAt.1 ksM flM) = true := by decide +kernel
theorem hyM_codeAt : plainName yX1_codeAt.cls = true ∧ yX1_codeAt.cls = RX1 := by decide +kernel
theorem cwM_codeAt : GoodIn lw_all (wsV RX1 40 RX1 yX1_codeAt (ws_ yX1_codeAt dM_codeAt.1 dM_codeAt.2.1 dM_codeAt.2.2.1)) := lw_V q308 q310 qs27 q31 q311
theorem cnM_codeAt : yX1_codeAt.cls = RX1 ∧ yX1_codeAt.cls ≠ "java/lang/invoke/MethodHandle" ∧ yX1_codeAt.cls ≠ "java/lang/invoke/VarHandle" ∧ (parseMethodDescriptor yX1_codeAt.desc).map (fun d => d.parameters.length) = some 2 := by decide +kernel
def PM_widthOf : List EN := [(0, .iconst 0, 0, 0), (1, .istore_n 2, 0, 0), (2, .iload_n 2, 0, 0), (3, .bipush 20, 20, 0), (5, .if_icmp .ge 16, 0, 21), (8, .iload_n 1, 0, 0), (9, .iconst 1, 1, 0), (10, .iload_n 2, 0, 0), (11, .ishl, 0, 0), (12, .if_icmp .lt 9, 0, 21), (15, .iinc 2 1, 1, 0), (18, .goto (-16), 0, 2), (21, .iload_n 2, 0, 0), (22, .ireturn, 0, 0)]
abbrev dM_widthOf : MD := (cX1_widthOf, 3, some .int, 0, 0)
theorem okM_widthOf : PM_widthOf.all (okE dM_widthOf.1 ksM flM) = true := by decide +kernel
theorem hyM_widthOf : plainName yX1_widthOf.cls = true ∧ yX1_widthOf.cls = RX1 := by decide +kernel
theorem cwM_widthOf : GoodIn lw_all (wsV RX1 43 RX1 yX1_widthOf (ws_ yX1_widthOf dM_widthOf.1 dM_widthOf.2.1 dM_widthOf.2.2.1)) := lw_V q312 q314 qs28 q31 q315
theorem cnM_widthOf : yX1_widthOf.cls = RX1 ∧ yX1_widthOf.cls ≠ "java/lang/invoke/MethodHandle" ∧ yX1_widthOf.cls ≠ "java/lang/invoke/VarHandle" ∧ (parseMethodDescriptor yX1_widthOf.desc).map (fun d => d.parameters.length) = some 1 := by decide +kernel
def PM_blockSize : List EN := [(0, .aload_n 0, 0, 0), (1, .iload_n 1, 0, 0), (2, .invokevirtual 17, 0, 0), (5, .ifCond .ne 5, 0, 10), (8, .iconst (-1), (-1), 0), (9, .ireturn, 0, 0), (10, .aload_n 0, 0, 0), (11, .iload_n 1, 0, 0), (12, .iload_n 2, 0, 0), (13, .invokevirtual 50, 0, 0), (16, .ifCond .ne 6, 0, 22), (19, .bipush (-4), (-4), 0), (21, .ireturn, 0, 0), (22, .aload_n 0, 0, 0), (23, .iload_n 1, 0, 0), (24, .iload_n 2, 0, 0), (25, .invokevirtual 53, 0, 0), (28, .istore_n 3, 0, 0), (29, .aload_n 0, 0, 0), (30, .iload_n 1, 0, 0), (31, .iload_n 2, 0, 0), (32, .iload_n 3, 0, 0), (33, .invokevirtual 46, 0, 0), (36, .ireturn, 0, 0)]
abbrev dM_blockSize : MD := (cX1_blockSize, 4, some .int, 3, 74)
theorem okM_blockSize : PM_blockSize.all (okE dM_blockSize.1 ksM flM) = true := by decide +kernel
theorem hyM_blockSize : plainName yX1_blockSize.cls = true ∧ yX1_blockSize.cls = RX1 := by decide +kernel
theorem cwM_blockSize : GoodIn lw_all (wsV RX1 56 RX1 yX1_blockSize (ws_ yX1_blockSize dM_blockSize.1 dM_blockSize.2.1 dM_blockSize.2.2.1)) := lw_V q324 q317 q318 q31 q319
theorem cnM_blockSize : yX1_blockSize.cls = RX1 ∧ yX1_blockSize.cls ≠ "java/lang/invoke/MethodHandle" ∧ yX1_blockSize.cls ≠ "java/lang/invoke/VarHandle" ∧ (parseMethodDescriptor yX1_blockSize.desc).map (fun d => d.parameters.length) = some 2 := by decide +kernel
def PM_packed : List EN := [(0, .iconst 0, 0, 0), (1, .istore_n 1, 0, 0), (2, .iconst 0, 0, 0), (3, .istore_n 2, 0, 0), (4, .iload_n 2, 0, 0), (5, .iconst 2, 2, 0), (6, .if_icmp .ge 42, 0, 48), (9, .iconst 0, 0, 0), (10, .istore_n 3, 0, 0), (11, .iload_n 3, 0, 0), (12, .aload_n 0, 0, 0), (13, .getfield 13, 0, 1), (16, .iload_n 2, 0, 0), (17, .iaload, 0, 0), (18, .bipush 7, 7, 0), (20, .iadd, 0, 0), (21, .bipush 8, 8, 0), (23, .idiv, 0, 0), (24, .if_icmp .ge 18, 0, 42), (27, .iload_n 1, 0, 0), (28, .aload_n 0, 0, 0), (29, .iload_n 2, 0, 0), (30, .iload_n 3, 0, 0), (31, .invokevirtual 56, 0, 0), (34, .iadd, 0, 0), (35, .istore_n 1, 0, 0), (36, .iinc 3 1, 1, 0), (39, .goto (-28), 0, 11), (42, .iinc 2 1, 1, 0), (45, .goto (-41), 0, 4), (48, .iload_n 1, 0, 0), (49, .ireturn, 0, 0)]
abbrev dM_packed : MD := (cX1_packed, 4, some .int, 4, 97)
theorem okM_packed : PM_packed.all (okE dM_packed.1 ksM flM) = true := by decide +kernel
theorem hyM_packed : plainName yX1_packed.cls = true ∧ yX1_packed.cls = RX1 := by decide +kernel
def PM_common : List EN := [(0, .iconst 0, 0, 0), (1, .istore_n 1, 0, 0), (2, .iconst 0, 0, 0), (3, .istore_n 2, 0, 0), (4, .iload_n 2, 0, 0), (5, .aload_n 0, 0, 0), (6, .getfield 13, 0, 1), (9, .iconst 0, 0, 0), (10, .iaload, 0, 0), (11, .if_icmp .ge 26, 0, 37), (14, .aload_n 0, 0, 0), (15, .iconst 1, 1, 0), (16, .aload_n 0, 0, 0), (17, .getfield 7, 0, 0), (20, .iload_n 2, 0, 0), (21, .iaload, 0, 0), (22, .invokevirtual 32, 0, 0), (25, .ifCond .eq 6, 0, 31), (28, .iinc 1 1, 1, 0), (31, .iinc 2 1, 1, 0), (34, .goto (-30), 0, 4), (37, .iload_n 1, 0, 0), (38, .ireturn, 0, 0)]
abbrev dM_common : MD := (cX1_common, 3, some .int, 2, 44)
theorem okM_common : PM_common.all (okE dM_common.1 ksM flM) = true := by decide +kernel
theorem hyM_common : plainName yX1_common.cls = true ∧ yX1_common.cls = RX1 := by decide +kernel
def PM_commonAt : List EN := [(0, .iconst 0, 0, 0), (1, .istore_n 2, 0, 0), (2, .iconst 0, 0, 0), (3, .istore_n 3, 0, 0), (4, .iload_n 3, 0, 0), (5, .aload_n 0, 0, 0), (6, .getfield 13, 0, 1), (9, .iconst 0, 0, 0), (10, .iaload, 0, 0), (11, .if_icmp .ge 38, 0, 49), (14, .aload_n 0, 0, 0), (15, .iconst 1, 1, 0), (16, .aload_n 0, 0, 0), (17, .getfield 7, 0, 0), (20, .iload_n 3, 0, 0), (21, .iaload, 0, 0), (22, .invokevirtual 32, 0, 0), (25, .ifCond .eq 18, 0, 43), (28, .iload_n 2, 0, 0), (29, .iload_n 1, 0, 0), (30, .if_icmp .ne 10, 0, 40), (33, .aload_n 0, 0, 0), (34, .getfield 7, 0, 0), (37, .iload_n 3, 0, 0), (38, .iaload, 0, 0), (39, .ireturn, 0, 0), (40, .iinc 2 1, 1, 0), (43, .iinc 3 1, 1, 0), (46, .goto (-42), 0, 4), (49, .bipush (-4), (-4), 0), (51, .ireturn, 0, 0)]
abbrev dM_commonAt : MD := (cX1_commonAt, 4, some .int, 2, 44)
theorem okM_commonAt : PM_commonAt.all (okE dM_commonAt.1 ksM flM) = true := by decide +kernel
theorem hyM_commonAt : plainName yX1_commonAt.cls = true ∧ yX1_commonAt.cls = RX1 := by decide +kernel
def PM_tail : List EN := [(0, .aload_n 0, 0, 0), (1, .iload_n 1, 0, 0), (2, .invokevirtual 17, 0, 0), (5, .ifCond .ne 5, 0, 10), (8, .iconst (-1), (-1), 0), (9, .ireturn, 0, 0), (10, .bipush (-4), (-4), 0), (12, .istore_n 2, 0, 0), (13, .aload_n 0, 0, 0), (14, .getfield 13, 0, 1), (17, .iload_n 1, 0, 0), (18, .iaload, 0, 0), (19, .iconst 1, 1, 0), (20, .isub, 0, 0), (21, .istore_n 3, 0, 0), (22, .iload_n 3, 0, 0), (23, .ifCond .lt 44, 0, 67), (26, .aload_n 0, 0, 0), (27, .iconst 1, 1, 0), (28, .iload_n 1, 0, 0), (29, .isub, 0, 0), (30, .aload_n 0, 0, 0), (31, .getfield 7, 0, 0), (34, .bipush 64, 64, 0), (36, .iload_n 1, 0, 0), (37, .imul, 0, 0), (38, .iload_n 3, 0, 0), (39, .iadd, 0, 0), (40, .iaload, 0, 0), (41, .invokevirtual 32, 0, 0), (44, .ifCond .ne 5, 0, 49), (47, .iload_n 2, 0, 0), (48, .ireturn, 0, 0), (49, .aload_n 0, 0, 0), (50, .getfield 7, 0, 0), (53, .bipush 64, 64, 0), (55, .iload_n 1, 0, 0), (56, .imul, 0, 0), (57, .iload_n 3, 0, 0), (58, .iadd, 0, 0), (59, .iaload, 0, 0), (60, .istore_n 2, 0, 0), (61, .iinc 3 (-1), (-1), 0), (64, .goto (-42), 0, 22), (67, .iload_n 2, 0, 0), (68, .ireturn, 0, 0)]
abbrev dM_tail : MD := (cX1_tail, 4, some .int, 2, 44)
theorem okM_tail : PM_tail.all (okE dM_tail.1 ksM flM) = true := by decide +kernel
theorem hyM_tail : plainName yX1_tail.cls = true ∧ yX1_tail.cls = RX1 := by decide +kernel
end
section
set_option maxRecDepth 100000
def cutM_append : List (Nat × List Bool) := [(2, [true, true, true]), (5, [true, true, true]), (10, [true, true, true]), (13, [true, true, true]), (19, [true, true, true]), (22, [true, true, true]), (44, [true, true, false]), (47, [true, true, false])]
theorem sgM_append_0 {post : Int32 → SM → Prop} {x1 x2 : Int32} {nu zs : Nat → Int32} (h : VM dM_append post 2 [.inl x1, .inr 0] [some (.inr 0), some (.inl x1), some (.inl x2)] (nu, zs)) : VM dM_append post 0 [] [some (.inr 0), some (.inl x1), some (.inl x2)] (nu, zs) := segM okM_append cutM_append 300 h
theorem sgM_append_5 {post : Int32 → SM → Prop} {x1 x2 s0 : Int32} {nu zs : Nat → Int32} (h : (s0 = 0 → post (-1) (nu, zs)) ∧ (¬ s0 = 0 → VM dM_append post 10 [.inl x2, .inr 0] [some (.inr 0), some (.inl x1), some (.inl x2)] (nu, zs))) : VM dM_append post 5 [.inl s0] [some (.inr 0), some (.inl x1), some (.inl x2)] (nu, zs) := segM okM_append cutM_append 300 h
theorem sgM_append_13 {post : Int32 → SM → Prop} {x1 x2 s0 : Int32} {nu zs : Nat → Int32} (h : (s0 = 0 → post (-1) (nu, zs)) ∧ (¬ s0 = 0 → VM dM_append post 19 [.inl x1, .inr 0, .inl x2] [some (.inr 0), some (.inl x1), some (.inl x2)] (nu, zs))) : VM dM_append post 13 [.inl s0] [some (.inr 0), some (.inl x1), some (.inl x2)] (nu, zs) := segM okM_append cutM_append 300 h
theorem sgM_append_22 {post : Int32 → SM → Prop} {x1 x2 s0 s1 : Int32} {nu zs : Nat → Int32} (h : (s0 < s1 → vp_in x1 2 ∧ (((zs (x1).toNatClampNeg) = 64 → post (-2) (nu, zs)) ∧ (¬ (zs (x1).toNatClampNeg) = 64 → VM dM_append post 44 [.inl x2, .inl x1, .inr 0] [some (.inr 0), some (.inl x1), none] (nu, zs)))) ∧ (¬ s0 < s1 → post (-1) (nu, zs))) : VM dM_append post 22 [.inl s0, .inl s1] [some (.inr 0), some (.inl x1), some (.inl x2)] (nu, zs) := segM okM_append cutM_append 300 h
theorem sgM_append_47 {post : Int32 → SM → Prop} {x1 : Int32} {nu zs : Nat → Int32} (h : vp_in x1 2 ∧ (post (zs (x1).toNatClampNeg) (nu, zs))) : VM dM_append post 47 [] [some (.inr 0), some (.inl x1), none] (nu, zs) := segM okM_append cutM_append 300 h
theorem csM_append_2 {post post2 : Int32 → SM → Prop} {x1 x2 s0 : Int32} {S : SM} (hC : CM yX1_isList dM_isList [s0] S post2) (k : ∀ r S1, post2 r S1 → VM dM_append post 5 [.inl r] [some (.inr 0), some (.inl x1), some (.inl x2)] S1) : VM dM_append post 2 [.inl s0, .inr 0] [some (.inr 0), some (.inl x1), some (.inl x2)] S := cllM (idx := 17) [s0] hC cwM_isList cnM_isList (by decide +kernel) ⟨by decide, by decide⟩ (Nat.le_of_ble_eq_true rfl) k
theorem csM_append_10 {post post2 : Int32 → SM → Prop} {x1 x2 s0 : Int32} {S : SM} (hC : CM yX1_isNumber dM_isNumber [s0] S post2) (k : ∀ r S1, post2 r S1 → VM dM_append post 13 [.inl r] [some (.inr 0), some (.inl x1), some (.inl x2)] S1) : VM dM_append post 10 [.inl s0, .inr 0] [some (.inr 0), some (.inl x1), some (.inl x2)] S := cllM (idx := 21) [s0] hC cwM_isNumber cnM_isNumber (by decide +kernel) ⟨by decide, by decide⟩ (Nat.le_of_ble_eq_true rfl) k
theorem csM_append_19 {post post2 : Int32 → SM → Prop} {x1 x2 s0 s2 : Int32} {S : SM} (hC : CM yX1_lastOf dM_lastOf [s0] S post2) (k : ∀ r S1, post2 r S1 → VM dM_append post 22 [.inl r, .inl s2] [some (.inr 0), some (.inl x1), some (.inl x2)] S1) : VM dM_append post 19 [.inl s0, .inr 0, .inl s2] [some (.inr 0), some (.inl x1), some (.inl x2)] S := cllM (idx := 24) [s0] hC cwM_lastOf cnM_lastOf (by decide +kernel) ⟨by decide, by decide⟩ (Nat.le_of_ble_eq_true rfl) k
theorem csM_append_44 {post post2 : Int32 → SM → Prop} {x1 s0 s1 : Int32} {S : SM} (hC : CM yX1_put dM_put [s1, s0] S post2) (k : ∀ r S1, post2 r S1 → VM dM_append post 47 [] [some (.inr 0), some (.inl x1), none] S1) : VM dM_append post 44 [.inl s0, .inl s1, .inr 0] [some (.inr 0), some (.inl x1), none] S := cllM (idx := 28) [s1, s0] hC cwM_put cnM_put (by decide +kernel) ⟨by decide, by decide⟩ (Nat.le_of_ble_eq_true rfl) k
def cutM_isList : List (Nat × List Bool) := []
theorem sgM_isList_0 {post : Int32 → SM → Prop} {x1 : Int32} {nu zs : Nat → Int32} (h : (x1 = 0 → post 1 (nu, zs)) ∧ (¬ x1 = 0 → (x1 = 1 → post 1 (nu, zs)) ∧ (¬ x1 = 1 → post 0 (nu, zs)))) : VM dM_isList post 0 [] [some (.inr 0), some (.inl x1)] (nu, zs) := segM okM_isList cutM_isList 300 h
def cutM_isNumber : List (Nat × List Bool) := []
theorem sgM_isNumber_0 {post : Int32 → SM → Prop} {x1 : Int32} {nu zs : Nat → Int32} (h : (x1 < 0 → post 0 (nu, zs)) ∧ (¬ x1 < 0 → (1000000 < x1 → post 0 (nu, zs)) ∧ (¬ 1000000 < x1 → post 1 (nu, zs)))) : VM dM_isNumber post 0 [] [some (.inr 0), some (.inl x1)] (nu, zs) := segM okM_isNumber cutM_isNumber 300 h
def cutM_lastOf : List (Nat × List Bool) := []
theorem sgM_lastOf_0 {post : Int32 → SM → Prop} {x1 : Int32} {nu zs : Nat → Int32} (h : vp_in x1 2 ∧ (((zs (x1).toNatClampNeg) = 0 → post (-1) (nu, zs)) ∧ (¬ (zs (x1).toNatClampNeg) = 0 → vp_in x1 2 ∧ (vp_in (((64 * x1) + (zs (x1).toNatClampNeg)) - 1) 128 ∧ (post (nu ((((64 * x1) + (zs (x1).toNatClampNeg)) - 1)).toNatClampNeg) (nu, zs)))))) : VM dM_lastOf post 0 [] [some (.inr 0), some (.inl x1)] (nu, zs) := segM okM_lastOf cutM_lastOf 300 h
def cutM_put : List (Nat × List Bool) := []
theorem sgM_put_0 {post : Int32 → SM → Prop} {x1 x2 : Int32} {nu zs : Nat → Int32} (h : vp_in x1 2 ∧ (vp_in ((64 * x1) + (zs (x1).toNatClampNeg)) 128 ∧ (vp_in x1 2 ∧ (vp_in x1 2 ∧ (post 0 (upd nu (((64 * x1) + (zs (x1).toNatClampNeg))).toNatClampNeg x2, upd zs (x1).toNatClampNeg ((zs (x1).toNatClampNeg) + 1))))))) : VM dM_put post 0 [] [some (.inr 0), some (.inl x1), some (.inl x2)] (nu, zs) := segM okM_put cutM_put 300 h
def cutM_run : List (Nat × List Bool) := [(2, [true, true, true, true, false, false]), (5, [true, true, true, true, false, false]), (50, [true, true, true, true, false, false]), (53, [true, true, true, true, false, false]), (67, [true, true, true, true, true, false]), (75, [true, true, true, true, true, false]), (78, [true, true, true, true, true, false]), (86, [true, true, true, true, true, false]), (89, [true, true, true, true, true, false])]
theorem sgM_run_0 {post : Int32 → SM → Prop} {x1 x2 x3 : Int32} {nu zs : Nat → Int32} (h : VM dM_run post 2 [.inl x1, .inr 0] [some (.inr 0), some (.inl x1), some (.inl x2), some (.inl x3), none, none] (nu, zs)) : VM dM_run post 0 [] [some (.inr 0), some (.inl x1), some (.inl x2), some (.inl x3), none, none] (nu, zs) := segM okM_run cutM_run 300 h
theorem sgM_run_5 {post : Int32 → SM → Prop} {x1 x2 x3 s0 : Int32} {nu zs : Nat → Int32} (h : (s0 = 0 → post (-1) (nu, zs)) ∧ (¬ s0 = 0 → (x2 < 0 → post (-1) (nu, zs)) ∧ (¬ x2 < 0 → (64 < x2 → post (-1) (nu, zs)) ∧ (¬ 64 < x2 → (x3 < 1 → post (-1) (nu, zs)) ∧ (¬ x3 < 1 → (1000 < x3 → post (-1) (nu, zs)) ∧ (¬ 1000 < x3 → vp_in x1 2 ∧ ((64 < ((zs (x1).toNatClampNeg) + x2) → post (-2) (nu, zs)) ∧ (¬ 64 < ((zs (x1).toNatClampNeg) + x2) → VM dM_run post 50 [.inl x1, .inr 0] [some (.inr 0), some (.inl x1), some (.inl x2), some (.inl x3), none, none] (nu, zs))))))))) : VM dM_run post 5 [.inl s0] [some (.inr 0), some (.inl x1), some (.inl x2), some (.inl x3), none, none] (nu, zs) := segM okM_run cutM_run 300 h
theorem sgM_run_53 {post : Int32 → SM → Prop} {x1 x2 x3 s0 : Int32} {nu zs : Nat → Int32} (h : (1000000 < (s0 + (x2 * x3)) → post (-1) (nu, zs)) ∧ (¬ 1000000 < (s0 + (x2 * x3)) → VM dM_run post 67 [] [some (.inr 0), some (.inl x1), some (.inl x2), some (.inl x3), some (.inl 0), none] (nu, zs))) : VM dM_run post 53 [.inl s0] [some (.inr 0), some (.inl x1), some (.inl x2), some (.inl x3), none, none] (nu, zs) := segM okM_run cutM_run 300 h
theorem sgM_run_67 {post : Int32 → SM → Prop} {x1 x2 x3 x4 : Int32} {nu zs : Nat → Int32} (h : (x4 < x2 → VM dM_run post 75 [.inl x1, .inr 0] [some (.inr 0), some (.inl x1), some (.inl x2), some (.inl x3), some (.inl x4), none] (nu, zs)) ∧ (¬ x4 < x2 → vp_in x1 2 ∧ (post (zs (x1).toNatClampNeg) (nu, zs)))) : VM dM_run post 67 [] [some (.inr 0), some (.inl x1), some (.inl x2), some (.inl x3), some (.inl x4), none] (nu, zs) := segM okM_run cutM_run 300 h
theorem sgM_run_78 {post : Int32 → SM → Prop} {x1 x2 x3 x4 s0 : Int32} {nu zs : Nat → Int32} (h : VM dM_run post 86 [.inl (s0 + x3), .inl x1, .inr 0] [some (.inr 0), some (.inl x1), some (.inl x2), some (.inl x3), some (.inl x4), none] (nu, zs)) : VM dM_run post 78 [.inl s0] [some (.inr 0), some (.inl x1), some (.inl x2), some (.inl x3), some (.inl x4), none] (nu, zs) := segM okM_run cutM_run 300 h
theorem sgM_run_89 {post : Int32 → SM → Prop} {x1 x2 x3 x4 : Int32} {nu zs : Nat → Int32} (h : VM dM_run post 67 [] [some (.inr 0), some (.inl x1), some (.inl x2), some (.inl x3), some (.inl (x4 + 1)), none] (nu, zs)) : VM dM_run post 89 [] [some (.inr 0), some (.inl x1), some (.inl x2), some (.inl x3), some (.inl x4), none] (nu, zs) := segM okM_run cutM_run 300 h
theorem csM_run_2 {post post2 : Int32 → SM → Prop} {x1 x2 x3 s0 : Int32} {S : SM} (hC : CM yX1_isList dM_isList [s0] S post2) (k : ∀ r S1, post2 r S1 → VM dM_run post 5 [.inl r] [some (.inr 0), some (.inl x1), some (.inl x2), some (.inl x3), none, none] S1) : VM dM_run post 2 [.inl s0, .inr 0] [some (.inr 0), some (.inl x1), some (.inl x2), some (.inl x3), none, none] S := cllM (idx := 17) [s0] hC cwM_isList cnM_isList (by decide +kernel) ⟨by decide, by decide⟩ (Nat.le_of_ble_eq_true rfl) k
theorem csM_run_50 {post post2 : Int32 → SM → Prop} {x1 x2 x3 s0 : Int32} {S : SM} (hC : CM yX1_lastOf dM_lastOf [s0] S post2) (k : ∀ r S1, post2 r S1 → VM dM_run post 53 [.inl r] [some (.inr 0), some (.inl x1), some (.inl x2), some (.inl x3), none, none] S1) : VM dM_run post 50 [.inl s0, .inr 0] [some (.inr 0), some (.inl x1), some (.inl x2), some (.inl x3), none, none] S := cllM (idx := 24) [s0] hC cwM_lastOf cnM_lastOf (by decide +kernel) ⟨by decide, by decide⟩ (Nat.le_of_ble_eq_true rfl) k
theorem csM_run_75 {post post2 : Int32 → SM → Prop} {x1 x2 x3 x4 s0 : Int32} {S : SM} (hC : CM yX1_lastOf dM_lastOf [s0] S post2) (k : ∀ r S1, post2 r S1 → VM dM_run post 78 [.inl r] [some (.inr 0), some (.inl x1), some (.inl x2), some (.inl x3), some (.inl x4), none] S1) : VM dM_run post 75 [.inl s0, .inr 0] [some (.inr 0), some (.inl x1), some (.inl x2), some (.inl x3), some (.inl x4), none] S := cllM (idx := 24) [s0] hC cwM_lastOf cnM_lastOf (by decide +kernel) ⟨by decide, by decide⟩ (Nat.le_of_ble_eq_true rfl) k
theorem csM_run_86 {post post2 : Int32 → SM → Prop} {x1 x2 x3 x4 s0 s1 : Int32} {S : SM} (hC : CM yX1_put dM_put [s1, s0] S post2) (k : ∀ r S1, post2 r S1 → VM dM_run post 89 [] [some (.inr 0), some (.inl x1), some (.inl x2), some (.inl x3), some (.inl x4), none] S1) : VM dM_run post 86 [.inl s0, .inl s1, .inr 0] [some (.inr 0), some (.inl x1), some (.inl x2), some (.inl x3), some (.inl x4), none] S := cllM (idx := 28) [s1, s0] hC cwM_put cnM_put (by decide +kernel) ⟨by decide, by decide⟩ (Nat.le_of_ble_eq_true rfl) k
def cutM_insert : List (Nat × List Bool) := [(2, [true, true, true, false, false]), (5, [true, true, true, false, false]), (10, [true, true, true, false, false]), (13, [true, true, true, false, false]), (21, [true, true, true, false, false]), (24, [true, true, true, false, false]), (54, [true, true, true, true, true])]
theorem sgM_insert_0 {post : Int32 → SM → Prop} {x1 x2 : Int32} {nu zs : Nat → Int32} (h : VM dM_insert post 2 [.inl x1, .inr 0] [some (.inr 0), some (.inl x1), some (.inl x2), none, none] (nu, zs)) : VM dM_insert post 0 [] [some (.inr 0), some (.inl x1), some (.inl x2), none, none] (nu, zs) := segM okM_insert cutM_insert 300 h
theorem sgM_insert_5 {post : Int32 → SM → Prop} {x1 x2 s0 : Int32} {nu zs : Nat → Int32} (h : (s0 = 0 → post (-1) (nu, zs)) ∧ (¬ s0 = 0 → VM dM_insert post 10 [.inl x2, .inr 0] [some (.inr 0), some (.inl x1), some (.inl x2), none, none] (nu, zs))) : VM dM_insert post 5 [.inl s0] [some (.inr 0), some (.inl x1), some (.inl x2), none, none] (nu, zs) := segM okM_insert cutM_insert 300 h
theorem sgM_insert_13 {post : Int32 → SM → Prop} {x1 x2 s0 : Int32} {nu zs : Nat → Int32} (h : (s0 = 0 → post (-1) (nu, zs)) ∧ (¬ s0 = 0 → VM dM_insert post 21 [.inl x2, .inl x1, .inr 0] [some (.inr 0), some (.inl x1), some (.inl x2), none, none] (nu, zs))) : VM dM_insert post 13 [.inl s0] [some (.inr 0), some (.inl x1), some (.inl x2), none, none] (nu, zs) := segM okM_insert cutM_insert 300 h
theorem sgM_insert_24 {post : Int32 → SM → Prop} {x1 x2 s0 : Int32} {nu zs : Nat → Int32} (h : (s0 = 0 → vp_in x1 2 ∧ (((zs (x1).toNatClampNeg) = 64 → post (-2) (nu, zs)) ∧ (¬ (zs (x1).toNatClampNeg) = 64 → vp_in x1 2 ∧ (VM dM_insert post 54 [] [some (.inr 0), some (.inl x1), some (.inl x2), some (.inl 0), some (.inl (zs (x1).toNatClampNeg))] (nu, zs))))) ∧ (¬ s0 = 0 → post (-4) (nu, zs))) : VM dM_insert post 24 [.inl s0] [some (.inr 0), some (.inl x1), some (.inl x2), none, none] (nu, zs) := segM okM_insert cutM_insert 300 h
theorem sgM_insert_54 {post : Int32 → SM → Prop} {x1 x2 x3 x4 : Int32} {nu zs : Nat → Int32} (h : (0 < x4 → vp_in (((64 * x1) + x4) - 1) 128 ∧ ((x2 < (nu ((((64 * x1) + x4) - 1)).toNatClampNeg) → vp_in (((64 * x1) + x4) - 1) 128 ∧ (vp_in ((64 * x1) + x4) 128 ∧ (VM dM_insert post 54 [] [some (.inr 0), some (.inl x1), some (.inl x2), some (.inl x3), some (.inl (x4 + (-1)))] (upd nu (((64 * x1) + x4)).toNatClampNeg (nu ((((64 * x1) + x4) - 1)).toNatClampNeg), zs)))) ∧ (¬ x2 < (nu ((((64 * x1) + x4) - 1)).toNatClampNeg) → VM dM_insert post 54 [] [some (.inr 0), some (.inl x1), some (.inl x2), some (.inl (x3 + 1)), some (.inl (x4 + (-1)))] (nu, zs)))) ∧ (¬ 0 < x4 → vp_in ((64 * x1) + x3) 128 ∧ (vp_in x1 2 ∧ (vp_in x1 2 ∧ (post x3 (upd nu (((64 * x1) + x3)).toNatClampNeg x2, upd zs (x1).toNatClampNeg ((zs (x1).toNatClampNeg) + 1))))))) : VM dM_insert post 54 [] [some (.inr 0), some (.inl x1), some (.inl x2), some (.inl x3), some (.inl x4)] (nu, zs) := segM okM_insert cutM_insert 300 h
theorem csM_insert_2 {post post2 : Int32 → SM → Prop} {x1 x2 s0 : Int32} {S : SM} (hC : CM yX1_isList dM_isList [s0] S post2) (k : ∀ r S1, post2 r S1 → VM dM_insert post 5 [.inl r] [some (.inr 0), some (.inl x1), some (.inl x2), none, none] S1) : VM dM_insert post 2 [.inl s0, .inr 0] [some (.inr 0), some (.inl x1), some (.inl x2), none, none] S := cllM (idx := 17) [s0] hC cwM_isList cnM_isList (by decide +kernel) ⟨by decide, by decide⟩ (Nat.le_of_ble_eq_true rfl) k
theorem csM_insert_10 {post post2 : Int32 → SM → Prop} {x1 x2 s0 : Int32} {S : SM} (hC : CM yX1_isNumber dM_isNumber [s0] S post2) (k : ∀ r S1, post2 r S1 → VM dM_insert post 13 [.inl r] [some (.inr 0), some (.inl x1), some (.inl x2), none, none] S1) : VM dM_insert post 10 [.inl s0, .inr 0] [some (.inr 0), some (.inl x1), some (.inl x2), none, none] S := cllM (idx := 21) [s0] hC cwM_isNumber cnM_isNumber (by decide +kernel) ⟨by decide, by decide⟩ (Nat.le_of_ble_eq_true rfl) k
theorem csM_insert_21 {post post2 : Int32 → SM → Prop} {x1 x2 s0 s1 : Int32} {S : SM} (hC : CM yX1_has dM_has [s1, s0] S post2) (k : ∀ r S1, post2 r S1 → VM dM_insert post 24 [.inl r] [some (.inr 0), some (.inl x1), some (.inl x2), none, none] S1) : VM dM_insert post 21 [.inl s0, .inl s1, .inr 0] [some (.inr 0), some (.inl x1), some (.inl x2), none, none] S := cllM (idx := 32) [s1, s0] hC cwM_has cnM_has (by decide +kernel) ⟨by decide, by decide⟩ (Nat.le_of_ble_eq_true rfl) k
def cutM_has : List (Nat × List Bool) := [(2, [true, true, true, false]), (5, [true, true, true, false]), (12, [true, true, true, true])]
theorem sgM_has_0 {post : Int32 → SM → Prop} {x1 x2 : Int32} {nu zs : Nat → Int32} (h : VM dM_has post 2 [.inl x1, .inr 0] [some (.inr 0), some (.inl x1), some (.inl x2), none] (nu, zs)) : VM dM_has post 0 [] [some (.inr 0), some (.inl x1), some (.inl x2), none] (nu, zs) := segM okM_has cutM_has 300 h
theorem sgM_has_5 {post : Int32 → SM → Prop} {x1 x2 s0 : Int32} {nu zs : Nat → Int32} (h : (s0 = 0 → post 0 (nu, zs)) ∧ (¬ s0 = 0 → VM dM_has post 12 [] [some (.inr 0), some (.inl x1), some (.inl x2), some (.inl 0)] (nu, zs))) : VM dM_has post 5 [.inl s0] [some (.inr 0), some (.inl x1), some (.inl x2), none] (nu, zs) := segM okM_has cutM_has 300 h
theorem sgM_has_12 {post : Int32 → SM → Prop} {x1 x2 x3 : Int32} {nu zs : Nat → Int32} (h : vp_in x1 2 ∧ ((x3 < (zs (x1).toNatClampNeg) → vp_in ((64 * x1) + x3) 128 ∧ (((nu (((64 * x1) + x3)).toNatClampNeg) = x2 → post 1 (nu, zs)) ∧ (¬ (nu (((64 * x1) + x3)).toNatClampNeg) = x2 → VM dM_has post 12 [] [some (.inr 0), some (.inl x1), some (.inl x2), some (.inl (x3 + 1))] (nu, zs)))) ∧ (¬ x3 < (zs (x1).toNatClampNeg) → post 0 (nu, zs)))) : VM dM_has post 12 [] [some (.inr 0), some (.inl x1), some (.inl x2), some (.inl x3)] (nu, zs) := segM okM_has cutM_has 300 h
theorem csM_has_2 {post post2 : Int32 → SM → Prop} {x1 x2 s0 : Int32} {S : SM} (hC : CM yX1_isList dM_isList [s0] S post2) (k : ∀ r S1, post2 r S1 → VM dM_has post 5 [.inl r] [some (.inr 0), some (.inl x1), some (.inl x2), none] S1) : VM dM_has post 2 [.inl s0, .inr 0] [some (.inr 0), some (.inl x1), some (.inl x2), none] S := cllM (idx := 17) [s0] hC cwM_isList cnM_isList (by decide +kernel) ⟨by decide, by decide⟩ (Nat.le_of_ble_eq_true rfl) k
def cutM_remove : List (Nat × List Bool) := [(2, [true, true, true, false, false]), (5, [true, true, true, false, false]), (13, [true, true, true, false, false]), (16, [true, true, true, false, false]), (25, [true, true, false, false, false]), (28, [true, true, false, false, false]), (34, [true, true, false, true, true])]
theorem sgM_remove_0 {post : Int32 → SM → Prop} {x1 x2 : Int32} {nu zs : Nat → Int32} (h : VM dM_remove post 2 [.inl x1, .inr 0] [some (.inr 0), some (.inl x1), some (.inl x2), none, none] (nu, zs)) : VM dM_remove post 0 [] [some (.inr 0), some (.inl x1), some (.inl x2), none, none] (nu, zs) := segM okM_remove cutM_remove 300 h
theorem sgM_remove_5 {post : Int32 → SM → Prop} {x1 x2 s0 : Int32} {nu zs : Nat → Int32} (h : (s0 = 0 → post (-1) (nu, zs)) ∧ (¬ s0 = 0 → VM dM_remove post 13 [.inl x2, .inl x1, .inr 0] [some (.inr 0), some (.inl x1), some (.inl x2), none, none] (nu, zs))) : VM dM_remove post 5 [.inl s0] [some (.inr 0), some (.inl x1), some (.inl x2), none, none] (nu, zs) := segM okM_remove cutM_remove 300 h
theorem sgM_remove_16 {post : Int32 → SM → Prop} {x1 x2 s0 : Int32} {nu zs : Nat → Int32} (h : (s0 = 0 → post (-4) (nu, zs)) ∧ (¬ s0 = 0 → VM dM_remove post 25 [.inl x2, .inl x1, .inr 0] [some (.inr 0), some (.inl x1), none, none, none] (nu, zs))) : VM dM_remove post 16 [.inl s0] [some (.inr 0), some (.inl x1), some (.inl x2), none, none] (nu, zs) := segM okM_remove cutM_remove 300 h
theorem sgM_remove_28 {post : Int32 → SM → Prop} {x1 s0 : Int32} {nu zs : Nat → Int32} (h : VM dM_remove post 34 [] [some (.inr 0), some (.inl x1), none, some (.inl s0), some (.inl (s0 + 1))] (nu, zs)) : VM dM_remove post 28 [.inl s0] [some (.inr 0), some (.inl x1), none, none, none] (nu, zs) := segM okM_remove cutM_remove 300 h
theorem sgM_remove_34 {post : Int32 → SM → Prop} {x1 x3 x4 : Int32} {nu zs : Nat → Int32} (h : vp_in x1 2 ∧ ((x4 < (zs (x1).toNatClampNeg) → vp_in ((64 * x1) + x4) 128 ∧ (vp_in (((64 * x1) + x4) - 1) 128 ∧ (VM dM_remove post 34 [] [some (.inr 0), some (.inl x1), none, some (.inl x3), some (.inl (x4 + 1))] (upd nu ((((64 * x1) + x4) - 1)).toNatClampNeg (nu (((64 * x1) + x4)).toNatClampNeg), zs)))) ∧ (¬ x4 < (zs (x1).toNatClampNeg) → vp_in x1 2 ∧ (vp_in x1 2 ∧ (post x3 (nu, upd zs (x1).toNatClampNeg ((zs (x1).toNatClampNeg) - 1))))))) : VM dM_remove post 34 [] [some (.inr 0), some (.inl x1), none, some (.inl x3), some (.inl x4)] (nu, zs) := segM okM_remove cutM_remove 300 h
theorem csM_remove_2 {post post2 : Int32 → SM → Prop} {x1 x2 s0 : Int32} {S : SM} (hC : CM yX1_isList dM_isList [s0] S post2) (k : ∀ r S1, post2 r S1 → VM dM_remove post 5 [.inl r] [some (.inr 0), some (.inl x1), some (.inl x2), none, none] S1) : VM dM_remove post 2 [.inl s0, .inr 0] [some (.inr 0), some (.inl x1), some (.inl x2), none, none] S := cllM (idx := 17) [s0] hC cwM_isList cnM_isList (by decide +kernel) ⟨by decide, by decide⟩ (Nat.le_of_ble_eq_true rfl) k
theorem csM_remove_13 {post post2 : Int32 → SM → Prop} {x1 x2 s0 s1 : Int32} {S : SM} (hC : CM yX1_has dM_has [s1, s0] S post2) (k : ∀ r S1, post2 r S1 → VM dM_remove post 16 [.inl r] [some (.inr 0), some (.inl x1), some (.inl x2), none, none] S1) : VM dM_remove post 13 [.inl s0, .inl s1, .inr 0] [some (.inr 0), some (.inl x1), some (.inl x2), none, none] S := cllM (idx := 32) [s1, s0] hC cwM_has cnM_has (by decide +kernel) ⟨by decide, by decide⟩ (Nat.le_of_ble_eq_true rfl) k
theorem csM_remove_25 {post post2 : Int32 → SM → Prop} {x1 s0 s1 : Int32} {S : SM} (hC : CM yX1_seek dM_seek [s1, s0] S post2) (k : ∀ r S1, post2 r S1 → VM dM_remove post 28 [.inl r] [some (.inr 0), some (.inl x1), none, none, none] S1) : VM dM_remove post 25 [.inl s0, .inl s1, .inr 0] [some (.inr 0), some (.inl x1), none, none, none] S := cllM (idx := 36) [s1, s0] hC cwM_seek cnM_seek (by decide +kernel) ⟨by decide, by decide⟩ (Nat.le_of_ble_eq_true rfl) k
def cutM_seek : List (Nat × List Bool) := [(2, [true, true, true, false]), (5, [true, true, true, false]), (12, [true, true, true, true])]
theorem sgM_seek_0 {post : Int32 → SM → Prop} {x1 x2 : Int32} {nu zs : Nat → Int32} (h : VM dM_seek post 2 [.inl x1, .inr 0] [some (.inr 0), some (.inl x1), some (.inl x2), none] (nu, zs)) : VM dM_seek post 0 [] [some (.inr 0), some (.inl x1), some (.inl x2), none] (nu, zs) := segM okM_seek cutM_seek 300 h
theorem sgM_seek_5 {post : Int32 → SM → Prop} {x1 x2 s0 : Int32} {nu zs : Nat → Int32} (h : (s0 = 0 → post (-1) (nu, zs)) ∧ (¬ s0 = 0 → VM dM_seek post 12 [] [some (.inr 0), some (.inl x1), some (.inl x2), some (.inl 0)] (nu, zs))) : VM dM_seek post 5 [.inl s0] [some (.inr 0), some (.inl x1), some (.inl x2), none] (nu, zs) := segM okM_seek cutM_seek 300 h
theorem sgM_seek_12 {post : Int32 → SM → Prop} {x1 x2 x3 : Int32} {nu zs : Nat → Int32} (h : vp_in x1 2 ∧ ((x3 < (zs (x1).toNatClampNeg) → vp_in ((64 * x1) + x3) 128 ∧ (((nu (((64 * x1) + x3)).toNatClampNeg) < x2 → VM dM_seek post 12 [] [some (.inr 0), some (.inl x1), some (.inl x2), some (.inl (x3 + 1))] (nu, zs)) ∧ (¬ (nu (((64 * x1) + x3)).toNatClampNeg) < x2 → post x3 (nu, zs)))) ∧ (¬ x3 < (zs (x1).toNatClampNeg) → post (-4) (nu, zs)))) : VM dM_seek post 12 [] [some (.inr 0), some (.inl x1), some (.inl x2), some (.inl x3)] (nu, zs) := segM okM_seek cutM_seek 300 h
theorem csM_seek_2 {post post2 : Int32 → SM → Prop} {x1 x2 s0 : Int32} {S : SM} (hC : CM yX1_isList dM_isList [s0] S post2) (k : ∀ r S1, post2 r S1 → VM dM_seek post 5 [.inl r] [some (.inr 0), some (.inl x1), some (.inl x2), none] S1) : VM dM_seek post 2 [.inl s0, .inr 0] [some (.inr 0), some (.inl x1), some (.inl x2), none] S := cllM (idx := 17) [s0] hC cwM_isList cnM_isList (by decide +kernel) ⟨by decide, by decide⟩ (Nat.le_of_ble_eq_true rfl) k
def cutM_clear : List (Nat × List Bool) := [(2, [true, true, false]), (5, [true, true, false])]
theorem sgM_clear_0 {post : Int32 → SM → Prop} {x1 : Int32} {nu zs : Nat → Int32} (h : VM dM_clear post 2 [.inl x1, .inr 0] [some (.inr 0), some (.inl x1), none] (nu, zs)) : VM dM_clear post 0 [] [some (.inr 0), some (.inl x1), none] (nu, zs) := segM okM_clear cutM_clear 300 h
theorem sgM_clear_5 {post : Int32 → SM → Prop} {x1 s0 : Int32} {nu zs : Nat → Int32} (h : (s0 = 0 → post (-1) (nu, zs)) ∧ (¬ s0 = 0 → vp_in x1 2 ∧ (vp_in x1 2 ∧ (post (zs (x1).toNatClampNeg) (nu, upd zs (x1).toNatClampNeg 0))))) : VM dM_clear post 5 [.inl s0] [some (.inr 0), some (.inl x1), none] (nu, zs) := segM okM_clear cutM_clear 300 h
theorem csM_clear_2 {post post2 : Int32 → SM → Prop} {x1 s0 : Int32} {S : SM} (hC : CM yX1_isList dM_isList [s0] S post2) (k : ∀ r S1, post2 r S1 → VM dM_clear post 5 [.inl r] [some (.inr 0), some (.inl x1), none] S1) : VM dM_clear post 2 [.inl s0, .inr 0] [some (.inr 0), some (.inl x1), none] S := cllM (idx := 17) [s0] hC cwM_isList cnM_isList (by decide +kernel) ⟨by decide, by decide⟩ (Nat.le_of_ble_eq_true rfl) k
def cutM_size : List (Nat × List Bool) := [(2, [true, true]), (5, [true, true])]
theorem sgM_size_0 {post : Int32 → SM → Prop} {x1 : Int32} {nu zs : Nat → Int32} (h : VM dM_size post 2 [.inl x1, .inr 0] [some (.inr 0), some (.inl x1)] (nu, zs)) : VM dM_size post 0 [] [some (.inr 0), some (.inl x1)] (nu, zs) := segM okM_size cutM_size 300 h
theorem sgM_size_5 {post : Int32 → SM → Prop} {x1 s0 : Int32} {nu zs : Nat → Int32} (h : (s0 = 0 → post (-1) (nu, zs)) ∧ (¬ s0 = 0 → vp_in x1 2 ∧ (post (zs (x1).toNatClampNeg) (nu, zs)))) : VM dM_size post 5 [.inl s0] [some (.inr 0), some (.inl x1)] (nu, zs) := segM okM_size cutM_size 300 h
theorem csM_size_2 {post post2 : Int32 → SM → Prop} {x1 s0 : Int32} {S : SM} (hC : CM yX1_isList dM_isList [s0] S post2) (k : ∀ r S1, post2 r S1 → VM dM_size post 5 [.inl r] [some (.inr 0), some (.inl x1)] S1) : VM dM_size post 2 [.inl s0, .inr 0] [some (.inr 0), some (.inl x1)] S := cllM (idx := 17) [s0] hC cwM_isList cnM_isList (by decide +kernel) ⟨by decide, by decide⟩ (Nat.le_of_ble_eq_true rfl) k
def cutM_at : List (Nat × List Bool) := [(2, [true, true, true]), (5, [true, true, true])]
theorem sgM_at_0 {post : Int32 → SM → Prop} {x1 x2 : Int32} {nu zs : Nat → Int32} (h : VM dM_at post 2 [.inl x1, .inr 0] [some (.inr 0), some (.inl x1), some (.inl x2)] (nu, zs)) : VM dM_at post 0 [] [some (.inr 0), some (.inl x1), some (.inl x2)] (nu, zs) := segM okM_at cutM_at 300 h
theorem sgM_at_5 {post : Int32 → SM → Prop} {x1 x2 s0 : Int32} {nu zs : Nat → Int32} (h : (s0 = 0 → post (-1) (nu, zs)) ∧ (¬ s0 = 0 → (x2 < 0 → post (-4) (nu, zs)) ∧ (¬ x2 < 0 → vp_in x1 2 ∧ ((x2 < (zs (x1).toNatClampNeg) → vp_in ((64 * x1) + x2) 128 ∧ (post (nu (((64 * x1) + x2)).toNatClampNeg) (nu, zs))) ∧ (¬ x2 < (zs (x1).toNatClampNeg) → post (-4) (nu, zs)))))) : VM dM_at post 5 [.inl s0] [some (.inr 0), some (.inl x1), some (.inl x2)] (nu, zs) := segM okM_at cutM_at 300 h
theorem csM_at_2 {post post2 : Int32 → SM → Prop} {x1 x2 s0 : Int32} {S : SM} (hC : CM yX1_isList dM_isList [s0] S post2) (k : ∀ r S1, post2 r S1 → VM dM_at post 5 [.inl r] [some (.inr 0), some (.inl x1), some (.inl x2)] S1) : VM dM_at post 2 [.inl s0, .inr 0] [some (.inr 0), some (.inl x1), some (.inl x2)] S := cllM (idx := 17) [s0] hC cwM_isList cnM_isList (by decide +kernel) ⟨by decide, by decide⟩ (Nat.le_of_ble_eq_true rfl) k
def cutM_sum : List (Nat × List Bool) := [(2, [true, true, true, true, false, false]), (5, [true, true, true, true, false, false]), (16, [true, true, true, true, true, true])]
theorem sgM_sum_0 {post : Int32 → SM → Prop} {x1 x2 x3 : Int32} {nu zs : Nat → Int32} (h : VM dM_sum post 2 [.inl x1, .inr 0] [some (.inr 0), some (.inl x1), some (.inl x2), some (.inl x3), none, none] (nu, zs)) : VM dM_sum post 0 [] [some (.inr 0), some (.inl x1), some (.inl x2), some (.inl x3), none, none] (nu, zs) := segM okM_sum cutM_sum 300 h
theorem sgM_sum_5 {post : Int32 → SM → Prop} {x1 x2 x3 s0 : Int32} {nu zs : Nat → Int32} (h : (s0 = 0 → post (-1) (nu, zs)) ∧ (¬ s0 = 0 → VM dM_sum post 16 [] [some (.inr 0), some (.inl x1), some (.inl x2), some (.inl x3), some (.inl 0), some (.inl 0)] (nu, zs))) : VM dM_sum post 5 [.inl s0] [some (.inr 0), some (.inl x1), some (.inl x2), some (.inl x3), none, none] (nu, zs) := segM okM_sum cutM_sum 300 h
theorem sgM_sum_16 {post : Int32 → SM → Prop} {x1 x2 x3 x4 x5 : Int32} {nu zs : Nat → Int32} (h : vp_in x1 2 ∧ ((x5 < (zs (x1).toNatClampNeg) → (x5 < x2 → VM dM_sum post 16 [] [some (.inr 0), some (.inl x1), some (.inl x2), some (.inl x3), some (.inl x4), some (.inl (x5 + 1))] (nu, zs)) ∧ (¬ x5 < x2 → (x3 < x5 → VM dM_sum post 16 [] [some (.inr 0), some (.inl x1), some (.inl x2), some (.inl x3), some (.inl x4), some (.inl (x5 + 1))] (nu, zs)) ∧ (¬ x3 < x5 → vp_in ((64 * x1) + x5) 128 ∧ (VM dM_sum post 16 [] [some (.inr 0), some (.inl x1), some (.inl x2), some (.inl x3), some (.inl (x4 + (nu (((64 * x1) + x5)).toNatClampNeg))), some (.inl (x5 + 1))] (nu, zs))))) ∧ (¬ x5 < (zs (x1).toNatClampNeg) → post x4 (nu, zs)))) : VM dM_sum post 16 [] [some (.inr 0), some (.inl x1), some (.inl x2), some (.inl x3), some (.inl x4), some (.inl x5)] (nu, zs) := segM okM_sum cutM_sum 300 h
theorem csM_sum_2 {post post2 : Int32 → SM → Prop} {x1 x2 x3 s0 : Int32} {S : SM} (hC : CM yX1_isList dM_isList [s0] S post2) (k : ∀ r S1, post2 r S1 → VM dM_sum post 5 [.inl r] [some (.inr 0), some (.inl x1), some (.inl x2), some (.inl x3), none, none] S1) : VM dM_sum post 2 [.inl s0, .inr 0] [some (.inr 0), some (.inl x1), some (.inl x2), some (.inl x3), none, none] S := cllM (idx := 17) [s0] hC cwM_isList cnM_isList (by decide +kernel) ⟨by decide, by decide⟩ (Nat.le_of_ble_eq_true rfl) k
def cutM_blocks : List (Nat × List Bool) := [(2, [true, true]), (5, [true, true])]
theorem sgM_blocks_0 {post : Int32 → SM → Prop} {x1 : Int32} {nu zs : Nat → Int32} (h : VM dM_blocks post 2 [.inl x1, .inr 0] [some (.inr 0), some (.inl x1)] (nu, zs)) : VM dM_blocks post 0 [] [some (.inr 0), some (.inl x1)] (nu, zs) := segM okM_blocks cutM_blocks 300 h
theorem sgM_blocks_5 {post : Int32 → SM → Prop} {x1 s0 : Int32} {nu zs : Nat → Int32} (h : (s0 = 0 → post (-1) (nu, zs)) ∧ (¬ s0 = 0 → vp_in x1 2 ∧ ((¬ (8 : Int32) = 0) ∧ (post (((zs (x1).toNatClampNeg) + 7) / 8) (nu, zs))))) : VM dM_blocks post 5 [.inl s0] [some (.inr 0), some (.inl x1)] (nu, zs) := segM okM_blocks cutM_blocks 300 h
theorem csM_blocks_2 {post post2 : Int32 → SM → Prop} {x1 s0 : Int32} {S : SM} (hC : CM yX1_isList dM_isList [s0] S post2) (k : ∀ r S1, post2 r S1 → VM dM_blocks post 5 [.inl r] [some (.inr 0), some (.inl x1)] S1) : VM dM_blocks post 2 [.inl s0, .inr 0] [some (.inr 0), some (.inl x1)] S := cllM (idx := 17) [s0] hC cwM_isList cnM_isList (by decide +kernel) ⟨by decide, by decide⟩ (Nat.le_of_ble_eq_true rfl) k
def cutM_base : List (Nat × List Bool) := [(2, [true, true, true]), (5, [true, true, true]), (13, [true, true, true]), (16, [true, true, true]), (22, [false, false, false]), (25, [false, false, false])]
theorem sgM_base_0 {post : Int32 → SM → Prop} {x1 x2 : Int32} {nu zs : Nat → Int32} (h : VM dM_base post 2 [.inl x1, .inr 0] [some (.inr 0), some (.inl x1), some (.inl x2)] (nu, zs)) : VM dM_base post 0 [] [some (.inr 0), some (.inl x1), some (.inl x2)] (nu, zs) := segM okM_base cutM_base 300 h
theorem sgM_base_5 {post : Int32 → SM → Prop} {x1 x2 s0 : Int32} {nu zs : Nat → Int32} (h : (s0 = 0 → post (-1) (nu, zs)) ∧ (¬ s0 = 0 → VM dM_base post 13 [.inl x2, .inl x1, .inr 0] [some (.inr 0), some (.inl x1), some (.inl x2)] (nu, zs))) : VM dM_base post 5 [.inl s0] [some (.inr 0), some (.inl x1), some (.inl x2)] (nu, zs) := segM okM_base cutM_base 300 h
theorem sgM_base_16 {post : Int32 → SM → Prop} {x1 x2 s0 : Int32} {nu zs : Nat → Int32} (h : (s0 = 0 → post (-4) (nu, zs)) ∧ (¬ s0 = 0 → VM dM_base post 22 [.inl x2, .inl x1, .inr 0] [none, none, none] (nu, zs))) : VM dM_base post 16 [.inl s0] [some (.inr 0), some (.inl x1), some (.inl x2)] (nu, zs) := segM okM_base cutM_base 300 h
theorem sgM_base_25 {post : Int32 → SM → Prop} {s0 : Int32} {nu zs : Nat → Int32} (h : post s0 (nu, zs)) : VM dM_base post 25 [.inl s0] [none, none, none] (nu, zs) := segM okM_base cutM_base 300 h
theorem csM_base_2 {post post2 : Int32 → SM → Prop} {x1 x2 s0 : Int32} {S : SM} (hC : CM yX1_isList dM_isList [s0] S post2) (k : ∀ r S1, post2 r S1 → VM dM_base post 5 [.inl r] [some (.inr 0), some (.inl x1), some (.inl x2)] S1) : VM dM_base post 2 [.inl s0, .inr 0] [some (.inr 0), some (.inl x1), some (.inl x2)] S := cllM (idx := 17) [s0] hC cwM_isList cnM_isList (by decide +kernel) ⟨by decide, by decide⟩ (Nat.le_of_ble_eq_true rfl) k
theorem csM_base_13 {post post2 : Int32 → SM → Prop} {x1 x2 s0 s1 : Int32} {S : SM} (hC : CM yX1_isBlock dM_isBlock [s1, s0] S post2) (k : ∀ r S1, post2 r S1 → VM dM_base post 16 [.inl r] [some (.inr 0), some (.inl x1), some (.inl x2)] S1) : VM dM_base post 13 [.inl s0, .inl s1, .inr 0] [some (.inr 0), some (.inl x1), some (.inl x2)] S := cllM (idx := 50) [s1, s0] hC cwM_isBlock cnM_isBlock (by decide +kernel) ⟨by decide, by decide⟩ (Nat.le_of_ble_eq_true rfl) k
theorem csM_base_22 {post post2 : Int32 → SM → Prop} {s0 s1 : Int32} {S : SM} (hC : CM yX1_bestBase dM_bestBase [s1, s0] S post2) (k : ∀ r S1, post2 r S1 → VM dM_base post 25 [.inl r] [none, none, none] S1) : VM dM_base post 22 [.inl s0, .inl s1, .inr 0] [none, none, none] S := cllM (idx := 53) [s1, s0] hC cwM_bestBase cnM_bestBase (by decide +kernel) ⟨by decide, by decide⟩ (Nat.le_of_ble_eq_true rfl) k
def cutM_isBlock : List (Nat × List Bool) := []
theorem sgM_isBlock_0 {post : Int32 → SM → Prop} {x1 x2 : Int32} {nu zs : Nat → Int32} (h : (x2 < 0 → post 0 (nu, zs)) ∧ (¬ x2 < 0 → vp_in x1 2 ∧ ((¬ (8 : Int32) = 0) ∧ ((x2 < (((zs (x1).toNatClampNeg) + 7) / 8) → post 1 (nu, zs)) ∧ (¬ x2 < (((zs (x1).toNatClampNeg) + 7) / 8) → post 0 (nu, zs)))))) : VM dM_isBlock post 0 [] [some (.inr 0), some (.inl x1), some (.inl x2)] (nu, zs) := segM okM_isBlock cutM_isBlock 300 h
def cutM_bestBase : List (Nat × List Bool) := [(5, [true, true, true, true, true]), (17, [true, true, true, true, true]), (20, [true, true, true, true, true]), (24, [true, true, true, true, true]), (27, [true, true, true, true, true])]
theorem sgM_bestBase_0 {post : Int32 → SM → Prop} {x1 x2 : Int32} {nu zs : Nat → Int32} (h : VM dM_bestBase post 5 [] [some (.inr 0), some (.inl x1), some (.inl x2), some (.inl 0), some (.inl 1)] (nu, zs)) : VM dM_bestBase post 0 [] [some (.inr 0), some (.inl x1), some (.inl x2), none, none] (nu, zs) := segM okM_bestBase cutM_bestBase 300 h
theorem sgM_bestBase_5 {post : Int32 → SM → Prop} {x1 x2 x3 x4 : Int32} {nu zs : Nat → Int32} (h : (20 < x4 → post x3 (nu, zs)) ∧ (¬ 20 < x4 → VM dM_bestBase post 17 [.inl x4, .inl x2, .inl x1, .inr 0] [some (.inr 0), some (.inl x1), some (.inl x2), some (.inl x3), some (.inl x4)] (nu, zs))) : VM dM_bestBase post 5 [] [some (.inr 0), some (.inl x1), some (.inl x2), some (.inl x3), some (.inl x4)] (nu, zs) := segM okM_bestBase cutM_bestBase 300 h
theorem sgM_bestBase_20 {post : Int32 → SM → Prop} {x1 x2 x3 x4 s0 : Int32} {nu zs : Nat → Int32} (h : VM dM_bestBase post 24 [.inl x3, .inl x2, .inl x1, .inr 0, .inl s0] [some (.inr 0), some (.inl x1), some (.inl x2), some (.inl x3), some (.inl x4)] (nu, zs)) : VM dM_bestBase post 20 [.inl s0] [some (.inr 0), some (.inl x1), some (.inl x2), some (.inl x3), some (.inl x4)] (nu, zs) := segM okM_bestBase cutM_bestBase 300 h
theorem sgM_bestBase_27 {post : Int32 → SM → Prop} {x1 x2 x3 x4 s0 s1 : Int32} {nu zs : Nat → Int32} (h : (s1 < s0 → VM dM_bestBase post 5 [] [some (.inr 0), some (.inl x1), some (.inl x2), some (.inl x4), some (.inl (x4 + 1))] (nu, zs)) ∧ (¬ s1 < s0 → VM dM_bestBase post 5 [] [some (.inr 0), some (.inl x1), some (.inl x2), some (.inl x3), some (.inl (x4 + 1))] (nu, zs))) : VM dM_bestBase post 27 [.inl s0, .inl s1] [some (.inr 0), some (.inl x1), some (.inl x2), some (.inl x3), some (.inl x4)] (nu, zs) := segM okM_bestBase cutM_bestBase 300 h
theorem csM_bestBase_17 {post post2 : Int32 → SM → Prop} {x1 x2 x3 x4 s0 s1 s2 : Int32} {S : SM} (hC : CM yX1_sizeAt dM_sizeAt [s2, s1, s0] S post2) (k : ∀ r S1, post2 r S1 → VM dM_bestBase post 20 [.inl r] [some (.inr 0), some (.inl x1), some (.inl x2), some (.inl x3), some (.inl x4)] S1) : VM dM_bestBase post 17 [.inl s0, .inl s1, .inl s2, .inr 0] [some (.inr 0), some (.inl x1), some (.inl x2), some (.inl x3), some (.inl x4)] S := cllM (idx := 46) [s2, s1, s0] hC cwM_sizeAt cnM_sizeAt (by decide +kernel) ⟨by decide, by decide⟩ (Nat.le_of_ble_eq_true rfl) k
theorem csM_bestBase_24 {post post2 : Int32 → SM → Prop} {x1 x2 x3 x4 s0 s1 s2 s4 : Int32} {S : SM} (hC : CM yX1_sizeAt dM_sizeAt [s2, s1, s0] S post2) (k : ∀ r S1, post2 r S1 → VM dM_bestBase post 27 [.inl r, .inl s4] [some (.inr 0), some (.inl x1), some (.inl x2), some (.inl x3), some (.inl x4)] S1) : VM dM_bestBase post 24 [.inl s0, .inl s1, .inl s2, .inr 0, .inl s4] [some (.inr 0), some (.inl x1), some (.inl x2), some (.inl x3), some (.inl x4)] S := cllM (idx := 46) [s2, s1, s0] hC cwM_sizeAt cnM_sizeAt (by decide +kernel) ⟨by decide, by decide⟩ (Nat.le_of_ble_eq_true rfl) k
def cutM_sizeAt : List (Nat × List Bool) := [(10, [true, true, true, true, true, true, false, false]), (37, [true, true, true, true, true, true, false, false]), (40, [true, true, true, true, true, true, false, false]), (45, [true, true, true, true, true, true, false, false]), (48, [true, true, true, true, true, true, false, false])]
theorem sgM_sizeAt_0 {post : Int32 → SM → Prop} {x1 x2 x3 : Int32} {nu zs : Nat → Int32} (h : VM dM_sizeAt post 10 [] [some (.inr 0), some (.inl x1), some (.inl x2), some (.inl x3), some (.inl 9), some (.inl (8 * x2)), none, none] (nu, zs)) : VM dM_sizeAt post 0 [] [some (.inr 0), some (.inl x1), some (.inl x2), some (.inl x3), none, none, none, none] (nu, zs) := segM okM_sizeAt cutM_sizeAt 300 h
theorem sgM_sizeAt_10 {post : Int32 → SM → Prop} {x1 x2 x3 x4 x5 : Int32} {nu zs : Nat → Int32} (h : (x5 < ((8 * x2) + 8) → vp_in x1 2 ∧ ((x5 < (zs (x1).toNatClampNeg) → VM dM_sizeAt post 37 [.inl x5, .inl x1, .inr 0] [some (.inr 0), some (.inl x1), some (.inl x2), some (.inl x3), some (.inl x4), some (.inl x5), none, none] (nu, zs)) ∧ (¬ x5 < (zs (x1).toNatClampNeg) → post x4 (nu, zs)))) ∧ (¬ x5 < ((8 * x2) + 8) → post x4 (nu, zs))) : VM dM_sizeAt post 10 [] [some (.inr 0), some (.inl x1), some (.inl x2), some (.inl x3), some (.inl x4), some (.inl x5), none, none] (nu, zs) := segM okM_sizeAt cutM_sizeAt 300 h
theorem sgM_sizeAt_40 {post : Int32 → SM → Prop} {x1 x2 x3 x4 x5 s0 : Int32} {nu zs : Nat → Int32} (h : VM dM_sizeAt post 45 [.inl s0, .inr 0] [some (.inr 0), some (.inl x1), some (.inl x2), some (.inl x3), some (.inl x4), some (.inl x5), none, none] (nu, zs)) : VM dM_sizeAt post 40 [.inl s0] [some (.inr 0), some (.inl x1), some (.inl x2), some (.inl x3), some (.inl x4), some (.inl x5), none, none] (nu, zs) := segM okM_sizeAt cutM_sizeAt 300 h
theorem sgM_sizeAt_48 {post : Int32 → SM → Prop} {x1 x2 x3 x4 x5 s0 : Int32} {nu zs : Nat → Int32} (h : (x3 < s0 → VM dM_sizeAt post 10 [] [some (.inr 0), some (.inl x1), some (.inl x2), some (.inl x3), some (.inl (x4 + (((x3 + 8) + s0) - x3))), some (.inl (x5 + 1)), none, none] (nu, zs)) ∧ (¬ x3 < s0 → VM dM_sizeAt post 10 [] [some (.inr 0), some (.inl x1), some (.inl x2), some (.inl x3), some (.inl (x4 + x3)), some (.inl (x5 + 1)), none, none] (nu, zs))) : VM dM_sizeAt post 48 [.inl s0] [some (.inr 0), some (.inl x1), some (.inl x2), some (.inl x3), some (.inl x4), some (.inl x5), none, none] (nu, zs) := segM okM_sizeAt cutM_sizeAt 300 h
theorem csM_sizeAt_37 {post post2 : Int32 → SM → Prop} {x1 x2 x3 x4 x5 s0 s1 : Int32} {S : SM} (hC : CM yX1_codeAt dM_codeAt [s1, s0] S post2) (k : ∀ r S1, post2 r S1 → VM dM_sizeAt post 40 [.inl r] [some (.inr 0), some (.inl x1), some (.inl x2), some (.inl x3), some (.inl x4), some (.inl x5), none, none] S1) : VM dM_sizeAt post 37 [.inl s0, .inl s1, .inr 0] [some (.inr 0), some (.inl x1), some (.inl x2), some (.inl x3), some (.inl x4), some (.inl x5), none, none] S := cllM (idx := 40) [s1, s0] hC cwM_codeAt cnM_codeAt (by decide +kernel) ⟨by decide, by decide⟩ (Nat.le_of_ble_eq_true rfl) k
theorem csM_sizeAt_45 {post post2 : Int32 → SM → Prop} {x1 x2 x3 x4 x5 s0 : Int32} {S : SM} (hC : CM yX1_widthOf dM_widthOf [s0] S post2) (k : ∀ r S1, post2 r S1 → VM dM_sizeAt post 48 [.inl r] [some (.inr 0), some (.inl x1), some (.inl x2), some (.inl x3), some (.inl x4), some (.inl x5), none, none] S1) : VM dM_sizeAt post 45 [.inl s0, .inr 0] [some (.inr 0), some (.inl x1), some (.inl x2), some (.inl x3), some (.inl x4), some (.inl x5), none, none] S := cllM (idx := 43) [s0] hC cwM_widthOf cnM_widthOf (by decide +kernel) ⟨by decide, by decide⟩ (Nat.le_of_ble_eq_true rfl) k
def cutM_codeAt : List (Nat × List Bool) := []
theorem sgM_codeAt_0 {post : Int32 → SM → Prop} {x1 x2 : Int32} {nu zs : Nat → Int32} (h : (x2 = 0 → vp_in ((64 * x1) + x2) 128 ∧ (post (((nu (((64 * x1) + x2)).toNatClampNeg) - (-1)) - 1) (nu, zs))) ∧ (¬ x2 = 0 → vp_in (((64 * x1) + x2) - 1) 128 ∧ (vp_in ((64 * x1) + x2) 128 ∧ (post (((nu (((64 * x1) + x2)).toNatClampNeg) - (nu ((((64 * x1) + x2) - 1)).toNatClampNeg)) - 1) (nu, zs))))) : VM dM_codeAt post 0 [] [some (.inr 0), some (.inl x1), some (.inl x2), none] (nu, zs) := segM okM_codeAt cutM_codeAt 300 h
def cutM_widthOf : List (Nat × List Bool) := [(2, [false, true, true])]
theorem sgM_widthOf_0 {post : Int32 → SM → Prop} {x1 : Int32} {nu zs : Nat → Int32} (h : VM dM_widthOf post 2 [] [none, some (.inl x1), some (.inl 0)] (nu, zs)) : VM dM_widthOf post 0 [] [some (.inr 0), some (.inl x1), none] (nu, zs) := segM okM_widthOf cutM_widthOf 300 h
theorem sgM_widthOf_2 {post : Int32 → SM → Prop} {x1 x2 : Int32} {nu zs : Nat → Int32} (h : (x2 < 20 → (x1 < ((1 : Int32) <<< (x2 &&& 31) : Int32) → post x2 (nu, zs)) ∧ (¬ x1 < ((1 : Int32) <<< (x2 &&& 31) : Int32) → VM dM_widthOf post 2 [] [none, some (.inl x1), some (.inl (x2 + 1))] (nu, zs))) ∧ (¬ x2 < 20 → post x2 (nu, zs))) : VM dM_widthOf post 2 [] [none, some (.inl x1), some (.inl x2)] (nu, zs) := segM okM_widthOf cutM_widthOf 300 h
def cutM_blockSize : List (Nat × List Bool) := [(2, [true, true, true, false]), (5, [true, true, true, false]), (13, [true, true, true, false]), (16, [true, true, true, false]), (25, [true, true, true, false]), (28, [true, true, true, false]), (33, [false, false, false, false]), (36, [false, false, false, false])]
theorem sgM_blockSize_0 {post : Int32 → SM → Prop} {x1 x2 : Int32} {nu zs : Nat → Int32} (h : VM dM_blockSize post 2 [.inl x1, .inr 0] [some (.inr 0), some (.inl x1), some (.inl x2), none] (nu, zs)) : VM dM_blockSize post 0 [] [some (.inr 0), some (.inl x1), some (.inl x2), none] (nu, zs) := segM okM_blockSize cutM_blockSize 300 h
theorem sgM_blockSize_5 {post : Int32 → SM → Prop} {x1 x2 s0 : Int32} {nu zs : Nat → Int32} (h : (s0 = 0 → post (-1) (nu, zs)) ∧ (¬ s0 = 0 → VM dM_blockSize post 13 [.inl x2, .inl x1, .inr 0] [some (.inr 0), some (.inl x1), some (.inl x2), none] (nu, zs))) : VM dM_blockSize post 5 [.inl s0] [some (.inr 0), some (.inl x1), some (.inl x2), none] (nu, zs) := segM okM_blockSize cutM_blockSize 300 h
theorem sgM_blockSize_16 {post : Int32 → SM → Prop} {x1 x2 s0 : Int32} {nu zs : Nat → Int32} (h : (s0 = 0 → post (-4) (nu, zs)) ∧ (¬ s0 = 0 → VM dM_blockSize post 25 [.inl x2, .inl x1, .inr 0] [some (.inr 0), some (.inl x1), some (.inl x2), none] (nu, zs))) : VM dM_blockSize post 16 [.inl s0] [some (.inr 0), some (.inl x1), some (.inl x2), none] (nu, zs) := segM okM_blockSize cutM_blockSize 300 h
theorem sgM_blockSize_28 {post : Int32 → SM → Prop} {x1 x2 s0 : Int32} {nu zs : Nat → Int32} (h : VM dM_blockSize post 33 [.inl s0, .inl x2, .inl x1, .inr 0] [none, none, none, none] (nu, zs)) : VM dM_blockSize post 28 [.inl s0] [some (.inr 0), some (.inl x1), some (.inl x2), none] (nu, zs) := segM okM_blockSize cutM_blockSize 300 h
theorem sgM_blockSize_36 {post : Int32 → SM → Prop} {s0 : Int32} {nu zs : Nat → Int32} (h : post s0 (nu, zs)) : VM dM_blockSize post 36 [.inl s0] [none, none, none, none] (nu, zs) := segM okM_blockSize cutM_blockSize 300 h
theorem csM_blockSize_2 {post post2 : Int32 → SM → Prop} {x1 x2 s0 : Int32} {S : SM} (hC : CM yX1_isList dM_isList [s0] S post2) (k : ∀ r S1, post2 r S1 → VM dM_blockSize post 5 [.inl r] [some (.inr 0), some (.inl x1), some (.inl x2), none] S1) : VM dM_blockSize post 2 [.inl s0, .inr 0] [some (.inr 0), some (.inl x1), some (.inl x2), none] S := cllM (idx := 17) [s0] hC cwM_isList cnM_isList (by decide +kernel) ⟨by decide, by decide⟩ (Nat.le_of_ble_eq_true rfl) k
theorem csM_blockSize_13 {post post2 : Int32 → SM → Prop} {x1 x2 s0 s1 : Int32} {S : SM} (hC : CM yX1_isBlock dM_isBlock [s1, s0] S post2) (k : ∀ r S1, post2 r S1 → VM dM_blockSize post 16 [.inl r] [some (.inr 0), some (.inl x1), some (.inl x2), none] S1) : VM dM_blockSize post 13 [.inl s0, .inl s1, .inr 0] [some (.inr 0), some (.inl x1), some (.inl x2), none] S := cllM (idx := 50) [s1, s0] hC cwM_isBlock cnM_isBlock (by decide +kernel) ⟨by decide, by decide⟩ (Nat.le_of_ble_eq_true rfl) k
theorem csM_blockSize_25 {post post2 : Int32 → SM → Prop} {x1 x2 s0 s1 : Int32} {S : SM} (hC : CM yX1_bestBase dM_bestBase [s1, s0] S post2) (k : ∀ r S1, post2 r S1 → VM dM_blockSize post 28 [.inl r] [some (.inr 0), some (.inl x1), some (.inl x2), none] S1) : VM dM_blockSize post 25 [.inl s0, .inl s1, .inr 0] [some (.inr 0), some (.inl x1), some (.inl x2), none] S := cllM (idx := 53) [s1, s0] hC cwM_bestBase cnM_bestBase (by decide +kernel) ⟨by decide, by decide⟩ (Nat.le_of_ble_eq_true rfl) k
theorem csM_blockSize_33 {post post2 : Int32 → SM → Prop} {s0 s1 s2 : Int32} {S : SM} (hC : CM yX1_sizeAt dM_sizeAt [s2, s1, s0] S post2) (k : ∀ r S1, post2 r S1 → VM dM_blockSize post 36 [.inl r] [none, none, none, none] S1) : VM dM_blockSize post 33 [.inl s0, .inl s1, .inl s2, .inr 0] [none, none, none, none] S := cllM (idx := 46) [s2, s1, s0] hC cwM_sizeAt cnM_sizeAt (by decide +kernel) ⟨by decide, by decide⟩ (Nat.le_of_ble_eq_true rfl) k
def cutM_packed : List (Nat × List Bool) := [(4, [true, true, true, false]), (11, [true, true, true, true]), (31, [true, false, true, true]), (34, [true, false, true, true])]
theorem sgM_packed_0 {post : Int32 → SM → Prop} {nu zs : Nat → Int32} (h : VM dM_packed post 4 [] [some (.inr 0), some (.inl 0), some (.inl 0), none] (nu, zs)) : VM dM_packed post 0 [] [some (.inr 0), none, none, none] (nu, zs) := segM okM_packed cutM_packed 300 h
theorem sgM_packed_4 {post : Int32 → SM → Prop} {x1 x2 : Int32} {nu zs : Nat → Int32} (h : (x2 < 2 → VM dM_packed post 11 [] [some (.inr 0), some (.inl x1), some (.inl x2), some (.inl 0)] (nu, zs)) ∧ (¬ x2 < 2 → post x1 (nu, zs))) : VM dM_packed post 4 [] [some (.inr 0), some (.inl x1), some (.inl x2), none] (nu, zs) := segM okM_packed cutM_packed 300 h
theorem sgM_packed_11 {post : Int32 → SM → Prop} {x1 x2 x3 : Int32} {nu zs : Nat → Int32} (h : vp_in x2 2 ∧ ((¬ (8 : Int32) = 0) ∧ ((x3 < (((zs (x2).toNatClampNeg) + 7) / 8) → VM dM_packed post 31 [.inl x3, .inl x2, .inr 0, .inl x1] [some (.inr 0), none, some (.inl x2), some (.inl x3)] (nu, zs)) ∧ (¬ x3 < (((zs (x2).toNatClampNeg) + 7) / 8) → VM dM_packed post 4 [] [some (.inr 0), some (.inl x1), some (.inl (x2 + 1)), none] (nu, zs))))) : VM dM_packed post 11 [] [some (.inr 0), some (.inl x1), some (.inl x2), some (.inl x3)] (nu, zs) := segM okM_packed cutM_packed 300 h
theorem sgM_packed_34 {post : Int32 → SM → Prop} {x2 x3 s0 s1 : Int32} {nu zs : Nat → Int32} (h : VM dM_packed post 11 [] [some (.inr 0), some (.inl (s1 + s0)), some (.inl x2), some (.inl (x3 + 1))] (nu, zs)) : VM dM_packed post 34 [.inl s0, .inl s1] [some (.inr 0), none, some (.inl x2), some (.inl x3)] (nu, zs) := segM okM_packed cutM_packed 300 h
theorem csM_packed_31 {post post2 : Int32 → SM → Prop} {x2 x3 s0 s1 s3 : Int32} {S : SM} (hC : CM yX1_blockSize dM_blockSize [s1, s0] S post2) (k : ∀ r S1, post2 r S1 → VM dM_packed post 34 [.inl r, .inl s3] [some (.inr 0), none, some (.inl x2), some (.inl x3)] S1) : VM dM_packed post 31 [.inl s0, .inl s1, .inr 0, .inl s3] [some (.inr 0), none, some (.inl x2), some (.inl x3)] S := cllM (idx := 56) [s1, s0] hC cwM_blockSize cnM_blockSize (by decide +kernel) ⟨by decide, by decide⟩ (Nat.le_of_ble_eq_true rfl) k
def cutM_common : List (Nat × List Bool) := [(4, [true, true, true]), (22, [true, true, true]), (25, [true, true, true])]
theorem sgM_common_0 {post : Int32 → SM → Prop} {nu zs : Nat → Int32} (h : VM dM_common post 4 [] [some (.inr 0), some (.inl 0), some (.inl 0)] (nu, zs)) : VM dM_common post 0 [] [some (.inr 0), none, none] (nu, zs) := segM okM_common cutM_common 300 h
theorem sgM_common_4 {post : Int32 → SM → Prop} {x1 x2 : Int32} {nu zs : Nat → Int32} (h : vp_in 0 2 ∧ ((x2 < (zs ((0 : Int32)).toNatClampNeg) → vp_in x2 128 ∧ (VM dM_common post 22 [.inl (nu (x2).toNatClampNeg), .inl 1, .inr 0] [some (.inr 0), some (.inl x1), some (.inl x2)] (nu, zs))) ∧ (¬ x2 < (zs ((0 : Int32)).toNatClampNeg) → post x1 (nu, zs)))) : VM dM_common post 4 [] [some (.inr 0), some (.inl x1), some (.inl x2)] (nu, zs) := segM okM_common cutM_common 300 h
theorem sgM_common_25 {post : Int32 → SM → Prop} {x1 x2 s0 : Int32} {nu zs : Nat → Int32} (h : (s0 = 0 → VM dM_common post 4 [] [some (.inr 0), some (.inl x1), some (.inl (x2 + 1))] (nu, zs)) ∧ (¬ s0 = 0 → VM dM_common post 4 [] [some (.inr 0), some (.inl (x1 + 1)), some (.inl (x2 + 1))] (nu, zs))) : VM dM_common post 25 [.inl s0] [some (.inr 0), some (.inl x1), some (.inl x2)] (nu, zs) := segM okM_common cutM_common 300 h
theorem csM_common_22 {post post2 : Int32 → SM → Prop} {x1 x2 s0 s1 : Int32} {S : SM} (hC : CM yX1_has dM_has [s1, s0] S post2) (k : ∀ r S1, post2 r S1 → VM dM_common post 25 [.inl r] [some (.inr 0), some (.inl x1), some (.inl x2)] S1) : VM dM_common post 22 [.inl s0, .inl s1, .inr 0] [some (.inr 0), some (.inl x1), some (.inl x2)] S := cllM (idx := 32) [s1, s0] hC cwM_has cnM_has (by decide +kernel) ⟨by decide, by decide⟩ (Nat.le_of_ble_eq_true rfl) k
def cutM_commonAt : List (Nat × List Bool) := [(4, [true, true, true, true]), (22, [true, true, true, true]), (25, [true, true, true, true])]
theorem sgM_commonAt_0 {post : Int32 → SM → Prop} {x1 : Int32} {nu zs : Nat → Int32} (h : VM dM_commonAt post 4 [] [some (.inr 0), some (.inl x1), some (.inl 0), some (.inl 0)] (nu, zs)) : VM dM_commonAt post 0 [] [some (.inr 0), some (.inl x1), none, none] (nu, zs) := segM okM_commonAt cutM_commonAt 300 h
theorem sgM_commonAt_4 {post : Int32 → SM → Prop} {x1 x2 x3 : Int32} {nu zs : Nat → Int32} (h : vp_in 0 2 ∧ ((x3 < (zs ((0 : Int32)).toNatClampNeg) → vp_in x3 128 ∧ (VM dM_commonAt post 22 [.inl (nu (x3).toNatClampNeg), .inl 1, .inr 0] [some (.inr 0), some (.inl x1), some (.inl x2), some (.inl x3)] (nu, zs))) ∧ (¬ x3 < (zs ((0 : Int32)).toNatClampNeg) → post (-4) (nu, zs)))) : VM dM_commonAt post 4 [] [some (.inr 0), some (.inl x1), some (.inl x2), some (.inl x3)] (nu, zs) := segM okM_commonAt cutM_commonAt 300 h
theorem sgM_commonAt_25 {post : Int32 → SM → Prop} {x1 x2 x3 s0 : Int32} {nu zs : Nat → Int32} (h : (s0 = 0 → VM dM_commonAt post 4 [] [some (.inr 0), some (.inl x1), some (.inl x2), some (.inl (x3 + 1))] (nu, zs)) ∧ (¬ s0 = 0 → (x2 = x1 → vp_in x3 128 ∧ (post (nu (x3).toNatClampNeg) (nu, zs))) ∧ (¬ x2 = x1 → VM dM_commonAt post 4 [] [some (.inr 0), some (.inl x1), some (.inl (x2 + 1)), some (.inl (x3 + 1))] (nu, zs)))) : VM dM_commonAt post 25 [.inl s0] [some (.inr 0), some (.inl x1), some (.inl x2), some (.inl x3)] (nu, zs) := segM okM_commonAt cutM_commonAt 300 h
theorem csM_commonAt_22 {post post2 : Int32 → SM → Prop} {x1 x2 x3 s0 s1 : Int32} {S : SM} (hC : CM yX1_has dM_has [s1, s0] S post2) (k : ∀ r S1, post2 r S1 → VM dM_commonAt post 25 [.inl r] [some (.inr 0), some (.inl x1), some (.inl x2), some (.inl x3)] S1) : VM dM_commonAt post 22 [.inl s0, .inl s1, .inr 0] [some (.inr 0), some (.inl x1), some (.inl x2), some (.inl x3)] S := cllM (idx := 32) [s1, s0] hC cwM_has cnM_has (by decide +kernel) ⟨by decide, by decide⟩ (Nat.le_of_ble_eq_true rfl) k
def cutM_tail : List (Nat × List Bool) := [(2, [true, true, false, false]), (5, [true, true, false, false]), (22, [true, true, true, true]), (41, [true, true, true, true]), (44, [true, true, true, true])]
theorem sgM_tail_0 {post : Int32 → SM → Prop} {x1 : Int32} {nu zs : Nat → Int32} (h : VM dM_tail post 2 [.inl x1, .inr 0] [some (.inr 0), some (.inl x1), none, none] (nu, zs)) : VM dM_tail post 0 [] [some (.inr 0), some (.inl x1), none, none] (nu, zs) := segM okM_tail cutM_tail 300 h
theorem sgM_tail_5 {post : Int32 → SM → Prop} {x1 s0 : Int32} {nu zs : Nat → Int32} (h : (s0 = 0 → post (-1) (nu, zs)) ∧ (¬ s0 = 0 → vp_in x1 2 ∧ (VM dM_tail post 22 [] [some (.inr 0), some (.inl x1), some (.inl (-4)), some (.inl ((zs (x1).toNatClampNeg) - 1))] (nu, zs)))) : VM dM_tail post 5 [.inl s0] [some (.inr 0), some (.inl x1), none, none] (nu, zs) := segM okM_tail cutM_tail 300 h
theorem sgM_tail_22 {post : Int32 → SM → Prop} {x1 x2 x3 : Int32} {nu zs : Nat → Int32} (h : (x3 < 0 → post x2 (nu, zs)) ∧ (¬ x3 < 0 → vp_in ((64 * x1) + x3) 128 ∧ (VM dM_tail post 41 [.inl (nu (((64 * x1) + x3)).toNatClampNeg), .inl (1 - x1), .inr 0] [some (.inr 0), some (.inl x1), some (.inl x2), some (.inl x3)] (nu, zs)))) : VM dM_tail post 22 [] [some (.inr 0), some (.inl x1), some (.inl x2), some (.inl x3)] (nu, zs) := segM okM_tail cutM_tail 300 h
theorem sgM_tail_44 {post : Int32 → SM → Prop} {x1 x2 x3 s0 : Int32} {nu zs : Nat → Int32} (h : (s0 = 0 → post x2 (nu, zs)) ∧ (¬ s0 = 0 → vp_in ((64 * x1) + x3) 128 ∧ (VM dM_tail post 22 [] [some (.inr 0), some (.inl x1), some (.inl (nu (((64 * x1) + x3)).toNatClampNeg)), some (.inl (x3 + (-1)))] (nu, zs)))) : VM dM_tail post 44 [.inl s0] [some (.inr 0), some (.inl x1), some (.inl x2), some (.inl x3)] (nu, zs) := segM okM_tail cutM_tail 300 h
theorem csM_tail_2 {post post2 : Int32 → SM → Prop} {x1 s0 : Int32} {S : SM} (hC : CM yX1_isList dM_isList [s0] S post2) (k : ∀ r S1, post2 r S1 → VM dM_tail post 5 [.inl r] [some (.inr 0), some (.inl x1), none, none] S1) : VM dM_tail post 2 [.inl s0, .inr 0] [some (.inr 0), some (.inl x1), none, none] S := cllM (idx := 17) [s0] hC cwM_isList cnM_isList (by decide +kernel) ⟨by decide, by decide⟩ (Nat.le_of_ble_eq_true rfl) k
theorem csM_tail_41 {post post2 : Int32 → SM → Prop} {x1 x2 x3 s0 s1 : Int32} {S : SM} (hC : CM yX1_has dM_has [s1, s0] S post2) (k : ∀ r S1, post2 r S1 → VM dM_tail post 44 [.inl r] [some (.inr 0), some (.inl x1), some (.inl x2), some (.inl x3)] S1) : VM dM_tail post 41 [.inl s0, .inl s1, .inr 0] [some (.inr 0), some (.inl x1), some (.inl x2), some (.inl x3)] S := cllM (idx := 32) [s1, s0] hC cwM_has cnM_has (by decide +kernel) ⟨by decide, by decide⟩ (Nat.le_of_ble_eq_true rfl) k
end
section
def bt (x : Int32) (i : Nat) : Bool := x.toBitVec.getLsbD i
theorem b_ext {x y : Int32} (h : ∀ i, i < 32 → bt x i = bt y i) : x = y := Int32.toBitVec_inj.mp (BitVec.eq_of_getLsbD_eq (fun i hi => h i hi))
theorem b_or (x y : Int32) (i : Nat) : bt (x ||| y) i = (bt x i || bt y i) := by unfold bt; rw [Int32.toBitVec_or, BitVec.getLsbD_or]
theorem b_and (x y : Int32) (i : Nat) : bt (x &&& y) i = (bt x i && bt y i) := by unfold bt; rw [Int32.toBitVec_and, BitVec.getLsbD_and]
theorem b_xor (x y : Int32) (i : Nat) : bt (x ^^^ y) i = (bt x i ^^ bt y i) := by unfold bt; rw [Int32.toBitVec_xor, BitVec.getLsbD_xor]
theorem b_big {x : Int32} {i : Nat} (h : 32 ≤ i) : bt x i = false := BitVec.getLsbD_of_ge _ _ h
theorem b_255 (i : Nat) : bt 255 i = decide (i < 8) := by
  rcases Nat.lt_or_ge i 32 with h | h
  · exact (by decide +kernel : ∀ i, i < 32 → bt 255 i = decide (i < 8)) i h
  · rw [b_big h, decide_eq_false (by omega)]
theorem b_65535 (i : Nat) : bt 65535 i = decide (i < 16) := by
  rcases Nat.lt_or_ge i 32 with h | h
  · exact (by decide +kernel : ∀ i, i < 32 → bt 65535 i = decide (i < 16)) i h
  · rw [b_big h, decide_eq_false (by omega)]
theorem b_m1 : ∀ i, i < 32 → bt (-1) i = true := by decide +kernel
theorem b_0 (i : Nat) : bt 0 i = false := BitVec.getLsbD_zero
theorem s_l : ∀ n, n < 32 → ((nI n &&& 31).toBitVec.smod 32).toNat = n := by decide +kernel
theorem s_u : ∀ n, n < 32 → (((nI n).toUInt32 &&& Int32.toUInt32 31).toBitVec % 32).toNat = n := by decide +kernel
theorem b_shl (n : Nat) (hn : n < 32) (x : Int32) {i : Nat} (hi : i < 32) : bt (x <<< (nI n &&& 31)) i = (decide (n ≤ i) && bt x (i - n)) := by
  unfold bt
  rw [Int32.toBitVec_shiftLeft]
  show (x.toBitVec <<< ((nI n &&& 31).toBitVec.smod 32).toNat).getLsbD i = _
  rw [s_l n hn, BitVec.getLsbD_shiftLeft]
  rcases Nat.lt_or_ge i n with h | h
  · simp [h, Nat.not_le.mpr h]
  · simp [hi, h, Nat.not_lt.mpr h]
theorem b_ushr (n : Nat) (hn : n < 32) (x : Int32) (i : Nat) : bt ((x.toUInt32 >>> ((nI n).toUInt32 &&& Int32.toUInt32 31)).toInt32) i = bt x (n + i) := by
  show (x.toUInt32 >>> ((nI n).toUInt32 &&& Int32.toUInt32 31)).toBitVec.getLsbD i = x.toUInt32.toBitVec.getLsbD (n + i)
  rw [UInt32.toBitVec_shiftRight]
  show (x.toUInt32.toBitVec >>> (((nI n).toUInt32 &&& Int32.toUInt32 31).toBitVec % 32).toNat).getLsbD i = _
  rw [s_u n hn, BitVec.getLsbD_ushiftRight]
theorem b_sshr (n : Nat) (hn : n < 32) (x : Int32) {i : Nat} (hi : i < 32) : bt (x >>> (nI n &&& 31)) i = if n + i < 32 then bt x (n + i) else bt x 31 := by
  unfold bt
  rw [Int32.toBitVec_shiftRight]
  show (x.toBitVec.sshiftRight ((nI n &&& 31).toBitVec.smod 32).toNat).getLsbD i = _
  rw [s_l n hn, BitVec.getLsbD_sshiftRight, BitVec.msb_eq_getLsbD_last]
  simp [hi]
theorem b_shl8 (x : Int32) {i : Nat} (hi : i < 32) : bt (x <<< ((8 : Int32) &&& 31)) i = (decide (8 ≤ i) && bt x (i - 8)) := b_shl 8 (by omega) x hi
theorem b_shl16 (x : Int32) {i : Nat} (hi : i < 32) : bt (x <<< ((16 : Int32) &&& 31)) i = (decide (16 ≤ i) && bt x (i - 16)) := b_shl 16 (by omega) x hi
theorem b_shl24 (x : Int32) {i : Nat} (hi : i < 32) : bt (x <<< ((24 : Int32) &&& 31)) i = (decide (24 ≤ i) && bt x (i - 24)) := b_shl 24 (by omega) x hi
theorem b_sshr8 (x : Int32) {i : Nat} (hi : i < 32) : bt (x >>> ((8 : Int32) &&& 31)) i = if 8 + i < 32 then bt x (8 + i) else bt x 31 := b_sshr 8 (by omega) x hi
theorem fa_lt (a b : Int32) : a < b ↔ a.toInt < b.toInt := Int32.lt_iff_toInt_lt
theorem fa_le (a b : Int32) : a ≤ b ↔ a.toInt ≤ b.toInt := Int32.le_iff_toInt_le
theorem fa_eq (a b : Int32) : a = b ↔ a.toInt = b.toInt := Int32.toInt_inj.symm
theorem fa_lt64 (a b : Int64) : a < b ↔ a.toInt < b.toInt := Int64.lt_iff_toInt_lt
theorem fa_le64 (a b : Int64) : a ≤ b ↔ a.toInt ≤ b.toInt := Int64.le_iff_toInt_le
theorem fa_eq64 (a b : Int64) : a = b ↔ a.toInt = b.toInt := Int64.toInt_inj.symm
/-- a comparison of two ints taken as longs -/
theorem fa_wide_lt (a b : Int32) : a.toInt64 < b.toInt64 ↔ a < b := by rw [fa_lt64, fa_lt, Int32.toInt_toInt64, Int32.toInt_toInt64]
theorem fa_wide_le (a b : Int32) : a.toInt64 ≤ b.toInt64 ↔ a ≤ b := by rw [fa_le64, fa_le, Int32.toInt_toInt64, Int32.toInt_toInt64]
theorem fa_wide_eq (a b : Int32) : a.toInt64 = b.toInt64 ↔ a = b := by rw [fa_eq64, fa_eq, Int32.toInt_toInt64, Int32.toInt_toInt64]
/-- one strict comparison gives all the others -/
theorem fa_of_lt {a b : Int32} (h : a < b) : a ≤ b ∧ ¬ b ≤ a ∧ ¬ b < a ∧ a ≠ b ∧ b ≠ a := by
  rw [fa_lt] at h
  refine ⟨?_, ?_, ?_, ?_, ?_⟩
  · rw [fa_le]; omega
  · rw [fa_le]; omega
  · rw [fa_lt]; omega
  · intro e; rw [fa_eq] at e; omega
  · intro e; rw [fa_eq] at e; omega
theorem fa_of_nlt {a b : Int32} (h : ¬ a < b) : b ≤ a := by
  rw [fa_lt] at h
  rw [fa_le]
  omega
theorem fa_of_nle {a b : Int32} (h : ¬ a ≤ b) : b < a := by
  rw [fa_le] at h
  rw [fa_lt]
  omega
theorem fa_le_ne {a b : Int32} (h : a ≤ b) (h2 : a ≠ b) : a < b := by
  rw [fa_le] at h
  rw [fa_lt]
  have h3 : a.toInt ≠ b.toInt := fun e => h2 ((fa_eq a b).mpr e)
  omega
theorem fa_three (a b : Int32) : a < b ∨ a = b ∨ b < a := by
  rw [fa_lt, fa_lt, fa_eq]
  omega
theorem fa_trans {a b c : Int32} (h : a < b) (h2 : b ≤ c) : a < c := by
  rw [fa_lt] at *
  rw [fa_le] at h2
  omega
theorem fa_lit (n : Nat) : (OfNat.ofNat n : Int32) = nI n := rfl
theorem fa_litL (n : Nat) : (OfNat.ofNat n : Int64) = lN n := rfl
theorem fa_and (a b : Nat) : nI a &&& nI b = nI (a &&& b) := by
  apply Int32.toBitVec_inj.1
  show BitVec.ofNat 32 a &&& BitVec.ofNat 32 b = BitVec.ofNat 32 (a &&& b)
  apply BitVec.eq_of_getLsbD_eq
  intro i hi
  simp [hi]
theorem fa_or (a b : Nat) : nI a ||| nI b = nI (a ||| b) := by
  apply Int32.toBitVec_inj.1
  show BitVec.ofNat 32 a ||| BitVec.ofNat 32 b = BitVec.ofNat 32 (a ||| b)
  apply BitVec.eq_of_getLsbD_eq
  intro i hi
  simp [hi]
/-- a remainder by a power of two, as a mask -/
theorem fa_mask (n k : Nat) : nI n &&& nI (2 ^ k - 1) = nI (n % 2 ^ k) := by rw [fa_and, Nat.and_two_pow_sub_one_eq_mod]
/-- 'or' of a high part and a low one that don't meet is their sum -/
theorem fa_or_sum {a k : Nat} (b : Nat) (h : a < 2 ^ k) : nI (2 ^ k * b) ||| nI a = nI (2 ^ k * b + a) := by rw [fa_or, Nat.two_pow_add_eq_or_of_lt h]
/-- one bit, by 'and' with a power of two -/
theorem fa_bit {n j : Nat} (hj : j < 31) : nI n &&& nI (2 ^ j) = 0 ↔ n.testBit j = false := by
  have h2 : (2 : Nat) ^ j < 2 ^ 31 := Nat.pow_lt_pow_right (by decide) hj
  have hle : n &&& 2 ^ j ≤ 2 ^ j := Nat.and_le_right
  have e : n &&& 2 ^ j = 0 ↔ n.testBit j = false := by
    constructor
    · intro h
      have h1 : (n &&& 2 ^ j).testBit j = false := by rw [h]; simp
      rw [Nat.testBit_and] at h1
      first | simpa using h1 | simpa [Nat.testBit_two_pow_self] using h1 | simpa [Nat.testBit_two_pow] using h1
    · intro h
      apply Nat.eq_of_testBit_eq
      intro i
      rw [Nat.testBit_and]
      by_cases hi : j = i
      · subst hi; simp [h]
      · first | (simp [Nat.testBit_two_pow, hi]; done) | (simp [Nat.testBit_two_pow_of_ne hi]; done)
  rw [fa_and]
  constructor
  · intro h
    apply e.mp
    rcases Nat.eq_zero_or_pos (n &&& 2 ^ j) with z | z
    · exact z
    · exact absurd h (nI_ne0 z (Nat.lt_of_le_of_lt hle h2))
  · intro h
    rw [e.mpr h]; exact nI_0
/-- a remainder by a power of two of a number that isn't negative, as Java divides -/
theorem fa_rem {a k : Nat} (ha : a < 2 ^ 31) (hk : k < 31) : nI a - nI a / nI (2 ^ k) * nI (2 ^ k) = nI (a % 2 ^ k) := pk_rem ha (Nat.two_pow_pos k) (Nat.pow_lt_pow_right (by decide) hk)
theorem fa_byte_xor (x y : Int32) : (x ^^^ y).toInt8 = x.toInt8 ^^^ y.toInt8 := by
  apply Int8.toBitVec_inj.1
  apply BitVec.eq_of_getLsbD_eq
  intro i hi
  first | (simp [hi]; done) | (simp [hi, BitVec.getLsbD_setWidth, BitVec.getLsbD_signExtend]; done)
theorem fa_short_xor (x y : Int32) : (x ^^^ y).toInt16 = x.toInt16 ^^^ y.toInt16 := by
  apply Int16.toBitVec_inj.1
  apply BitVec.eq_of_getLsbD_eq
  intro i hi
  first | (simp [hi]; done) | (simp [hi, BitVec.getLsbD_setWidth, BitVec.getLsbD_signExtend]; done)
/-- the cut to a byte sees the low byte alone -/
theorem fa_byte_low (x : Int32) : (x &&& 255).toInt8 = x.toInt8 := by
  apply Int8.toBitVec_inj.1
  apply BitVec.eq_of_getLsbD_eq
  intro i hi
  have h2 : (255 : Int32).toBitVec.getLsbD i = true := by
    have : ∀ j : Fin 8, (255 : Int32).toBitVec.getLsbD j.val = true := by decide +kernel
    exact this ⟨i, hi⟩
  have h4 : (x &&& 255).toBitVec.getLsbD i = x.toBitVec.getLsbD i := by
    show (x.toBitVec &&& (255 : Int32).toBitVec).getLsbD i = _
    rw [BitVec.getLsbD_and, h2, Bool.and_true]
  have h3 : i < 32 := by omega
  first
    | (show (((x &&& 255).toBitVec).signExtend 8).getLsbD i = (x.toBitVec.signExtend 8).getLsbD i; rw [BitVec.getLsbD_signExtend, BitVec.getLsbD_signExtend, if_pos h3, if_pos h3, h4])
    | (show (((x &&& 255).toBitVec).setWidth 8).getLsbD i = (x.toBitVec.setWidth 8).getLsbD i; rw [BitVec.getLsbD_setWidth, BitVec.getLsbD_setWidth, h4])
    | (simp [hi, h3, h4]; done)
theorem fa_short_low (x : Int32) : (x &&& 65535).toInt16 = x.toInt16 := by
  apply Int16.toBitVec_inj.1
  apply BitVec.eq_of_getLsbD_eq
  intro i hi
  have h2 : (65535 : Int32).toBitVec.getLsbD i = true := by
    have : ∀ j : Fin 16, (65535 : Int32).toBitVec.getLsbD j.val = true := by decide +kernel
    exact this ⟨i, hi⟩
  have h4 : (x &&& 65535).toBitVec.getLsbD i = x.toBitVec.getLsbD i := by
    show (x.toBitVec &&& (65535 : Int32).toBitVec).getLsbD i = _
    rw [BitVec.getLsbD_and, h2, Bool.and_true]
  have h3 : i < 32 := by omega
  first
    | (show (((x &&& 65535).toBitVec).signExtend 16).getLsbD i = (x.toBitVec.signExtend 16).getLsbD i; rw [BitVec.getLsbD_signExtend, BitVec.getLsbD_signExtend, if_pos h3, if_pos h3, h4])
    | (show (((x &&& 65535).toBitVec).setWidth 16).getLsbD i = (x.toBitVec.setWidth 16).getLsbD i; rw [BitVec.getLsbD_setWidth, BitVec.getLsbD_setWidth, h4])
    | (simp [hi, h3, h4]; done)
/-- a small number is its own byte, its own short -/
theorem fa_byte_small {n : Nat} (h : n < 128) : (nI n).toInt8.toInt32 = nI n := by
  have : ∀ j : Fin 128, (nI j.val).toInt8.toInt32 = nI j.val := by decide +kernel
  exact this ⟨n, h⟩
theorem fa_absdiff {a b : Nat} (ha : a < 2 ^ 31) (hb : b < 2 ^ 31) : (if nI a < nI b then nI b - nI a else nI a - nI b) = nI (if a < b then b - a else a - b) := by
  by_cases h : a < b
  · rw [if_pos (nI_lt h hb), if_pos h]
    exact pk_sub (Nat.le_of_lt h)
  · rw [if_neg (nI_nlt (Nat.le_of_not_lt h) ha), if_neg h]
    exact pk_sub (Nat.le_of_not_lt h)
/-- f where k < i, what stood there else -/
def fa_fill {α : Type} (f g : Nat → α) (i : Nat) : Nat → α := fun k => if k < i then f k else g k
theorem fa_fill_0 {α : Type} (f g : Nat → α) : fa_fill f g 0 = g := funext fun k => if_neg (Nat.not_lt_zero k)
theorem fa_fill_in {α : Type} {f g : Nat → α} {i k : Nat} (h : k < i) : fa_fill f g i k = f k := if_pos h
theorem fa_fill_out {α : Type} {f g : Nat → α} {i k : Nat} (h : i ≤ k) : fa_fill f g i k = g k := if_neg (Nat.not_lt.mpr h)
theorem fa_fill_succ (f g : Nat → Int32) (i : Nat) : upd (fa_fill f g i) i (f i) = fa_fill f g (i + 1) := by
  funext k
  by_cases e : k = i
  · subst e
    rw [pk_us]
    exact (if_pos (Nat.lt_succ_self k)).symm
  · rw [pk_un e]
    by_cases h : k < i
    · rw [fa_fill_in h, fa_fill_in (Nat.lt_succ_of_lt h)]
    · rw [fa_fill_out (Nat.le_of_not_lt h), fa_fill_out (by omega)]
/-- a store that changes nothing -/
theorem fa_upd_same {f : Nat → Int32} {i : Nat} {x : Int32} (h : f i = x) : upd f i x = f := by
  funext k
  by_cases e : k = i
  · subst e
    rw [pk_us, h]
  · rw [pk_un e]
/-- a store under a condition, told as one -/
theorem fa_upd_if (c : Prop) [Decidable c] (f : Nat → Int32) (i : Nat) (x : Int32) : (if c then upd f i x else f) = upd f i (if c then x else f i) := by
  by_cases h : c
  · rw [if_pos h, if_pos h]
  · rw [if_neg h, if_neg h, fa_upd_same rfl]
/-- two stores at one place, at two -/
theorem fa_upd_twice (f : Nat → Int32) (i : Nat) (x y : Int32) : upd (upd f i x) i y = upd f i y := by
  funext k
  by_cases e : k = i
  · subst e
    rw [pk_us, pk_us]
  · rw [pk_un e, pk_un e, pk_un e]
theorem fa_upd_swap (f : Nat → Int32) {i j : Nat} (h : i ≠ j) (x y : Int32) : upd (upd f i x) j y = upd (upd f j y) i x := by
  funext k
  by_cases e : k = i
  · subst e
    rw [pk_un h, pk_us, pk_us]
  · by_cases e2 : k = j
    · subst e2
      rw [pk_us, pk_un e, pk_us]
    · rw [pk_un e2, pk_un e, pk_un e, pk_un e2]
/-- the first k < n with p k, n if there is none -/
def fa_first (p : Nat → Bool) : Nat → Nat
  | 0 => 0
  | n + 1 => if fa_first p n < n then fa_first p n else if p n then n else n + 1
theorem fa_first_le (p : Nat → Bool) : ∀ n, fa_first p n ≤ n
  | 0 => Nat.le_refl 0
  | n + 1 => by
    have ih := fa_first_le p n
    unfold fa_first
    split
    · omega
    · split
      · omega
      · omega
theorem fa_first_no (p : Nat → Bool) : ∀ n k, k < fa_first p n → p k = false
  | 0, k, h => absurd h (Nat.not_lt_zero k)
  | n + 1, k, h => by
    have ih := fa_first_no p n
    have hl := fa_first_le p n
    unfold fa_first at h
    split at h
    · exact ih k h
    · rename_i h1
      split at h
      · exact ih k (by omega)
      · rename_i h2
        by_cases e : k = n
        · subst e
          exact Bool.eq_false_iff.mpr h2
        · exact ih k (by omega)
theorem fa_first_yes (p : Nat → Bool) : ∀ n, fa_first p n < n → p (fa_first p n) = true
  | 0, h => absurd h (Nat.not_lt_zero _)
  | n + 1, h => by
    have ih := fa_first_yes p n
    have hl := fa_first_le p n
    unfold fa_first at h ⊢
    split at h
    · rename_i h1
      rw [if_pos h1]
      exact ih h1
    · rename_i h1
      rw [if_neg h1]
      split at h
      · rename_i h2
        rw [if_pos h2]
        exact h2
      · omega
/-- how many k < n have p k -/
def fa_cnt (p : Nat → Bool) : Nat → Nat
  | 0 => 0
  | n + 1 => fa_cnt p n + if p n then 1 else 0
theorem fa_cnt_le (p : Nat → Bool) : ∀ n, fa_cnt p n ≤ n
  | 0 => Nat.le_refl 0
  | n + 1 => by
    have ih := fa_cnt_le p n
    unfold fa_cnt
    split
    · omega
    · omega
theorem fa_cnt_yes {p : Nat → Bool} {n : Nat} (h : p n = true) : fa_cnt p (n + 1) = fa_cnt p n + 1 := by rw [fa_cnt, if_pos h]
theorem fa_cnt_no {p : Nat → Bool} {n : Nat} (h : p n = false) : fa_cnt p (n + 1) = fa_cnt p n := by rw [fa_cnt, if_neg (by rw [h]; decide)]; rfl
theorem fa_cnt_cong {p q : Nat → Bool} : ∀ {n : Nat}, (∀ k, k < n → p k = q k) → fa_cnt p n = fa_cnt q n
  | 0, _ => rfl
  | n + 1, h => by rw [fa_cnt, fa_cnt, fa_cnt_cong (fun k hk => h k (Nat.lt_succ_of_lt hk)), h n (Nat.lt_succ_self n)]
theorem fa_post {α : Type} {P : α → Prop} {x y : α} (h : x = y) (hp : P y) : P x := h ▸ hp
theorem fa_post2 {α β : Type} {P : α → β → Prop} {x y : α} {u v : β} (h : x = y) (h2 : u = v) (hp : P y v) : P x u := h ▸ h2 ▸ hp
theorem fa_bool {r : Int32} {b : Bool} (h : r = if b then 1 else 0) : (r = 0 ↔ b = false) ∧ (¬ r = 0 ↔ b = true) := by
  subst h
  cases b
  · exact ⟨⟨fun _ => rfl, fun _ => rfl⟩, ⟨fun h => absurd rfl h, fun h => absurd h (by decide)⟩⟩
  · exact ⟨⟨fun h => absurd h (by decide), fun h => absurd h (by decide)⟩, ⟨fun _ => rfl, fun _ => by decide⟩⟩
/-- a boolean's narrowing changes nothing -/
theorem fa_bool_and {r : Int32} (h : r = 0 ∨ r = 1) : r &&& 1 = r := by
  rcases h with rfl | rfl
  · decide
  · decide
theorem fa_bool_prop {c : Prop} [Decidable c] {r : Int32} (h : r = if c then 1 else 0) : (r = 0 ↔ ¬ c) ∧ (¬ r = 0 ↔ c) := by
  subst h
  by_cases hc : c
  · rw [if_pos hc]
    exact ⟨⟨fun h => absurd h (by decide), fun h => absurd hc h⟩, ⟨fun _ => hc, fun _ => by decide⟩⟩
  · rw [if_neg hc]
    exact ⟨⟨fun _ => hc, fun _ => rfl⟩, ⟨fun h => absurd rfl h, fun h => absurd h hc⟩⟩

theorem fb_holes : ∀ (m n : Nat) (f : Nat → Nat), (∀ i, i < n → f i < m) → (∀ i j, i < j → j < n → f i ≠ f j) → n ≤ m := by
  intro m
  induction m with
  | zero =>
    intro n f h1 _
    rcases Nat.eq_zero_or_pos n with h | h
    · omega
    · exact absurd (h1 0 h) (Nat.not_lt_zero _)
  | succ m ih =>
    intro n f h1 h2
    by_cases hx : ∃ i, i < n ∧ f i = m
    · obtain ⟨a, ha, hfa⟩ := hx
      have hg := ih (n - 1) (fun i => if i < a then f i else f (i + 1)) (by
        intro i hi
        by_cases q : i < a
        · simp only [if_pos q]
          have b1 := h1 i (by omega)
          have b2 := h2 i a q ha
          omega
        · simp only [if_neg q]
          have b1 := h1 (i + 1) (by omega)
          have b2 := h2 a (i + 1) (by omega) (by omega)
          omega) (by
        intro i j hij hj
        by_cases q : i < a
        · by_cases r : j < a
          · simp only [if_pos q, if_pos r]
            exact h2 i j hij (by omega)
          · simp only [if_pos q, if_neg r]
            exact h2 i (j + 1) (by omega) (by omega)
        · have r : ¬ j < a := by omega
          simp only [if_neg q, if_neg r]
          exact h2 (i + 1) (j + 1) (by omega) (by omega))
      omega
    · have hg := ih n f (fun i hi => by
        have b1 := h1 i hi
        have b2 : f i ≠ m := fun e => hx ⟨i, hi, e⟩
        omega) h2
      omega
/-- two of them in one place -/
theorem fb_twice {m n : Nat} {f : Nat → Nat} (h : ∀ i, i < n → f i < m) (hm : m < n) : ∃ i j, i < j ∧ j < n ∧ f i = f j := by
  refine Classical.byContradiction fun hx => ?_
  have := fb_holes m n f h (fun i j hij hj e => hx ⟨i, j, hij, hj, e⟩)
  omega
/-- as many as places, none twice: each place is taken -/
theorem fb_onto {n : Nat} {f : Nat → Nat} (h : ∀ i, i < n → f i < n) (h2 : ∀ i j, i < j → j < n → f i ≠ f j) {y : Nat} (hy : y < n) : ∃ i, i < n ∧ f i = y := by
  refine Classical.byContradiction fun hx => ?_
  have hne : ∀ i, i < n → f i ≠ y := fun i hi e => hx ⟨i, hi, e⟩
  have := fb_holes (n - 1) n (fun i => if f i < y then f i else f i - 1) (by
    intro i hi
    have b1 := h i hi
    have b2 := hne i hi
    by_cases q : f i < y
    · simp only [if_pos q]; omega
    · simp only [if_neg q]; omega) (by
    intro i j hij hj
    have b1 := hne i (by omega)
    have b2 := hne j hj
    have b3 := h2 i j hij hj
    by_cases q : f i < y
    · by_cases r : f j < y
      · simp only [if_pos q, if_pos r]; exact b3
      · simp only [if_pos q, if_neg r]; omega
    · by_cases r : f j < y
      · simp only [if_neg q, if_pos r]; omega
      · simp only [if_neg q, if_neg r]; omega)
  omega
def fb_ct (p : Nat → Bool) : Nat → Nat
  | 0 => 0
  | n + 1 => fb_ct p n + (if p n then 1 else 0)
theorem fb_ct_succ (p : Nat → Bool) (n : Nat) : fb_ct p (n + 1) = fb_ct p n + (if p n then 1 else 0) := rfl
theorem fb_ct_le (p : Nat → Bool) : ∀ n, fb_ct p n ≤ n
  | 0 => Nat.le_refl _
  | n + 1 => by
    have h := fb_ct_le p n
    rw [fb_ct_succ]
    split <;> omega
theorem fb_ct_step (p : Nat → Bool) (m : Nat) : ∀ n, fb_ct p m ≤ fb_ct p (m + n)
  | 0 => Nat.le_refl _
  | n + 1 => by
    have h := fb_ct_step p m n
    show fb_ct p m ≤ fb_ct p (m + n + 1)
    rw [fb_ct_succ]
    omega
theorem fb_ct_mono (p : Nat → Bool) {m n : Nat} (h : m ≤ n) : fb_ct p m ≤ fb_ct p n := by
  have := fb_ct_step p m (n - m)
  rwa [Nat.add_sub_cancel' h] at this
theorem fb_ct_cong {p q : Nat → Bool} : ∀ {n : Nat}, (∀ k, k < n → p k = q k) → fb_ct p n = fb_ct q n
  | 0, _ => rfl
  | n + 1, h => by
    rw [fb_ct_succ, fb_ct_succ, fb_ct_cong (fun k hk => h k (by omega)), h n (by omega)]
/-- one place changed -/
theorem fb_ct_out (p : Nat → Bool) (b : Bool) {i n : Nat} (h : n ≤ i) : fb_ct (fun k => if k = i then b else p k) n = fb_ct p n :=
  fb_ct_cong fun k hk => if_neg (by omega)
theorem fb_ct_upd (p : Nat → Bool) (b : Bool) {i : Nat} : ∀ {n : Nat}, i < n → fb_ct (fun k => if k = i then b else p k) n + (if p i then 1 else 0) = fb_ct p n + (if b then 1 else 0)
  | 0, h => absurd h (Nat.not_lt_zero i)
  | n + 1, h => by
    rw [fb_ct_succ, fb_ct_succ]
    rcases Nat.lt_or_ge i n with q | q
    · have := fb_ct_upd p b q
      have e : (if n = i then b else p n) = p n := if_neg (by omega)
      rw [e]
      omega
    · have e : i = n := by omega
      subst e
      rw [fb_ct_out p b (Nat.le_refl _)]
      simp only [if_true]
      omega
theorem fb_ct_sub {p q : Nat → Bool} : ∀ {n : Nat}, (∀ k, k < n → p k = true → q k = true) → fb_ct p n ≤ fb_ct q n
  | 0, _ => Nat.le_refl _
  | n + 1, h => by
    have h1 := fb_ct_sub (n := n) (p := p) (q := q) (fun k hk => h k (by omega))
    have h2 := h n (by omega)
    rw [fb_ct_succ, fb_ct_succ]
    cases hp : p n <;> cases hq : q n <;> simp_all <;> omega
theorem fb_ct_or {p q : Nat → Bool} : ∀ {n : Nat}, (∀ k, k < n → ¬ (p k = true ∧ q k = true)) → fb_ct (fun k => p k || q k) n = fb_ct p n + fb_ct q n
  | 0, _ => rfl
  | n + 1, h => by
    have h1 := fb_ct_or (n := n) (p := p) (q := q) (fun k hk => h k (by omega))
    have h2 := h n (by omega)
    rw [fb_ct_succ, fb_ct_succ, fb_ct_succ, h1]
    cases hp : p n <;> cases hq : q n <;> simp_all <;> omega
theorem fb_ct_not (p : Nat → Bool) : ∀ n, fb_ct p n + fb_ct (fun k => !p k) n = n
  | 0 => rfl
  | n + 1 => by
    have h := fb_ct_not p n
    rw [fb_ct_succ, fb_ct_succ]
    cases p n <;> simp <;> omega
theorem fb_ct_split (p : Nat → Bool) (m : Nat) : ∀ n, fb_ct p (m + n) = fb_ct p m + fb_ct (fun k => p (m + k)) n
  | 0 => rfl
  | n + 1 => by
    have h := fb_ct_split p m n
    show fb_ct p (m + n + 1) = _
    rw [fb_ct_succ, fb_ct_succ, h, Nat.add_assoc]
theorem fb_ct_zero {p : Nat → Bool} : ∀ {n : Nat}, fb_ct p n = 0 ↔ ∀ k, k < n → p k = false
  | 0 => ⟨fun _ k hk => absurd hk (Nat.not_lt_zero k), fun _ => rfl⟩
  | n + 1 => by
    have h := fb_ct_zero (p := p) (n := n)
    rw [fb_ct_succ]
    constructor
    · intro e k hk
      have e1 : fb_ct p n = 0 := by omega
      rcases Nat.lt_or_ge k n with q | q
      · exact h.mp e1 k q
      · have ek : k = n := by omega
        subst ek
        cases hp : p k
        · rfl
        · simp [hp] at e
    · intro a
      rw [h.mpr (fun k hk => a k (by omega)), a n (by omega)]
      rfl
theorem fb_ct_pos {p : Nat → Bool} {n : Nat} : 0 < fb_ct p n ↔ ∃ k, k < n ∧ p k = true := by
  constructor
  · intro h
    refine Classical.byContradiction fun hx => ?_
    have := fb_ct_zero.mpr (fun k hk => by
      cases hp : p k
      · rfl
      · exact absurd ⟨k, hk, hp⟩ hx : ∀ k, k < n → p k = false)
    omega
  · rintro ⟨k, hk, hp⟩
    rcases Nat.eq_zero_or_pos (fb_ct p n) with e | e
    · have := fb_ct_zero.mp e k hk
      rw [this] at hp
      cases hp
    · exact e
theorem fb_ct_all {p : Nat → Bool} {n : Nat} : fb_ct p n = n ↔ ∀ k, k < n → p k = true := by
  have h := fb_ct_not p n
  constructor
  · intro e k hk
    have z : fb_ct (fun k => !p k) n = 0 := by omega
    have := fb_ct_zero.mp z k hk
    cases hp : p k
    · simp [hp] at this
    · rfl
  · intro a
    have z : fb_ct (fun k => !p k) n = 0 := fb_ct_zero.mpr (fun k hk => by simp [a k hk])
    omega
/-- the k-th place with the property -/
theorem fb_ct_kth {p : Nat → Bool} {k : Nat} : ∀ {n : Nat}, k < fb_ct p n → ∃ i, i < n ∧ p i = true ∧ fb_ct p i = k
  | 0, h => absurd h (Nat.not_lt_zero k)
  | n + 1, h => by
    rcases Nat.lt_or_ge k (fb_ct p n) with q | q
    · obtain ⟨i, h1, h2⟩ := fb_ct_kth q
      exact ⟨i, by omega, h2⟩
    · rw [fb_ct_succ] at h
      cases hp : p n
      · simp [hp] at h; omega
      · simp [hp] at h
        exact ⟨n, by omega, hp, by omega⟩
theorem fb_ct_kth_one {p : Nat → Bool} {i j : Nat} (hi : p i = true) (hj : p j = true) (e : fb_ct p i = fb_ct p j) : i = j := by
  have key : ∀ a b : Nat, a < b → p a = true → fb_ct p a < fb_ct p b := by
    intro a b hab ha
    have h := fb_ct_mono p (show a + 1 ≤ b from hab)
    rw [fb_ct_succ, ha] at h
    simp at h
    omega
  rcases Nat.lt_trichotomy i j with q | q | q
  · have := key i j q hi; omega
  · exact q
  · have := key j i q hj; omega
def fb_sm (f : Nat → Nat) : Nat → Nat
  | 0 => 0
  | n + 1 => fb_sm f n + f n
theorem fb_sm_succ (f : Nat → Nat) (n : Nat) : fb_sm f (n + 1) = fb_sm f n + f n := rfl
theorem fb_sm_cong {f g : Nat → Nat} : ∀ {n : Nat}, (∀ k, k < n → f k = g k) → fb_sm f n = fb_sm g n
  | 0, _ => rfl
  | n + 1, h => by rw [fb_sm_succ, fb_sm_succ, fb_sm_cong (fun k hk => h k (by omega)), h n (by omega)]
theorem fb_sm_out (f : Nat → Nat) (v : Nat) {i n : Nat} (h : n ≤ i) : fb_sm (fun k => if k = i then v else f k) n = fb_sm f n :=
  fb_sm_cong fun k hk => if_neg (by omega)
theorem fb_sm_upd (f : Nat → Nat) (v : Nat) {i : Nat} : ∀ {n : Nat}, i < n → fb_sm (fun k => if k = i then v else f k) n + f i = fb_sm f n + v
  | 0, h => absurd h (Nat.not_lt_zero i)
  | n + 1, h => by
    rw [fb_sm_succ, fb_sm_succ]
    rcases Nat.lt_or_ge i n with q | q
    · have := fb_sm_upd f v q
      have e : (if n = i then v else f n) = f n := if_neg (by omega)
      rw [e]
      omega
    · have e : i = n := by omega
      subst e
      rw [fb_sm_out f v (Nat.le_refl _)]
      simp only [if_true]
      omega
theorem fb_sm_add (f g : Nat → Nat) : ∀ n, fb_sm (fun k => f k + g k) n = fb_sm f n + fb_sm g n
  | 0 => rfl
  | n + 1 => by
    have h := fb_sm_add f g n
    rw [fb_sm_succ, fb_sm_succ, fb_sm_succ, h]
    omega
theorem fb_sm_le {f g : Nat → Nat} : ∀ {n : Nat}, (∀ k, k < n → f k ≤ g k) → fb_sm f n ≤ fb_sm g n
  | 0, _ => Nat.le_refl _
  | n + 1, h => by
    have h1 := fb_sm_le (n := n) (f := f) (g := g) (fun k hk => h k (by omega))
    have h2 := h n (by omega)
    rw [fb_sm_succ, fb_sm_succ]
    omega
theorem fb_sm_const (c : Nat) : ∀ n, fb_sm (fun _ => c) n = n * c
  | 0 => by rw [Nat.zero_mul]; rfl
  | n + 1 => by rw [fb_sm_succ, fb_sm_const c n, Nat.succ_mul]
theorem fb_sm_bound {f : Nat → Nat} {c n : Nat} (h : ∀ k, k < n → f k ≤ c) : fb_sm f n ≤ n * c := by
  rw [← fb_sm_const c n]
  exact fb_sm_le h
theorem fb_sm_mono (f : Nat → Nat) (m : Nat) : ∀ n, fb_sm f m ≤ fb_sm f (m + n)
  | 0 => Nat.le_refl _
  | n + 1 => by
    have h := fb_sm_mono f m n
    show fb_sm f m ≤ fb_sm f (m + n + 1)
    rw [fb_sm_succ]
    omega
theorem fb_sm_part (f : Nat → Nat) {i n : Nat} (h : i < n) : fb_sm f i + f i ≤ fb_sm f n := by
  have := fb_sm_mono f (i + 1) (n - (i + 1))
  rw [fb_sm_succ, show i + 1 + (n - (i + 1)) = n by omega] at this
  exact this
theorem fb_sm_split (f : Nat → Nat) (m : Nat) : ∀ n, fb_sm f (m + n) = fb_sm f m + fb_sm (fun k => f (m + k)) n
  | 0 => rfl
  | n + 1 => by
    have h := fb_sm_split f m n
    show fb_sm f (m + n + 1) = _
    rw [fb_sm_succ, fb_sm_succ, h, Nat.add_assoc]
theorem fb_sm_zero {f : Nat → Nat} {n : Nat} (h : fb_sm f n = 0) : ∀ k, k < n → f k = 0 := fun k hk => by
  have := fb_sm_part f hk
  omega
/-- the same over whole numbers -/
def fb_si (f : Nat → Int) : Nat → Int
  | 0 => 0
  | n + 1 => fb_si f n + f n
theorem fb_si_succ (f : Nat → Int) (n : Nat) : fb_si f (n + 1) = fb_si f n + f n := rfl
theorem fb_si_cong {f g : Nat → Int} : ∀ {n : Nat}, (∀ k, k < n → f k = g k) → fb_si f n = fb_si g n
  | 0, _ => rfl
  | n + 1, h => by rw [fb_si_succ, fb_si_succ, fb_si_cong (fun k hk => h k (by omega)), h n (by omega)]
theorem fb_si_out (f : Nat → Int) (v : Int) {i n : Nat} (h : n ≤ i) : fb_si (fun k => if k = i then v else f k) n = fb_si f n :=
  fb_si_cong fun k hk => if_neg (by omega)
theorem fb_si_upd (f : Nat → Int) (v : Int) {i : Nat} : ∀ {n : Nat}, i < n → fb_si (fun k => if k = i then v else f k) n = fb_si f n - f i + v
  | 0, h => absurd h (Nat.not_lt_zero i)
  | n + 1, h => by
    rw [fb_si_succ, fb_si_succ]
    rcases Nat.lt_or_ge i n with q | q
    · have := fb_si_upd f v q
      have e : (if n = i then v else f n) = f n := if_neg (by omega)
      rw [e]
      omega
    · have e : i = n := by omega
      subst e
      rw [fb_si_out f v (Nat.le_refl _)]
      simp only [if_true]
      omega
theorem fb_si_add (f g : Nat → Int) : ∀ n, fb_si (fun k => f k + g k) n = fb_si f n + fb_si g n
  | 0 => rfl
  | n + 1 => by
    have h := fb_si_add f g n
    rw [fb_si_succ, fb_si_succ, fb_si_succ, h]
    omega
theorem fb_si_sub (f g : Nat → Int) : ∀ n, fb_si (fun k => f k - g k) n = fb_si f n - fb_si g n
  | 0 => rfl
  | n + 1 => by
    have h := fb_si_sub f g n
    rw [fb_si_succ, fb_si_succ, fb_si_succ, h]
    omega
theorem fb_si_mul (c : Int) (f : Nat → Int) : ∀ n, fb_si (fun k => c * f k) n = c * fb_si f n
  | 0 => (Int.mul_zero c).symm
  | n + 1 => by
    have h := fb_si_mul c f n
    rw [fb_si_succ, fb_si_succ, h, Int.mul_add]
theorem fb_si_split (f : Nat → Int) (m : Nat) : ∀ n, fb_si f (m + n) = fb_si f m + fb_si (fun k => f (m + k)) n
  | 0 => (Int.add_zero _).symm
  | n + 1 => by
    have h := fb_si_split f m n
    show fb_si f (m + n + 1) = _
    rw [fb_si_succ, fb_si_succ, h, Int.add_assoc]
theorem fb_si_nat (f : Nat → Nat) : ∀ n, fb_si (fun k => (f k : Int)) n = (fb_sm f n : Int)
  | 0 => rfl
  | n + 1 => by
    have h := fb_si_nat f n
    rw [fb_si_succ, fb_sm_succ, h]
    omega
theorem fb_si_bound {f : Nat → Int} {c : Int} (hc : 0 ≤ c) : ∀ {n : Nat}, (∀ k, k < n → -c ≤ f k ∧ f k ≤ c) → -(n * c) ≤ fb_si f n ∧ fb_si f n ≤ n * c
  | 0, _ => by simp [fb_si]
  | n + 1, h => by
    have h1 := fb_si_bound (n := n) (f := f) hc (fun k hk => h k (by omega))
    have h2 := h n (by omega)
    have e : ((n + 1 : Nat) : Int) * c = n * c + c := by rw [Int.natCast_add, Int.add_mul]; simp
    rw [fb_si_succ, e]
    omega
theorem fb_andL (a b : Nat) : lN a &&& lN b = lN (a &&& b) := by
  apply Int64.toBitVec_inj.1
  show BitVec.ofNat 64 a &&& BitVec.ofNat 64 b = BitVec.ofNat 64 (a &&& b)
  apply BitVec.eq_of_getLsbD_eq
  intro i hi
  simp [hi]
theorem fb_orL (a b : Nat) : lN a ||| lN b = lN (a ||| b) := by
  apply Int64.toBitVec_inj.1
  show BitVec.ofNat 64 a ||| BitVec.ofNat 64 b = BitVec.ofNat 64 (a ||| b)
  apply BitVec.eq_of_getLsbD_eq
  intro i hi
  simp [hi]
theorem fb_xorL (a b : Nat) : lN a ^^^ lN b = lN (a ^^^ b) := by
  apply Int64.toBitVec_inj.1
  show BitVec.ofNat 64 a ^^^ BitVec.ofNat 64 b = BitVec.ofNat 64 (a ^^^ b)
  apply BitVec.eq_of_getLsbD_eq
  intro i hi
  simp [hi]
theorem fb_xorI (a b : Nat) : nI a ^^^ nI b = nI (a ^^^ b) := by
  apply Int32.toBitVec_inj.1
  show BitVec.ofNat 32 a ^^^ BitVec.ofNat 32 b = BitVec.ofNat 32 (a ^^^ b)
  apply BitVec.eq_of_getLsbD_eq
  intro i hi
  simp [hi]
theorem fb_maskL (n k : Nat) : lN n &&& lN (2 ^ k - 1) = lN (n % 2 ^ k) := by rw [fb_andL, Nat.and_two_pow_sub_one_eq_mod]
theorem fb_or_sumL {a k : Nat} (b : Nat) (h : a < 2 ^ k) : lN (2 ^ k * b) ||| lN a = lN (2 ^ k * b + a) := by rw [fb_orL, Nat.two_pow_add_eq_or_of_lt h]
theorem fb_lN_inj {a b : Nat} (ha : a < 2 ^ 63) (hb : b < 2 ^ 63) : lN a = lN b ↔ a = b := by
  constructor
  · intro h
    have h1 : (BitVec.ofNat 64 a).toNat = (BitVec.ofNat 64 b).toNat := congrArg (fun x : Int64 => x.toBitVec.toNat) h
    rw [BitVec.toNat_ofNat, BitVec.toNat_ofNat, Nat.mod_eq_of_lt (by omega), Nat.mod_eq_of_lt (by omega)] at h1
    exact h1
  · rintro rfl; rfl
theorem fb_bit_nat (n j : Nat) : n &&& 2 ^ j = 0 ↔ n.testBit j = false := by
  constructor
  · intro h
    have h1 : (n &&& 2 ^ j).testBit j = false := by rw [h]; simp
    rw [Nat.testBit_and] at h1
    simpa using h1
  · intro h
    apply Nat.eq_of_testBit_eq
    intro i
    rw [Nat.testBit_and]
    by_cases hi : j = i
    · subst hi; simp [h]
    · first | (simp [Nat.testBit_two_pow, hi]; done) | (simp [Nat.testBit_two_pow_of_ne hi]; done)
/-- one bit of a long -/
theorem fb_bitL {n j : Nat} (hj : j < 63) : lN n &&& lN (2 ^ j) = 0 ↔ n.testBit j = false := by
  have h2 : (2 : Nat) ^ j < 2 ^ 63 := Nat.pow_lt_pow_right (by decide) hj
  have hle : n &&& 2 ^ j ≤ 2 ^ j := Nat.and_le_right
  rw [fb_andL, ← fb_bit_nat, show (0 : Int64) = lN 0 from rfl]
  exact fb_lN_inj (by omega) (by decide)
/-- a bit set, a bit taken off -/
theorem fb_bit_set (n j i : Nat) : (n ||| 2 ^ j).testBit i = (n.testBit i || decide (i = j)) := by
  rw [Nat.testBit_or]
  by_cases h : j = i
  · subst h; simp
  · have h2 : ¬ i = j := fun e => h e.symm
    first | (simp [Nat.testBit_two_pow, h, h2]; done) | (simp [Nat.testBit_two_pow_of_ne h, h2]; done)
theorem fb_bit_flip (n j i : Nat) : (n ^^^ 2 ^ j).testBit i = (n.testBit i ^^ decide (i = j)) := by
  rw [Nat.testBit_xor]
  by_cases h : j = i
  · subst h; simp
  · have h2 : ¬ i = j := fun e => h e.symm
    first | (simp [Nat.testBit_two_pow, h, h2]; done) | (simp [Nat.testBit_two_pow_of_ne h, h2]; done)
def fb_put {α : Type} (f g : Nat → α) (a n : Nat) : Nat → α := fun k => if a ≤ k ∧ k < a + n then g (k - a) else f k
theorem fb_put_0 {α : Type} (f g : Nat → α) (a : Nat) : fb_put f g a 0 = f := funext fun k => if_neg (by omega)
theorem fb_put_in {α : Type} {f g : Nat → α} {a n k : Nat} (h1 : a ≤ k) (h2 : k < a + n) : fb_put f g a n k = g (k - a) := if_pos ⟨h1, h2⟩
theorem fb_put_out {α : Type} {f g : Nat → α} {a n k : Nat} (h : k < a ∨ a + n ≤ k) : fb_put f g a n k = f k := if_neg (by omega)
theorem fb_put_succ (f g : Nat → Int32) (a n : Nat) : upd (fb_put f g a n) (a + n) (g n) = fb_put f g a (n + 1) := by
  funext k
  by_cases h : k = a + n
  · subst h
    simp [upd, fb_put]
  · by_cases h1 : a ≤ k ∧ k < a + n
    · have h2 : a ≤ k ∧ k < a + (n + 1) := by omega
      simp only [upd, fb_put, if_neg h, if_pos h1, if_pos h2]
    · have h2 : ¬ (a ≤ k ∧ k < a + (n + 1)) := by omega
      simp only [upd, fb_put, if_neg h, if_neg h1, if_neg h2]
/-- .. from the far end down -/
theorem fb_put_down (f g : Nat → Int32) {a n m : Nat} (h : m < n) : upd (fb_put f (fun k => g (k + (m + 1))) (a + (m + 1)) (n - (m + 1))) (a + m) (g m) = fb_put f (fun k => g (k + m)) (a + m) (n - m) := by
  funext k
  by_cases h0 : k = a + m
  · subst h0
    simp only [upd, if_true]
    rw [fb_put_in (by omega) (by omega)]
    exact congrArg g (by omega)
  · simp only [upd, if_neg h0]
    by_cases h1 : a + (m + 1) ≤ k ∧ k < a + (m + 1) + (n - (m + 1))
    · rw [fb_put_in h1.1 h1.2, fb_put_in (by omega) (by omega)]
      exact congrArg g (by omega)
    · rw [fb_put_out (by omega), fb_put_out (by omega)]
theorem fb_put_cong {α : Type} {f f2 g g2 : Nat → α} {a n : Nat} (hf : ∀ k, (k < a ∨ a + n ≤ k) → f k = f2 k) (hg : ∀ k, k < n → g k = g2 k) : fb_put f g a n = fb_put f2 g2 a n := by
  funext k
  by_cases h : a ≤ k ∧ k < a + n
  · rw [fb_put_in h.1 h.2, fb_put_in h.1 h.2, hg _ (by omega)]
  · rw [fb_put_out (by omega), fb_put_out (by omega), hf _ (by omega)]
theorem fb_first {p : Nat → Prop} [DecidablePred p] : ∀ {n : Nat}, (∃ i, i < n ∧ p i) → ∃ i, i < n ∧ p i ∧ ∀ j, j < i → ¬ p j
  | 0, h => by obtain ⟨i, hi, -⟩ := h; exact absurd hi (Nat.not_lt_zero i)
  | n + 1, h => by
    by_cases q : ∃ i, i < n ∧ p i
    · obtain ⟨i, h1, h2⟩ := fb_first q
      exact ⟨i, by omega, h2⟩
    · obtain ⟨i, h1, h2⟩ := h
      have e : i = n := by
        rcases Nat.lt_or_ge i n with r | r
        · exact absurd ⟨i, r, h2⟩ q
        · omega
      subst e
      exact ⟨i, by omega, h2, fun j hj hp => q ⟨j, hj, hp⟩⟩
theorem fb_first_one {p : Nat → Prop} {i j : Nat} (hi : p i) (hi2 : ∀ k, k < i → ¬ p k) (hj : p j) (hj2 : ∀ k, k < j → ¬ p k) : i = j := by
  rcases Nat.lt_trichotomy i j with q | q | q
  · exact absurd hi (hj2 i q)
  · exact q
  · exact absurd hj (hi2 j q)
theorem fb_last {p : Nat → Prop} [DecidablePred p] : ∀ {n : Nat}, (∃ i, i < n ∧ p i) → ∃ i, i < n ∧ p i ∧ ∀ j, i < j → j < n → ¬ p j
  | 0, h => by obtain ⟨i, hi, -⟩ := h; exact absurd hi (Nat.not_lt_zero i)
  | n + 1, h => by
    by_cases q : p n
    · exact ⟨n, by omega, q, fun j h1 h2 => by omega⟩
    · obtain ⟨i, h1, h2⟩ := h
      have hi : i < n := by
        rcases Nat.lt_or_ge i n with r | r
        · exact r
        · have e : i = n := by omega
          subst e
          exact absurd h2 q
      obtain ⟨i2, a1, a2, a3⟩ := fb_last (n := n) ⟨i, hi, h2⟩
      refine ⟨i2, by omega, a2, fun j b1 b2 => ?_⟩
      rcases Nat.lt_or_ge j n with r | r
      · exact a3 j b1 r
      · have e : j = n := by omega
        subst e
        exact q
/-- the first greatest -/
theorem fb_best (f : Nat → Int) : ∀ {n : Nat}, 0 < n → ∃ i, i < n ∧ (∀ j, j < n → f j ≤ f i) ∧ ∀ j, j < i → f j < f i
  | 0, h => absurd h (Nat.lt_irrefl 0)
  | 1, _ => ⟨0, by omega, fun j hj => by have e : j = 0 := by omega
                                         subst e; exact Int.le_refl _, fun j hj => absurd hj (Nat.not_lt_zero j)⟩
  | n + 2, _ => by
    obtain ⟨i, h1, h2, h3⟩ := fb_best f (n := n + 1) (by omega)
    by_cases q : f i < f (n + 1)
    · refine ⟨n + 1, by omega, fun j hj => ?_, fun j hj => ?_⟩
      · rcases Nat.lt_or_ge j (n + 1) with r | r
        · have := h2 j r; omega
        · have e : j = n + 1 := by omega
          subst e; exact Int.le_refl _
      · have := h2 j hj; omega
    · refine ⟨i, by omega, fun j hj => ?_, h3⟩
      rcases Nat.lt_or_ge j (n + 1) with r | r
      · exact h2 j r
      · have e : j = n + 1 := by omega
        subst e; omega
theorem fb_best_one {f : Nat → Int} {n i j : Nat} (hi : i < n) (hi2 : ∀ k, k < n → f k ≤ f i) (hi3 : ∀ k, k < i → f k < f i) (hj : j < n) (hj2 : ∀ k, k < n → f k ≤ f j) (hj3 : ∀ k, k < j → f k < f j) : i = j := by
  rcases Nat.lt_trichotomy i j with q | q | q
  · have a := hj3 i q
    have b := hi2 j hj
    omega
  · exact q
  · have a := hi3 j q
    have b := hj2 i hi
    omega
/-- the first least -/
theorem fb_low (f : Nat → Int) {n : Nat} (h : 0 < n) : ∃ i, i < n ∧ (∀ j, j < n → f i ≤ f j) ∧ ∀ j, j < i → f i < f j := by
  obtain ⟨i, h1, h2, h3⟩ := fb_best (fun k => -f k) h
  exact ⟨i, h1, fun j hj => by have := h2 j hj; omega, fun j hj => by have := h3 j hj; omega⟩
theorem fb_rng (x : Int32) : -2147483648 ≤ x.toInt ∧ x.toInt < 2147483648 := by
  have h1 := Int32.le_toInt x
  have h2 := Int32.toInt_lt x
  omega
theorem fb_bmod {z : Int} (h1 : -2147483648 ≤ z) (h2 : z < 2147483648) : z.bmod (2 ^ 32) = z := by
  rw [Int.bmod_eq_of_le (by omega) (by omega)]
theorem fb_addI {x y : Int32} (h1 : -2147483648 ≤ x.toInt + y.toInt) (h2 : x.toInt + y.toInt < 2147483648) : (x + y).toInt = x.toInt + y.toInt := by
  rw [Int32.toInt_add, fb_bmod h1 h2]
theorem fb_subI {x y : Int32} (h1 : -2147483648 ≤ x.toInt - y.toInt) (h2 : x.toInt - y.toInt < 2147483648) : (x - y).toInt = x.toInt - y.toInt := by
  rw [Int32.toInt_sub, fb_bmod h1 h2]
theorem fb_mulI {x y : Int32} (h1 : -2147483648 ≤ x.toInt * y.toInt) (h2 : x.toInt * y.toInt < 2147483648) : (x * y).toInt = x.toInt * y.toInt := by
  rw [Int32.toInt_mul, fb_bmod h1 h2]
theorem fb_negI {x : Int32} (h : x.toInt ≠ -2147483648) : (-x).toInt = -x.toInt := by
  have := fb_rng x
  rw [Int32.toInt_neg, fb_bmod (by omega) (by omega)]
theorem fb_ofI {z : Int} (h1 : -2147483648 ≤ z) (h2 : z < 2147483648) : (Int32.ofInt z).toInt = z := by
  rw [Int32.toInt_ofInt, fb_bmod h1 h2]
theorem fb_asI (x : Int32) : Int32.ofInt x.toInt = x := Int32.ofInt_toInt x
theorem fb_rngL (x : Int64) : -9223372036854775808 ≤ x.toInt ∧ x.toInt < 9223372036854775808 := by
  have h1 := Int64.le_toInt x
  have h2 := Int64.toInt_lt x
  omega
theorem fb_bmodL {z : Int} (h1 : -9223372036854775808 ≤ z) (h2 : z < 9223372036854775808) : z.bmod (2 ^ 64) = z := by
  rw [Int.bmod_eq_of_le (by omega) (by omega)]
theorem fb_addL {x y : Int64} (h1 : -9223372036854775808 ≤ x.toInt + y.toInt) (h2 : x.toInt + y.toInt < 9223372036854775808) : (x + y).toInt = x.toInt + y.toInt := by
  rw [Int64.toInt_add, fb_bmodL h1 h2]
theorem fb_subL {x y : Int64} (h1 : -9223372036854775808 ≤ x.toInt - y.toInt) (h2 : x.toInt - y.toInt < 9223372036854775808) : (x - y).toInt = x.toInt - y.toInt := by
  rw [Int64.toInt_sub, fb_bmodL h1 h2]
theorem fb_mulL {x y : Int64} (h1 : -9223372036854775808 ≤ x.toInt * y.toInt) (h2 : x.toInt * y.toInt < 9223372036854775808) : (x * y).toInt = x.toInt * y.toInt := by
  rw [Int64.toInt_mul, fb_bmodL h1 h2]
theorem fb_byte {x : Int32} (h1 : -128 ≤ x.toInt) (h2 : x.toInt < 128) : x.toInt8.toInt32 = x := by
  apply Int32.toInt_inj.1
  rw [Int8.toInt_toInt32, Int32.toInt_toInt8, Int.bmod_eq_of_le (by omega) (by omega)]
theorem fb_short {x : Int32} (h1 : -32768 ≤ x.toInt) (h2 : x.toInt < 32768) : x.toInt16.toInt32 = x := by
  apply Int32.toInt_inj.1
  rw [Int16.toInt_toInt32, Int32.toInt_toInt16, Int.bmod_eq_of_le (by omega) (by omega)]
theorem fb_byte_rng (x : Int32) : -128 ≤ x.toInt8.toInt32.toInt ∧ x.toInt8.toInt32.toInt < 128 := by
  rw [Int8.toInt_toInt32]
  have h1 := Int8.le_toInt x.toInt8
  have h2 := Int8.toInt_lt x.toInt8
  omega
theorem fb_short_rng (x : Int32) : -32768 ≤ x.toInt16.toInt32.toInt ∧ x.toInt16.toInt32.toInt < 32768 := by
  rw [Int16.toInt_toInt32]
  have h1 := Int16.le_toInt x.toInt16
  have h2 := Int16.toInt_lt x.toInt16
  omega
theorem fb_byte_twice (x : Int32) : x.toInt8.toInt32.toInt8.toInt32 = x.toInt8.toInt32 := fb_byte (fb_byte_rng x).1 (fb_byte_rng x).2
theorem fb_short_twice (x : Int32) : x.toInt16.toInt32.toInt16.toInt32 = x.toInt16.toInt32 := fb_short (fb_short_rng x).1 (fb_short_rng x).2
theorem fb_char {n : Nat} (h : n < 65536) : (nI n).toUInt32.toUInt16.toUInt32.toInt32 = nI n := by
  apply Int32.toBitVec_inj.1
  apply BitVec.eq_of_toNat_eq
  have e1 : (nI n).toBitVec.toNat = n := by
    show (BitVec.ofNat 32 n).toNat = n
    rw [BitVec.toNat_ofNat, Nat.mod_eq_of_lt (by omega)]
  have e2 : ((nI n).toUInt32.toUInt16.toUInt32).toNat = n := by
    rw [UInt16.toNat_toUInt32, UInt32.toNat_toUInt16]
    show (nI n).toBitVec.toNat % 2 ^ 16 = n
    rw [e1, Nat.mod_eq_of_lt (by omega)]
  rw [e1]
  exact e2
end
section
/-! numbers and digits -/
theorem pd_t31 : (2 : Nat) ^ 31 = 2147483648 := rfl
theorem pd_lt {a b : Nat} (ha : a < 2147483648) (hb : b < 2147483648) : nI a < nI b ↔ a < b := nI_ltI (by rw [pd_t31]; exact ha) (by rw [pd_t31]; exact hb)
theorem pd_le {a b : Nat} (ha : a < 2147483648) (hb : b < 2147483648) : nI a ≤ nI b ↔ a ≤ b := nI_leI (by rw [pd_t31]; exact ha) (by rw [pd_t31]; exact hb)
theorem pd_eq {a b : Nat} (ha : a < 2147483648) (hb : b < 2147483648) : nI a = nI b ↔ a = b := nI_eq (by rw [pd_t31]; exact ha) (by rw [pd_t31]; exact hb)
theorem pd_cl {a : Nat} (ha : a < 2147483648) : (nI a).toNatClampNeg = a := nI_clamp (by rw [pd_t31]; exact ha)
theorem pd_ti {a : Nat} (ha : a < 2147483648) : (nI a).toInt = (a : Int) := nI_toInt (by rw [pd_t31]; exact ha)
theorem pd_in {a N : Nat} (h : a < N) (hN : N < 2147483648) : vp_in (nI a) N := vp_in_nI h (by rw [pd_t31]; exact hN)
theorem pd_n0 {a : Nat} (ha : a < 2147483648) : ¬ nI a < 0 := nI_pos (by rw [pd_t31]; exact ha)
theorem pd_lit (n : Nat) : (OfNat.ofNat n : Int32) = nI n := rfl
theorem pd_m1 (m : Nat) : nI (m + 1) - 1 = nI m := nI_pred m
theorem pd_m2 (m : Nat) : nI (m + 1) - 1 + (-1) = nI m - 1 := by
  rw [nI_pred, Int32.sub_eq_add_neg]
theorem pd_neg1 : nI 0 - 1 < 0 := by decide +kernel
theorem pd_shr {a : Nat} (ha : a < 2147483648) {j : Nat} (hj : j < 32) : nI a >>> (nI j &&& 31) = nI (a / 2 ^ j) := pk_shrN (by rw [pd_t31]; exact ha) _ j (s_l j hj)
theorem pd_and1 (a : Nat) : nI a &&& 1 = nI (a % 2) := by
  show nI a &&& nI (2 ^ 1 - 1) = nI (a % 2 ^ 1)
  exact fa_mask a 1
theorem pd_and7 (a : Nat) : nI a &&& 7 = nI (a % 8) := by
  show nI a &&& nI (2 ^ 3 - 1) = nI (a % 2 ^ 3)
  exact fa_mask a 3
theorem pd_and31 (a : Nat) : nI a &&& 31 = nI (a % 32) := by
  show nI a &&& nI (2 ^ 5 - 1) = nI (a % 2 ^ 5)
  exact fa_mask a 5
theorem pd_shr5 {a : Nat} (ha : a < 2147483648) : nI a >>> ((5 : Int32) &&& 31) = nI (a / 32) := pd_shr ha (j := 5) (by decide)
theorem pd_shr3 {a : Nat} (ha : a < 2147483648) : nI a >>> ((3 : Int32) &&& 31) = nI (a / 8) := pd_shr ha (j := 3) (by decide)
theorem pd_shr1 {a : Nat} (ha : a < 2147483648) : nI a >>> ((1 : Int32) &&& 31) = nI (a / 2) := pd_shr ha (j := 1) (by decide)
theorem pd_ix {k c : Nat} (hc : c < 2147483648) : nI k * 6 + (nI c >>> ((5 : Int32) &&& 31)) = nI (6 * k + c / 32) := by
  rw [pd_shr5 hc, show (6 : Int32) = nI 6 from rfl, pk_mul, nI_add, Nat.mul_comm k 6]
theorem pd_an31 (c : Nat) : (nI c &&& 31) &&& 31 = nI (c % 32) &&& 31 := by rw [pd_and31]
/-- one digit of a cell -/
theorem pd_bit (x : Int32) {j : Nat} (hj : j < 32) : (x >>> (nI j &&& 31)) &&& 1 = nI (bt x j).toNat := by
  apply b_ext
  intro i hi
  rw [b_and, b_sshr j hj x hi]
  have h1 : ∀ i, i < 32 → bt 1 i = decide (i = 0) := by decide +kernel
  have h2 : ∀ (b : Bool) (i : Nat), i < 32 → bt (nI b.toNat) i = (decide (i = 0) && b) := by decide +kernel
  rw [h1 i hi, h2 _ i hi]
  by_cases h0 : i = 0
  · subst h0
    simp [hj]
  · simp [h0]
theorem pd_setb (x : Int32) {j : Nat} (hj : j < 32) {i : Nat} (hi : i < 32) : bt (x ||| ((1 : Int32) <<< (nI j &&& 31))) i = if i = j then true else bt x i := by
  have h1 : ∀ i, i < 32 → bt 1 i = decide (i = 0) := by decide +kernel
  rw [b_or, b_shl j hj 1 hi, h1 (i - j) (by omega)]
  by_cases h : i = j
  · subst h
    simp
  · rw [if_neg h]
    have : ¬ (j ≤ i ∧ i - j = 0) := by omega
    by_cases h2 : j ≤ i
    · have h3 : ¬ i - j = 0 := by omega
      simp [h3]
    · simp [h2]
theorem pd_clrb (x : Int32) {j : Nat} (hj : j < 32) {i : Nat} (hi : i < 32) : bt (x &&& (((1 : Int32) <<< (nI j &&& 31)) ^^^ (-1))) i = if i = j then false else bt x i := by
  have h1 : ∀ i, i < 32 → bt 1 i = decide (i = 0) := by decide +kernel
  rw [b_and, b_xor, b_m1 i hi, b_shl j hj 1 hi, h1 (i - j) (by omega)]
  by_cases h : i = j
  · subst h
    simp
  · rw [if_neg h]
    by_cases h2 : j ≤ i
    · have h3 : ¬ i - j = 0 := by omega
      simp [h3]
    · simp [h2]
/-- the digits of a block -/
def bb (pk : Nat → Int32) (k p : Nat) : Bool := decide (p < 192) && bt (pk (6 * k + p / 32)) (p % 32)
def rdv (f : Nat → Bool) (p : Nat) : Nat → Nat
  | 0 => 0
  | n + 1 => 2 * rdv f p n + (f (p + n)).toNat
theorem rdv_cong {f g : Nat → Bool} {p : Nat} : ∀ {n : Nat}, (∀ j, j < n → f (p + j) = g (p + j)) → rdv f p n = rdv g p n
  | 0, _ => rfl
  | n + 1, h => by
    rw [rdv, rdv, rdv_cong (n := n) (fun j hj => h j (by omega)), h n (by omega)]
theorem rdv_lt (f : Nat → Bool) (p : Nat) : ∀ n, rdv f p n < 2 ^ n
  | 0 => by simp [rdv]
  | n + 1 => by
    have h1 := rdv_lt f p n
    have h2 : (f (p + n)).toNat < 2 := Bool.toNat_lt _
    rw [rdv, Nat.pow_succ]
    omega
theorem rdv_put {f : Nat → Bool} {p n v : Nat} (h : ∀ j, j < n → f (p + j) = v.testBit (n - 1 - j)) : ∀ m, m ≤ n → rdv f p m = v / 2 ^ (n - m) % 2 ^ m
  | 0, _ => by simp [rdv, Nat.mod_one]
  | m + 1, hm => by
    rw [rdv, rdv_put h m (by omega), h m (by omega), Nat.toNat_testBit]
    have e1 : n - m = (n - (m + 1)) + 1 := by omega
    have e2 : n - 1 - m = n - (m + 1) := by omega
    rw [e1, e2, Nat.pow_succ, ← Nat.div_div_eq_div_mul, Nat.pow_succ', Nat.mod_mul]
    omega
theorem rdv_val {f : Nat → Bool} {p n v : Nat} (h : ∀ j, j < n → f (p + j) = v.testBit (n - 1 - j)) : rdv f p n = v % 2 ^ n := by
  have := rdv_put h n (Nat.le_refl n)
  rw [Nat.sub_self, Nat.pow_zero, Nat.div_one] at this
  exact this
/-- n digits of v written from place c on of block k -/
def PUT (pk pk1 : Nat → Int32) (k c n v : Nat) : Prop := (∀ k1, k1 ≠ k → bb pk1 k1 = bb pk k1) ∧ ∀ p, bb pk1 k p = if c ≤ p ∧ p < c + n then v.testBit (n - 1 - (p - c)) else bb pk k p
theorem PUT_0 (pk : Nat → Int32) (k c v : Nat) : PUT pk pk k c 0 v := ⟨fun _ _ => rfl, fun p => by rw [if_neg (by omega)]⟩
theorem PUT_1 {pk : Nat → Int32} {k c : Nat} {x : Int32} {b : Bool} (hc : c < 192) (hx : ∀ i, i < 32 → bt x i = if i = c % 32 then b else bt (pk (6 * k + c / 32)) i) : (∀ k1, k1 ≠ k → bb (upd pk (6 * k + c / 32) x) k1 = bb pk k1) ∧ ∀ p, bb (upd pk (6 * k + c / 32) x) k p = if p = c then b else bb pk k p := by
  constructor
  · intro k1 hk
    funext p
    unfold bb
    by_cases hp : p < 192
    · rw [pk_un (by omega)]
    · simp [hp]
  · intro p
    unfold bb
    by_cases hp : p < 192
    · by_cases e : p / 32 = c / 32
      · rw [e, pk_us, hx _ (Nat.mod_lt _ (by decide))]
        by_cases e2 : p = c
        · subst e2
          simp [hp]
        · rw [if_neg (by omega), if_neg e2]
      · rw [pk_un (by omega), if_neg (by intro z; rw [z] at e; exact e rfl)]
    · rw [if_neg (by omega)]
      simp [hp]
theorem PUT_s {pk pk1 pk2 : Nat → Int32} {k c n v : Nat} (h1 : (∀ k1, k1 ≠ k → bb pk1 k1 = bb pk k1) ∧ ∀ p, bb pk1 k p = if p = c then v.testBit n else bb pk k p) (h2 : PUT pk1 pk2 k (c + 1) n v) : PUT pk pk2 k c (n + 1) v := by
  refine ⟨fun k1 hk => (h2.1 k1 hk).trans (h1.1 k1 hk), fun p => ?_⟩
  rw [h2.2 p]
  by_cases e1 : c + 1 ≤ p ∧ p < c + 1 + n
  · rw [if_pos e1, if_pos (by omega)]
    congr 1
    omega
  · rw [if_neg e1, h1.2 p]
    by_cases e2 : p = c
    · rw [if_pos e2, if_pos (by omega)]
      congr 1
      omega
    · rw [if_neg e2, if_neg (by omega)]
theorem PUT_rd {pk pk1 : Nat → Int32} {k c n v : Nat} (h : PUT pk pk1 k c n v) : rdv (bb pk1 k) c n = v % 2 ^ n := by
  refine rdv_val (fun j hj => ?_)
  rw [h.2, if_pos (by omega)]
  congr 1
  omega
theorem PUT_low {pk pk1 : Nat → Int32} {k c n v p m : Nat} (h : PUT pk pk1 k c n v) (hp : p + m ≤ c) : rdv (bb pk1 k) p m = rdv (bb pk k) p m := by
  refine rdv_cong (fun j hj => ?_)
  rw [h.2, if_neg (by omega)]
/-- how many digits a number has -/
def wd (a : Nat) : Nat := if a = 0 then 0 else a.log2 + 1
theorem wd_iff (a i : Nat) : 2 ^ i ≤ a ↔ i < wd a := by
  unfold wd
  by_cases h : a = 0
  · subst h
    rw [if_pos rfl]
    have := Nat.two_pow_pos i
    omega
  · rw [if_neg h, ← Nat.le_log2 h]
    omega
theorem wd_lt (a : Nat) : a < 2 ^ wd a := by
  have := wd_iff a (wd a)
  omega
theorem wd_le {a m : Nat} (h : a < 2 ^ m) : wd a ≤ m := by
  have := wd_iff a m
  omega
/-- the code in front of the number at place i -/
def cde (w : Nat → Nat) (i : Nat) : Nat := if i = 0 then w 0 else w i - w (i - 1) - 1
def ex (b a : Nat) : Nat := if b < wd a then 8 + wd a - b else 0
/-- where the patch of code i begins; the block's size at i = h -/
def ps (c : Nat → Nat) (b h i : Nat) : Nat := 9 + h * b + fb_sm (fun j => ex b (c j)) i
def np (c : Nat → Nat) (b i : Nat) : Nat := fb_ct (fun j => decide (b < wd (c j))) i
def bst (f : Nat → Nat) : Nat → Nat
  | 0 => 0
  | k + 1 => if f (k + 1) < f (bst f k) then k + 1 else bst f k
theorem bst_le (f : Nat → Nat) : ∀ k, bst f k ≤ k
  | 0 => Nat.le_refl 0
  | k + 1 => by
    have h := bst_le f k
    rw [bst]
    split <;> omega
theorem bst_min (f : Nat → Nat) : ∀ k j, j ≤ k → f (bst f k) ≤ f j
  | 0, j, h => by
    rw [show j = 0 by omega]
    exact Nat.le_refl _
  | k + 1, j, h => by
    rw [bst]
    by_cases hj : j = k + 1
    · subst hj
      split
      · exact Nat.le_refl _
      · omega
    · have h2 := bst_min f k j (by omega)
      split
      · omega
      · exact h2
def bsb (c : Nat → Nat) (h : Nat) : Nat := bst (fun b => ps c b h h) 20
theorem bsb_le (c : Nat → Nat) (h : Nat) : bsb c h ≤ 20 := bst_le _ 20
theorem ps_20 {c : Nat → Nat} {h : Nat} (hc : ∀ i, i < h → c i < 2 ^ 20) : ps c 20 h h = 9 + h * 20 := by
  unfold ps
  have e : fb_sm (fun j => ex 20 (c j)) h = fb_sm (fun _ => 0) h := fb_sm_cong (fun k hk => by
    have := wd_le (hc k hk)
    show ex 20 (c k) = 0
    unfold ex
    rw [if_neg (by omega)])
  rw [e, fb_sm_const]
  omega
theorem ps_bsb {c : Nat → Nat} {h : Nat} (hc : ∀ i, i < h → c i < 2 ^ 20) (hh : h ≤ 8) : ps c (bsb c h) h h ≤ 169 := by
  have h1 := bst_min (fun b => ps c b h h) 20 20 (Nat.le_refl _)
  have h2 := ps_20 hc
  show ps c (bst (fun b => ps c b h h) 20) h h ≤ 169
  omega
theorem ps_mono (c : Nat → Nat) (b h : Nat) {i j : Nat} (hij : i ≤ j) : ps c b h i ≤ ps c b h j := by
  unfold ps
  have := fb_sm_mono (fun j => ex b (c j)) i (j - i)
  rw [show i + (j - i) = j by omega] at this
  omega
theorem ps_0 (c : Nat → Nat) (b h : Nat) : ps c b h 0 = 9 + h * b := rfl
theorem ps_yes {c : Nat → Nat} {b h i : Nat} (hw : b < wd (c i)) : ps c b h (i + 1) = ps c b h i + 3 + 5 + (wd (c i) - b) := by
  unfold ps
  rw [fb_sm_succ]
  show _ + (_ + ex b (c i)) = _
  unfold ex
  rw [if_pos hw]
  omega
theorem ps_no {c : Nat → Nat} {b h i : Nat} (hw : ¬ b < wd (c i)) : ps c b h (i + 1) = ps c b h i := by
  unfold ps
  rw [fb_sm_succ]
  show _ + (_ + ex b (c i)) = _
  unfold ex
  rw [if_neg hw]
  omega
theorem np_yes {c : Nat → Nat} {b i : Nat} (hw : b < wd (c i)) : np c b (i + 1) = np c b i + 1 := by
  unfold np
  rw [fb_ct_succ, if_pos (by simp [hw])]
theorem np_no {c : Nat → Nat} {b i : Nat} (hw : ¬ b < wd (c i)) : np c b (i + 1) = np c b i := by
  unfold np
  rw [fb_ct_succ, if_neg (by simp [hw])]
  rfl
theorem np_le (c : Nat → Nat) (b i : Nat) : np c b i ≤ i := fb_ct_le _ i
/-- the block's digits f hold h codes c -/
def Enc (f : Nat → Bool) (h : Nat) (c : Nat → Nat) : Prop := rdv f 0 5 = bsb c h ∧ rdv f 5 4 = np c (bsb c h) h ∧ (∀ i, i < h → rdv f (9 + i * bsb c h) (bsb c h) = c i % 2 ^ bsb c h) ∧ ∀ i, i < h → bsb c h < wd (c i) → rdv f (ps c (bsb c h) h i) 3 = i ∧ rdv f (ps c (bsb c h) h i + 3) 5 = wd (c i) - bsb c h ∧ rdv f (ps c (bsb c h) h i + 8) (wd (c i) - bsb c h) = c i / 2 ^ bsb c h
theorem ps_cong {c c1 : Nat → Nat} {h i : Nat} (hi : i ≤ h) (hc : ∀ i, i < h → c i = c1 i) (b : Nat) : ps c b h i = ps c1 b h i := by
  unfold ps
  rw [fb_sm_cong (f := fun j => ex b (c j)) (g := fun j => ex b (c1 j)) (fun k hk => by show ex b (c k) = ex b (c1 k); rw [hc k (by omega)])]
theorem np_cong {c c1 : Nat → Nat} {h : Nat} (hc : ∀ i, i < h → c i = c1 i) (b : Nat) : np c b h = np c1 b h := by
  unfold np
  exact fb_ct_cong (fun k hk => by rw [hc k hk])
theorem bsb_cong {c c1 : Nat → Nat} {h : Nat} (hc : ∀ i, i < h → c i = c1 i) : bsb c h = bsb c1 h := by
  unfold bsb
  rw [show (fun b => ps c b h h) = (fun b => ps c1 b h h) from funext (fun b => ps_cong (Nat.le_refl h) hc b)]
theorem Enc_cong {f : Nat → Bool} {c c1 : Nat → Nat} {h : Nat} (hc : ∀ i, i < h → c i = c1 i) (H : Enc f h c) : Enc f h c1 := by
  unfold Enc at H ⊢
  rw [← bsb_cong hc, ← np_cong hc]
  refine ⟨H.1, H.2.1, fun i hi => ?_, fun i hi hw => ?_⟩
  · rw [← hc i hi]
    exact H.2.2.1 i hi
  · rw [← hc i hi] at hw ⊢
    rw [← ps_cong (Nat.le_of_lt hi) hc]
    exact H.2.2.2 i hi hw
end
section
/-! contracts of the small methods, and of digits -/
abbrev isL (l : Int32) : Prop := l = 0 ∨ l = 1
abbrev isN (x : Int32) : Prop := ∃ a : Nat, a ≤ 1000000 ∧ x = nI a
theorem isL_of {l : Int32} (h : isL l) : ∃ a : Nat, a < 2 ∧ l = nI a := by
  rcases h with h | h
  · exact ⟨0, by omega, h⟩
  · exact ⟨1, by omega, h⟩
theorem isL_nI {a : Nat} (h : a < 2) : isL (nI a) := by
  rcases (by omega : a = 0 ∨ a = 1) with rfl | rfl
  · exact Or.inl rfl
  · exact Or.inr rfl
theorem rok_b {r : Int32} (h : r = 0 ∨ r = 1) : rok (some .boolean) r := by
  rcases h with rfl | rfl <;> rfl
theorem isL_x {l : Int32} (h0 : ¬ l < 0) (h1 : ¬ 1 < l) : isL l := by
  rw [Int32.lt_iff_toInt_lt] at h0 h1
  have e0 : (0 : Int32).toInt = 0 := rfl
  have e1 : (1 : Int32).toInt = 1 := rfl
  rw [e0] at h0
  rw [e1] at h1
  rcases (by omega : l.toInt = 0 ∨ l.toInt = 1) with h | h
  · exact Or.inl (Int32.toInt_inj.mp (h.trans e0.symm))
  · exact Or.inr (Int32.toInt_inj.mp (h.trans e1.symm))
theorem isL_n {l : Int32} (h0 : l < 0) : ¬ isL l := by
  rintro (rfl | rfl)
  · exact absurd h0 (by decide)
  · exact absurd h0 (by decide)
theorem isL_n1 {l : Int32} (h0 : 1 < l) : ¬ isL l := by
  rintro (rfl | rfl)
  · exact absurd h0 (by decide)
  · exact absurd h0 (by decide)
theorem isN_x {x : Int32} (h0 : ¬ x < 0) (h1 : ¬ 1000000 < x) : isN x := by
  obtain ⟨j, hj, rfl⟩ := nI_of h0
  refine ⟨j, ?_, rfl⟩
  rw [show (1000000 : Int32) = nI 1000000 from rfl, pd_lt (by omega) (by rw [pd_t31] at hj; exact hj)] at h1
  omega
theorem isN_n {x : Int32} (h0 : x < 0) : ¬ isN x := by
  rintro ⟨a, ha, rfl⟩
  exact pd_n0 (by omega) h0
theorem isN_n1 {x : Int32} (h0 : 1000000 < x) : ¬ isN x := by
  rintro ⟨a, ha, rfl⟩
  rw [show (1000000 : Int32) = nI 1000000 from rfl, pd_lt (by omega) (by omega)] at h0
  omega
theorem k_badList {l : Int32} {S : SX} : CX yX0_badList dX_badList [l] S (fun r S1 => S1 = S ∧ (isL l → r = 0) ∧ (¬ isL l → r = 1)) := by
  obtain ⟨sz, la, pk, hd, cd, nb, al, cu⟩ := S
  refine CX_of hyX_badList (Nat.le_of_ble_eq_true rfl) ?_ (sgX_badList_0 ⟨fun h => ?_, fun h0 => ⟨fun h => ?_, fun h => ?_⟩⟩)
  · rintro v S1 ⟨-, h1, h2⟩
    by_cases h : isL l
    · exact rok_b (Or.inl (h1 h))
    · exact rok_b (Or.inr (h2 h))
  · exact ⟨rfl, fun hl => absurd hl (isL_n h), fun _ => rfl⟩
  · exact ⟨rfl, fun hl => absurd hl (isL_n1 h), fun _ => rfl⟩
  · exact ⟨rfl, fun _ => rfl, fun hl => absurd (isL_x h0 h) hl⟩
theorem k_badNumber {x : Int32} {S : SX} : CX yX0_badNumber dX_badNumber [x] S (fun r S1 => S1 = S ∧ (isN x → r = 0) ∧ (¬ isN x → r = 1)) := by
  obtain ⟨sz, la, pk, hd, cd, nb, al, cu⟩ := S
  refine CX_of hyX_badNumber (Nat.le_of_ble_eq_true rfl) ?_ (sgX_badNumber_0 ⟨fun h => ?_, fun h0 => ⟨fun h => ?_, fun h => ?_⟩⟩)
  · rintro v S1 ⟨-, h1, h2⟩
    by_cases h : isN x
    · exact rok_b (Or.inl (h1 h))
    · exact rok_b (Or.inr (h2 h))
  · exact ⟨rfl, fun hl => absurd hl (isN_n h), fun _ => rfl⟩
  · exact ⟨rfl, fun hl => absurd hl (isN_n1 h), fun _ => rfl⟩
  · exact ⟨rfl, fun _ => rfl, fun hl => absurd (isN_x h0 h) hl⟩
theorem rok_i (post : Int32 → SX → Prop) : ∀ v S1, post v S1 → rok (some .int) v := fun _ _ _ => rfl
theorem rok_v (post : Int32 → SX → Prop) : ∀ v S1, post v S1 → rok none v := fun _ _ _ => trivial
theorem k_blockCount {l m : Nat} (hl : l < 2) {sz la pk cd nb al : Nat → Int32} {hd cu : Int32} (hs : sz l = nI m) (hm : m ≤ 64) : CX yX0_blockCount dX_blockCount [nI l] (sz, la, pk, hd, cd, nb, al, cu) (fun r S1 => S1 = (sz, la, pk, hd, cd, nb, al, cu) ∧ r = nI ((m + 7) / 8)) := by
  refine CX_of hyX_blockCount (Nat.le_of_ble_eq_true rfl) (rok_i _) (sgX_blockCount_0 ⟨pd_in hl (by decide), rfl, ?_⟩)
  rw [pd_cl (by omega), hs, show (7 : Int32) = nI 7 from rfl, nI_add, pd_shr3 (by omega)]
theorem k_inBlock {l m b : Nat} (hl : l < 2) {sz la pk cd nb al : Nat → Int32} {hd cu : Int32} (hs : sz l = nI m) (hm : m ≤ 64) (hb : 8 * b < m) : CX yX0_inBlock dX_inBlock [nI l, nI b] (sz, la, pk, hd, cd, nb, al, cu) (fun r S1 => S1 = (sz, la, pk, hd, cd, nb, al, cu) ∧ r = nI (min 8 (m - 8 * b))) := by
  have e : sz (nI l).toNatClampNeg - 8 * nI b = nI (m - 8 * b) := by
    rw [pd_cl (by omega), hs, show (8 : Int32) = nI 8 from rfl, pk_mul, pk_sub (by omega)]
  refine CX_of hyX_inBlock (Nat.le_of_ble_eq_true rfl) (rok_i _) (sgX_inBlock_0 ⟨pd_in hl (by decide), fun h => ⟨rfl, ?_⟩, fun h => ⟨rfl, ?_⟩⟩)
  · rw [e] at h ⊢
    rw [show (8 : Int32) = nI 8 from rfl, pd_lt (by omega) (by omega)] at h
    rw [Nat.min_eq_right (by omega)]
  · rw [e] at h
    rw [show (8 : Int32) = nI 8 from rfl, pd_lt (by omega) (by omega)] at h
    rw [Nat.min_eq_left (by omega)]
    rfl
theorem lp_width {post : Int32 → SX → Prop} {a : Nat} (ha : a < 2147483648) {sz la pk cd nb al : Nat → Int32} {hd cu : Int32} (h : post (nI (wd a)) (sz, la, pk, hd, cd, nb, al, cu)) : ∀ (m i : Nat), i + m = wd a → VX dX_width post 4 [] [none, some (.inl (nI a)), some (.inl (nI i)), some (.inl (nI i))] (sz, la, pk, hd, cd, nb, al, cu) := by
  have h31 : wd a ≤ 31 := wd_le (by rw [pd_t31]; exact ha)
  intro m
  induction m with
  | zero =>
    intro i hi
    have e : i = wd a := by omega
    subst e
    refine sgX_width_4 ⟨fun h3 => ⟨fun _ => h, fun hn => absurd ?_ hn⟩, fun _ => h⟩
    rw [show (31 : Int32) = nI 31 from rfl, pd_lt (by omega) (by omega)] at h3
    rw [pd_shr ha (by omega), Nat.div_eq_of_lt (wd_lt a)]
    rfl
  | succ m ih =>
    intro i hi
    refine sgX_width_4 ⟨fun h3 => ⟨fun h0 => ?_, fun _ => ?_⟩, fun hn => absurd ?_ hn⟩
    · rw [pd_shr ha (by omega), ← nI_0, pd_eq (Nat.lt_of_le_of_lt (Nat.div_le_self _ _) ha) (by omega)] at h0
      have h1 : 2 ^ i ≤ a := (wd_iff a i).mpr (by omega)
      have h2 := Nat.div_pos h1 (Nat.two_pow_pos i)
      omega
    · rw [nI_1]
      exact ih (i + 1) (by omega)
    · rw [show (31 : Int32) = nI 31 from rfl, pd_lt (by omega) (by omega)]
      omega
theorem k_width {a : Nat} (ha : a < 2147483648) {S : SX} : CX yX0_width dX_width [nI a] S (fun r S1 => S1 = S ∧ r = nI (wd a)) := by
  obtain ⟨sz, la, pk, hd, cd, nb, al, cu⟩ := S
  exact CX_of hyX_width (Nat.le_of_ble_eq_true rfl) (rok_i _) (sgX_width_0 (lp_width ha ⟨rfl, rfl⟩ (wd a) 0 (by omega)))
theorem lp_put {post : Int32 → SX → Prop} {k v : Nat} (hk : k < 16) (hv : v < 2147483648) {sz la cd nb al : Nat → Int32} {hd : Int32} : ∀ (m c : Nat) (pk : Nat → Int32), m ≤ 31 → c + m ≤ 192 → (∀ pk1, PUT pk pk1 k c m v → post 0 (sz, la, pk1, hd, cd, nb, al, nI (c + m))) → VX dX_put post 5 [] [some (.inr 0), some (.inl (nI k)), none, some (.inl (nI v)), some (.inl (nI m - 1)), none, none] (sz, la, pk, hd, cd, nb, al, nI c) := by
  intro m
  induction m with
  | zero =>
    intro c pk _ hc h
    exact sgX_put_5 ⟨fun _ => h pk (PUT_0 pk k c v), fun hn => absurd pd_neg1 hn⟩
  | succ m ih =>
    intro c pk hm hc h
    have ei : nI (m + 1) - 1 = nI m := nI_pred m
    have eb : (nI v >>> (nI m &&& 31)) &&& 1 = nI (v / 2 ^ m % 2) := by rw [pd_shr hv (by omega), pd_and1]
    have ix := pd_ix (k := k) (c := c) (by omega)
    have hin : vp_in (nI (6 * k + c / 32)) 96 := pd_in (by omega) (by omega)
    have e9 : c + (m + 1) = c + 1 + m := by omega
    have hm32 : c % 32 < 32 := Nat.mod_lt _ (by decide)
    refine sgX_put_5 ⟨fun hn => absurd hn ?_, fun _ => ⟨fun hb => ?_, fun hb => ?_⟩⟩
    · rw [ei]
      exact pd_n0 (by omega)
    · rw [ei, eb] at hb
      have hb : v / 2 ^ m % 2 = 1 := (pd_eq (by omega) (by omega)).mp hb
      have ht : v.testBit m = true := by rw [Nat.testBit_eq_decide_div_mod_eq, hb]; rfl
      rw [ix, pd_cl (by omega), pd_m2, nI_1, pd_an31]
      refine ⟨hin, hin, ih (c + 1) _ (by omega) (by omega) (fun pk1 hp => ?_)⟩
      rw [← e9]
      exact h pk1 (PUT_s (PUT_1 (by omega) (fun i hi => by rw [ht]; exact pd_setb _ hm32 hi)) hp)
    · rw [ei, eb] at hb
      have hb : ¬ v / 2 ^ m % 2 = 1 := fun z => hb (by rw [z]; rfl)
      have ht : v.testBit m = false := by rw [Nat.testBit_eq_decide_div_mod_eq]; exact decide_eq_false hb
      rw [ix, pd_cl (by omega), pd_m2, nI_1, pd_an31]
      refine ⟨hin, hin, ih (c + 1) _ (by omega) (by omega) (fun pk1 hp => ?_)⟩
      rw [← e9]
      exact h pk1 (PUT_s (PUT_1 (by omega) (fun i hi => by rw [ht]; exact pd_clrb _ hm32 hi)) hp)
theorem k_put {k n v c : Nat} (hk : k < 16) (hn : n ≤ 31) (hv : v < 2147483648) (hc : c + n ≤ 192) {sz la pk cd nb al : Nat → Int32} {hd : Int32} : CX yX0_put dX_put [nI k, nI n, nI v] (sz, la, pk, hd, cd, nb, al, nI c) (fun _ S1 => ∃ pk1, S1 = (sz, la, pk1, hd, cd, nb, al, nI (c + n)) ∧ PUT pk pk1 k c n v) :=
  CX_of hyX_put (Nat.le_of_ble_eq_true rfl) (rok_v _) (sgX_put_0 (lp_put hk hv n c pk hn hc (fun pk1 h => ⟨pk1, rfl, h⟩)))
theorem lp_get {post : Int32 → SX → Prop} {k n c : Nat} (hk : k < 16) (hc : c + n ≤ 192) {sz la pk cd nb al : Nat → Int32} {hd : Int32} (h : post (nI (rdv (bb pk k) c n)) (sz, la, pk, hd, cd, nb, al, nI (c + n))) : ∀ (m i : Nat), i + m = n → VX dX_get post 5 [] [some (.inr 0), some (.inl (nI k)), some (.inl (nI n)), some (.inl (nI (rdv (bb pk k) c i))), some (.inl (nI i)), none] (sz, la, pk, hd, cd, nb, al, nI (c + i)) := by
  intro m
  induction m with
  | zero =>
    intro i hi
    have e : i = n := by omega
    subst e
    refine sgX_get_5 ⟨fun hl => ?_, fun _ => h⟩
    rw [pd_lt (by omega) (by omega)] at hl
    omega
  | succ m ih =>
    intro i hi
    have ix := pd_ix (k := k) (c := c + i) (by omega)
    have hin : vp_in (nI (6 * k + (c + i) / 32)) 96 := pd_in (by omega) (by omega)
    refine sgX_get_5 ⟨fun _ => ?_, fun hn => absurd ?_ hn⟩
    · rw [ix, pd_cl (by omega), pd_an31, pd_bit _ (Nat.mod_lt _ (by decide)), show (2 : Int32) = nI 2 from rfl, pk_mul, nI_add, nI_1, nI_1]
      refine ⟨hin, ?_⟩
      have e : rdv (bb pk k) c i * 2 + (bt (pk (6 * k + (c + i) / 32)) ((c + i) % 32)).toNat = rdv (bb pk k) c (i + 1) := by
        rw [rdv, Nat.mul_comm]
        unfold bb
        rw [decide_eq_true (show c + i < 192 by omega), Bool.true_and]
      rw [e]
      exact ih (i + 1) (by omega)
    · rw [pd_lt (by omega) (by omega)]
      omega
theorem k_get {k n c : Nat} (hk : k < 16) (hc : c + n ≤ 192) {sz la pk cd nb al : Nat → Int32} {hd : Int32} : CX yX0_get dX_get [nI k, nI n] (sz, la, pk, hd, cd, nb, al, nI c) (fun r S1 => S1 = (sz, la, pk, hd, cd, nb, al, nI (c + n)) ∧ r = nI (rdv (bb pk k) c n)) :=
  CX_of hyX_get (Nat.le_of_ble_eq_true rfl) (rok_i _) (sgX_get_0 (lp_get hk hc ⟨rfl, rfl⟩ n 0 (by omega)))
end
section
/-! packing a block -/
theorem pd_ex {b a : Nat} (ha : a < 2 ^ 20) : ex b a ≤ 28 := by
  have := wd_le ha
  unfold ex
  split <;> omega
theorem pd_mul {i h b : Nat} (hi : i ≤ h) : i * b ≤ h * b := Nat.mul_le_mul_right b hi
theorem pd_mul8 {h b : Nat} (hh : h ≤ 8) (hb : b ≤ 20) : h * b ≤ 160 := Nat.mul_le_mul hh hb
theorem ps_bd {c : Nat → Nat} {b h i : Nat} (hc : ∀ i, i < h → c i < 2 ^ 20) (hb : b ≤ 20) (hh : h ≤ 8) (hi : i ≤ h) : ps c b h i ≤ 393 := by
  have h1 : fb_sm (fun j => ex b (c j)) i ≤ i * 28 := fb_sm_bound (fun k hk => pd_ex (hc k (by omega)))
  have h2 := pd_mul8 hh hb
  unfold ps
  omega
theorem lp_sizeAt {post : Int32 → SX → Prop} {c : Nat → Nat} {b h : Nat} (hb : b ≤ 20) (hh : h ≤ 8) (hc : ∀ i, i < h → c i < 2 ^ 20) {sz la pk cd nb al : Nat → Int32} {cu : Int32} (hcd : ∀ i, i < h → cd i = nI (c i)) (hp : post (nI (ps c b h h)) (sz, la, pk, nI h, cd, nb, al, cu)) : ∀ (m i : Nat), i + m = h → VX dX_sizeAt post 5 [] [some (.inr 0), some (.inl (nI b)), some (.inl (nI (9 + i * b + fb_sm (fun j => ex b (c j)) i))), some (.inl (nI i)), none] (sz, la, pk, nI h, cd, nb, al, cu) := by
  intro m
  induction m with
  | zero =>
    intro i hi
    have e : i = h := by omega
    subst e
    refine sgX_sizeAt_5 ⟨fun hl => ?_, fun _ => hp⟩
    rw [pd_lt (by omega) (by omega)] at hl
    omega
  | succ m ih =>
    intro i hi
    have hci := hc i (by omega)
    have hwi := wd_le hci
    refine sgX_sizeAt_5 ⟨fun _ => ⟨pd_in (by omega) (by omega), ?_⟩, fun hn => absurd ?_ hn⟩
    · rw [pd_cl (by omega), hcd i (by omega)]
      refine csX_sizeAt_20 (k_width (by omega)) ?_
      rintro r S1 ⟨rfl, rfl⟩
      refine sgX_sizeAt_23 ⟨fun hw => ?_, fun hw => ?_⟩
      · rw [pd_lt (by omega) (by omega)] at hw
        have e : 9 + i * b + fb_sm (fun j => ex b (c j)) i + b + 8 + wd (c i) - b = 9 + (i + 1) * b + fb_sm (fun j => ex b (c j)) (i + 1) := by
          rw [fb_sm_succ, Nat.add_one_mul]
          show _ = _ + (_ + ex b (c i))
          unfold ex
          rw [if_pos hw]
          omega
        rw [show (8 : Int32) = nI 8 from rfl, nI_add, nI_add, nI_add, pk_sub (by omega), e, nI_1]
        exact ih (i + 1) (by omega)
      · rw [pd_lt (by omega) (by omega)] at hw
        have e : 9 + i * b + fb_sm (fun j => ex b (c j)) i + b = 9 + (i + 1) * b + fb_sm (fun j => ex b (c j)) (i + 1) := by
          rw [fb_sm_succ, Nat.add_one_mul]
          show _ = _ + (_ + ex b (c i))
          unfold ex
          rw [if_neg hw]
          omega
        rw [nI_add, e, nI_1]
        exact ih (i + 1) (by omega)
    · rw [pd_lt (by omega) (by omega)]
      omega
theorem k_sizeAt {c : Nat → Nat} {b h : Nat} (hb : b ≤ 20) (hh : h ≤ 8) (hc : ∀ i, i < h → c i < 2 ^ 20) {sz la pk cd nb al : Nat → Int32} {cu : Int32} (hcd : ∀ i, i < h → cd i = nI (c i)) : CX yX0_sizeAt dX_sizeAt [nI b] (sz, la, pk, nI h, cd, nb, al, cu) (fun r S1 => S1 = (sz, la, pk, nI h, cd, nb, al, cu) ∧ r = nI (ps c b h h)) := by
  have h0 := lp_sizeAt (post := fun r S1 => S1 = (sz, la, pk, nI h, cd, nb, al, cu) ∧ r = nI (ps c b h h)) hb hh hc (sz := sz) (la := la) (pk := pk) (nb := nb) (al := al) (cu := cu) hcd ⟨rfl, rfl⟩ h 0 (by omega)
  rw [Nat.zero_mul] at h0
  exact CX_of hyX_sizeAt (Nat.le_of_ble_eq_true rfl) (rok_i _) (sgX_sizeAt_0 h0)
theorem lp_bestBase {post : Int32 → SX → Prop} {c : Nat → Nat} {h : Nat} (hh : h ≤ 8) (hc : ∀ i, i < h → c i < 2 ^ 20) {sz la pk cd nb al : Nat → Int32} {cu : Int32} (hcd : ∀ i, i < h → cd i = nI (c i)) (hp : post (nI (bsb c h)) (sz, la, pk, nI h, cd, nb, al, cu)) : ∀ (m k : Nat), k + m = 20 → VX dX_bestBase post 10 [] [some (.inr 0), some (.inl (nI (bst (fun b => ps c b h h) k))), some (.inl (nI (ps c (bst (fun b => ps c b h h) k) h h))), some (.inl (nI (k + 1))), none] (sz, la, pk, nI h, cd, nb, al, cu) := by
  intro m
  induction m with
  | zero =>
    intro k hk
    have e : k = 20 := by omega
    subst e
    exact sgX_bestBase_10 ⟨fun _ => hp, fun hn => absurd (by decide +kernel) hn⟩
  | succ m ih =>
    intro k hk
    have hbk := bst_le (fun b => ps c b h h) k
    refine sgX_bestBase_10 ⟨fun hn => ?_, fun _ => ?_⟩
    · rw [show (20 : Int32) = nI 20 from rfl, pd_lt (by omega) (by omega)] at hn
      omega
    · refine csX_bestBase_18 (k_sizeAt (b := k + 1) (by omega) hh hc hcd) ?_
      rintro r S1 ⟨rfl, rfl⟩
      have b1 := ps_bd (b := k + 1) hc (by omega) hh (Nat.le_refl h)
      have b2 := ps_bd (b := bst (fun b => ps c b h h) k) hc (by omega) hh (Nat.le_refl h)
      refine sgX_bestBase_21 ⟨fun hw => ?_, fun hw => ?_⟩
      · rw [pd_lt (by omega) (by omega)] at hw
        have e : bst (fun b => ps c b h h) (k + 1) = k + 1 := by
          rw [bst]
          exact if_pos hw
        have := ih (k + 1) (by omega)
        rw [e] at this
        rw [nI_1]
        exact this
      · rw [pd_lt (by omega) (by omega)] at hw
        have e : bst (fun b => ps c b h h) (k + 1) = bst (fun b => ps c b h h) k := by
          rw [bst]
          exact if_neg hw
        have := ih (k + 1) (by omega)
        rw [e] at this
        rw [nI_1]
        exact this
theorem k_bestBase {c : Nat → Nat} {h : Nat} (hh : h ≤ 8) (hc : ∀ i, i < h → c i < 2 ^ 20) {sz la pk cd nb al : Nat → Int32} {cu : Int32} (hcd : ∀ i, i < h → cd i = nI (c i)) : CX yX0_bestBase dX_bestBase [] (sz, la, pk, nI h, cd, nb, al, cu) (fun r S1 => S1 = (sz, la, pk, nI h, cd, nb, al, cu) ∧ r = nI (bsb c h)) := by
  refine CX_of hyX_bestBase (Nat.le_of_ble_eq_true rfl) (rok_i _) (sgX_bestBase_0 (csX_bestBase_4 (k_sizeAt (b := 0) (by omega) hh hc hcd) ?_))
  rintro r S1 ⟨rfl, rfl⟩
  exact sgX_bestBase_7 (lp_bestBase hh hc hcd ⟨rfl, rfl⟩ 20 0 (by omega))
/-- what is written of a block while it is packed -/
def PkI (pk0 pk : Nat → Int32) (k h : Nat) (c : Nat → Nat) (b i j : Nat) : Prop := (∀ k1, k1 ≠ k → bb pk k1 = bb pk0 k1) ∧ rdv (bb pk k) 0 5 = b ∧ rdv (bb pk k) 5 4 = np c b h ∧ (∀ a, a < i → rdv (bb pk k) (9 + a * b) b = c a % 2 ^ b) ∧ ∀ a, a < j → b < wd (c a) → rdv (bb pk k) (ps c b h a) 3 = a ∧ rdv (bb pk k) (ps c b h a + 3) 5 = wd (c a) - b ∧ rdv (bb pk k) (ps c b h a + 8) (wd (c a) - b) = c a / 2 ^ b
theorem PkI_put {pk0 pk pk1 : Nat → Int32} {k h : Nat} {c : Nat → Nat} {b i j cc n v : Nat} (H : PkI pk0 pk k h c b i j) (P : PUT pk pk1 k cc n v) (h9 : 9 ≤ cc) (hi : 9 + i * b ≤ cc) (hj : ∀ a, a < j → ps c b h (a + 1) ≤ cc) : PkI pk0 pk1 k h c b i j := by
  obtain ⟨H1, H2, H3, H4, H5⟩ := H
  refine ⟨fun k1 hk => (P.1 k1 hk).trans (H1 k1 hk), ?_, ?_, fun a ha => ?_, fun a ha hw => ?_⟩
  · rw [PUT_low P (by omega)]; exact H2
  · rw [PUT_low P (by omega)]; exact H3
  · have := pd_mul (b := b) (show a + 1 ≤ i from ha)
    rw [Nat.add_one_mul] at this
    rw [PUT_low P (by omega)]
    exact H4 a ha
  · have h1 := hj a ha
    rw [ps_yes hw] at h1
    obtain ⟨g1, g2, g3⟩ := H5 a ha hw
    rw [PUT_low P (by omega), PUT_low P (by omega), PUT_low P (by omega)]
    exact ⟨g1, g2, g3⟩
section PK
variable {post : Int32 → SX → Prop} {k h b : Nat} {c : Nat → Nat} {sz la pk0 cd nb al : Nat → Int32}
theorem lp_pack1 (hb : b ≤ 20) (hh : h ≤ 8) (hc : ∀ i, i < h → c i < 2 ^ 20) (hcd : ∀ i, i < h → cd i = nI (c i)) {x1 cu : Int32} (hp : VX dX_pack post 56 [.inl (nI b), .inl 5, .inl x1, .inr 0] [some (.inr 0), some (.inl x1), some (.inl (nI b)), some (.inl (nI (np c b h))), none, none] (sz, la, pk0, nI h, cd, nb, al, 0)) : ∀ (m i : Nat), i + m = h → VX dX_pack post 10 [] [some (.inr 0), some (.inl x1), some (.inl (nI b)), some (.inl (nI (np c b i))), some (.inl (nI i)), none] (sz, la, pk0, nI h, cd, nb, al, cu) := by
  intro m
  induction m with
  | zero =>
    intro i hi
    have e : i = h := by omega
    subst e
    refine sgX_pack_10 ⟨fun hl => ?_, fun _ => hp⟩
    rw [pd_lt (by omega) (by omega)] at hl
    omega
  | succ m ih =>
    intro i hi
    have hci := hc i (by omega)
    have hwi := wd_le hci
    refine sgX_pack_10 ⟨fun _ => ⟨pd_in (by omega) (by omega), ?_⟩, fun hn => absurd ?_ hn⟩
    · rw [pd_cl (by omega), hcd i (by omega)]
      refine csX_pack_27 (k_width (by omega)) ?_
      rintro r S1 ⟨rfl, rfl⟩
      refine sgX_pack_30 ⟨fun hw => ?_, fun hw => ?_⟩
      · rw [pd_lt (by omega) (by omega)] at hw
        have := ih (i + 1) (by omega)
        rw [np_yes hw] at this
        rw [nI_1, nI_1]
        exact this
      · rw [pd_lt (by omega) (by omega)] at hw
        have := ih (i + 1) (by omega)
        rw [np_no hw] at this
        rw [nI_1]
        exact this
    · rw [pd_lt (by omega) (by omega)]
      omega
theorem pd_mask {a b : Nat} (hb : b ≤ 20) : nI a &&& (((1 : Int32) <<< (nI b &&& 31)) - 1) = nI (a % 2 ^ b) := by
  have h1 : 2 ^ b ≤ 2 ^ 20 := Nat.pow_le_pow_right (by decide) hb
  have h2 := Nat.two_pow_pos b
  have e : (1 : Int32) <<< (nI b &&& 31) = nI (1 * 2 ^ b) := pk_shlN (n := 1) (nI b &&& 31) b (s_l b (by omega)) (by omega)
  rw [e, Nat.one_mul, show (1 : Int32) = nI 1 from rfl, pk_sub (by omega), fa_mask]
theorem lp_pack2 (hk : k < 16) (hb : b ≤ 20) (hh : h ≤ 8) (hc : ∀ i, i < h → c i < 2 ^ 20) (hcd : ∀ i, i < h → cd i = nI (c i)) (hp : ∀ pk, PkI pk0 pk k h c b h 0 → VX dX_pack post 106 [] [some (.inr 0), some (.inl (nI k)), some (.inl (nI b)), none, some (.inl 0), none] (sz, la, pk, nI h, cd, nb, al, nI (9 + h * b))) : ∀ (m i : Nat) (pk : Nat → Int32), i + m = h → PkI pk0 pk k h c b i 0 → VX dX_pack post 69 [] [some (.inr 0), some (.inl (nI k)), some (.inl (nI b)), none, some (.inl (nI i)), none] (sz, la, pk, nI h, cd, nb, al, nI (9 + i * b)) := by
  intro m
  induction m with
  | zero =>
    intro i pk hi H
    have e : i = h := by omega
    subst e
    refine sgX_pack_69 ⟨fun hl => ?_, fun _ => hp pk H⟩
    rw [pd_lt (by omega) (by omega)] at hl
    omega
  | succ m ih =>
    intro i pk hi H
    have hci := hc i (by omega)
    have h8 := pd_mul8 hh hb
    have hm := pd_mul (b := b) (show i + 1 ≤ h by omega)
    rw [Nat.add_one_mul] at hm
    refine sgX_pack_69 ⟨fun _ => ⟨pd_in (by omega) (by omega), ?_⟩, fun hn => absurd ?_ hn⟩
    · rw [pd_cl (by omega), hcd i (by omega), pd_mask hb]
      have hlt : c i % 2 ^ b ≤ c i := Nat.mod_le _ _
      refine csX_pack_94 (k_put (n := b) hk (by omega) (by omega) (by omega)) ?_
      rintro r S1 ⟨pk1, rfl, P⟩
      refine sgX_pack_97 ?_
      rw [nI_1, Nat.add_assoc 9 (i * b) b, ← Nat.add_one_mul]
      refine ih (i + 1) pk1 (by omega) ?_
      obtain ⟨H1, H2, H3, H4, H5⟩ := PkI_put H P (by omega) (Nat.le_refl _) (fun a ha => absurd ha (Nat.not_lt_zero a))
      refine ⟨H1, H2, H3, fun a ha => ?_, H5⟩
      by_cases e : a = i
      · subst e
        rw [PUT_rd P, Nat.mod_mod]
      · exact H4 a (by omega)
    · rw [pd_lt (by omega) (by omega)]
      omega
theorem lp_pack3 (hk : k < 16) (hb : b ≤ 20) (hh : h ≤ 8) (hc : ∀ i, i < h → c i < 2 ^ 20) (hcd : ∀ i, i < h → cd i = nI (c i)) (h169 : ps c b h h ≤ 169) (hp : ∀ pk cu, PkI pk0 pk k h c b h h → post 0 (sz, la, pk, nI h, cd, nb, al, cu)) : ∀ (m i : Nat) (pk : Nat → Int32), i + m = h → PkI pk0 pk k h c b h i → VX dX_pack post 106 [] [some (.inr 0), some (.inl (nI k)), some (.inl (nI b)), none, some (.inl (nI i)), none] (sz, la, pk, nI h, cd, nb, al, nI (ps c b h i)) := by
  intro m
  induction m with
  | zero =>
    intro i pk hi H
    have e : i = h := by omega
    subst e
    refine sgX_pack_106 ⟨fun hl => ?_, fun _ => hp pk _ H⟩
    rw [pd_lt (by omega) (by omega)] at hl
    omega
  | succ m ih =>
    intro i pk hi H
    have hci := hc i (by omega)
    have hwi := wd_le hci
    refine sgX_pack_106 ⟨fun _ => ⟨pd_in (by omega) (by omega), ?_⟩, fun hn => absurd ?_ hn⟩
    · rw [pd_cl (by omega), hcd i (by omega)]
      refine csX_pack_123 (k_width (by omega)) ?_
      rintro r S1 ⟨rfl, rfl⟩
      refine sgX_pack_126 ⟨fun hw => ?_, fun hw => ?_⟩
      · rw [pd_lt (by omega) (by omega)] at hw
        have hnx := ps_mono c b h (show i + 1 ≤ h by omega)
        rw [ps_yes hw] at hnx
        have hp0 := ps_mono c b h (Nat.zero_le i)
        rw [ps_0] at hp0
        refine csX_pack_139 (k_put (n := 3) (v := i) hk (by omega) (by omega) (by omega)) ?_
        rintro r S1 ⟨pk1, rfl, P1⟩
        refine sgX_pack_142 ?_
        rw [pk_sub (by omega)]
        refine csX_pack_149 (k_put (n := 5) (v := wd (c i) - b) hk (by omega) (by omega) (by omega)) ?_
        rintro r S1 ⟨pk2, rfl, P2⟩
        refine sgX_pack_152 ⟨pd_in (by omega) (by omega), ?_⟩
        rw [pd_cl (by omega), hcd i (by omega), pd_shr (by omega) (by omega), pk_sub (by omega)]
        have hdl : c i / 2 ^ b ≤ c i := Nat.div_le_self _ _
        refine csX_pack_167 (k_put (n := wd (c i) - b) (v := c i / 2 ^ b) hk (by omega) (by omega) (by omega)) ?_
        rintro r S1 ⟨pk3, rfl, P3⟩
        refine sgX_pack_170 ?_
        rw [nI_1, ← ps_yes hw]
        refine ih (i + 1) pk3 (by omega) ?_
        have q1 := PkI_put H P1 (by omega) (by omega) (fun a ha => ps_mono c b h ha)
        have q2 := PkI_put q1 P2 (by omega) (by omega) (fun a ha => by have := ps_mono c b h (show a + 1 ≤ i from ha); omega)
        obtain ⟨H1, H2, H3, H4, H5⟩ := PkI_put q2 P3 (by omega) (by omega) (fun a ha => by have := ps_mono c b h (show a + 1 ≤ i from ha); omega)
        refine ⟨H1, H2, H3, H4, fun a ha hwa => ?_⟩
        by_cases e : a = i
        · subst e
          refine ⟨?_, ?_, ?_⟩
          · rw [PUT_low P3 (by omega), PUT_low P2 (by omega), PUT_rd P1]
            exact Nat.mod_eq_of_lt (by omega)
          · rw [PUT_low P3 (by omega), PUT_rd P2]
            exact Nat.mod_eq_of_lt (by omega)
          · rw [show ps c b h a + 8 = ps c b h a + 3 + 5 by omega, PUT_rd P3]
            apply Nat.mod_eq_of_lt
            rw [Nat.div_lt_iff_lt_mul (Nat.two_pow_pos b), ← Nat.pow_add, show wd (c a) - b + b = wd (c a) by omega]
            exact wd_lt (c a)
        · exact H5 a (by omega) hwa
      · rw [pd_lt (by omega) (by omega)] at hw
        refine sgX_pack_170 ?_
        rw [nI_1, ← ps_no (h := h) hw]
        refine ih (i + 1) pk (by omega) ?_
        obtain ⟨H1, H2, H3, H4, H5⟩ := H
        refine ⟨H1, H2, H3, H4, fun a ha hwa => ?_⟩
        by_cases e : a = i
        · subst e
          exact absurd hwa hw
        · exact H5 a (by omega) hwa
    · rw [pd_lt (by omega) (by omega)]
      omega
end PK
theorem k_pack {k h : Nat} {c : Nat → Nat} (hk : k < 16) (hh : h ≤ 8) (hc : ∀ i, i < h → c i < 2 ^ 20) {sz la pk cd nb al : Nat → Int32} {cu : Int32} (hcd : ∀ i, i < h → cd i = nI (c i)) : CX yX0_pack dX_pack [nI k] (sz, la, pk, nI h, cd, nb, al, cu) (fun _ S1 => ∃ pk1 cu1, S1 = (sz, la, pk1, nI h, cd, nb, al, cu1) ∧ (∀ k1, k1 ≠ k → bb pk1 k1 = bb pk k1) ∧ Enc (bb pk1 k) h c) := by
  have hb := bsb_le c h
  have h8 := np_le c (bsb c h) h
  refine CX_of hyX_pack (Nat.le_of_ble_eq_true rfl) (rok_v _) (sgX_pack_0 (csX_pack_1 (k_bestBase hh hc hcd) ?_))
  rintro r S1 ⟨rfl, rfl⟩
  refine sgX_pack_4 (lp_pack1 hb hh hc hcd ?_ h 0 (by omega))
  refine csX_pack_56 (k_put (n := 5) (v := bsb c h) (c := 0) hk (by omega) (by omega) (by omega)) ?_
  rintro r S1 ⟨pk1, rfl, P1⟩
  refine sgX_pack_59 (csX_pack_63 (k_put (n := 4) (v := np c (bsb c h) h) (c := 0 + 5) hk (by omega) (by omega) (by omega)) ?_)
  rintro r S1 ⟨pk2, rfl, P2⟩
  refine sgX_pack_66 ?_
  have h0 := lp_pack2 (post := fun _ S1 => ∃ pk1 cu1, S1 = (sz, la, pk1, nI h, cd, nb, al, cu1) ∧ (∀ k1, k1 ≠ k → bb pk1 k1 = bb pk k1) ∧ Enc (bb pk1 k) h c) (pk0 := pk) (sz := sz) (la := la) (nb := nb) (al := al) hk hb hh hc hcd (fun pk3 H3 => by
    have h1 := lp_pack3 (post := fun _ S1 => ∃ pk1 cu1, S1 = (sz, la, pk1, nI h, cd, nb, al, cu1) ∧ (∀ k1, k1 ≠ k → bb pk1 k1 = bb pk k1) ∧ Enc (bb pk1 k) h c) (pk0 := pk) (sz := sz) (la := la) (nb := nb) (al := al) hk hb hh hc hcd (ps_bsb hc hh) (fun pk4 cu4 H4 => ⟨pk4, cu4, rfl, H4.1, H4.2⟩) h 0 pk3 (by omega) H3
    exact h1) h 0 pk2 (by omega) ⟨fun k1 hk1 => (P2.1 k1 hk1).trans (P1.1 k1 hk1), ?_, ?_, fun a ha => absurd ha (Nat.not_lt_zero a), fun a ha => absurd ha (Nat.not_lt_zero a)⟩
  · rw [Nat.zero_mul] at h0
    exact h0
  · rw [PUT_low P2 (by omega), PUT_rd P1]
    exact Nat.mod_eq_of_lt (by omega)
  · have := PUT_rd P2
    rw [show (0 + 5 : Nat) = 5 from rfl] at this
    rw [this]
    exact Nat.mod_eq_of_lt (by omega)
end
section
/-! the picture of a list, reading a block -/
def wfl (n : Nat) (w : Nat → Nat) : Prop := n ≤ 64 ∧ (∀ i, i < n → w i ≤ 1000000) ∧ ∀ i j, i < j → j < n → w i < w j
abbrev hn (n b : Nat) : Nat := min 8 (n - 8 * b)
theorem hn_8 (n b : Nat) : hn n b ≤ 8 := Nat.min_le_left _ _
theorem hn_n {n b : Nat} (h : 8 * b ≤ n) : 8 * b + hn n b ≤ n := by
  have : hn n b ≤ n - 8 * b := Nat.min_le_right _ _
  omega
theorem hn_in {n b i : Nat} (h : i < hn n b) : 8 * b + i < n := by
  have : hn n b ≤ n - 8 * b := Nat.min_le_right _ _
  omega
abbrev cb (w : Nat → Nat) (b : Nat) : Nat → Nat := fun i => cde w (8 * b + i)
/-- a block's size in digits -/
def bz (w : Nat → Nat) (n b : Nat) : Nat := ps (cb w b) (bsb (cb w b) (hn n b)) (hn n b) (hn n b)
/-- list l: n numbers w, in the three arrays -/
def RL (n : Nat) (w : Nat → Nat) (l : Nat) (sz la pk : Nat → Int32) : Prop := wfl n w ∧ sz l = nI n ∧ ∀ b, 8 * b < n → la (8 * l + b) = nI (w (min (8 * b + 7) (n - 1))) ∧ Enc (bb pk (8 * l + b)) (hn n b) (cb w b)
def RX (n : Nat → Nat) (v : Nat → Nat → Nat) (sz la pk : Nat → Int32) : Prop := ∀ l, l < 2 → RL (n l) (v l) l sz la pk
theorem cde_le {n : Nat} {w : Nat → Nat} (H : wfl n w) {i : Nat} (hi : i < n) : cde w i ≤ 1000000 := by
  have h1 := H.2.1 i hi
  unfold cde
  split
  · next h => subst h; exact h1
  · omega
theorem cb_lt {n b : Nat} {w : Nat → Nat} (H : wfl n w) : ∀ i, i < hn n b → cb w b i < 2 ^ 20 := by
  intro i hi
  have := cde_le H (i := 8 * b + i) (hn_in hi)
  show cde w (8 * b + i) < 2 ^ 20
  omega
/-- the number before place j -/
def bf (w : Nat → Nat) (j : Nat) : Int32 := if j = 0 then -1 else nI (w (j - 1))
theorem bf_0 (w : Nat → Nat) : bf w 0 = -1 := rfl
theorem bf_s (w : Nat → Nat) (j : Nat) : bf w (j + 1) = nI (w j) := rfl
theorem bf_next {n : Nat} {w : Nat → Nat} (H : wfl n w) {j : Nat} (hj : j < n) : bf w j + nI (cde w j) + 1 = bf w (j + 1) := by
  rw [bf_s]
  unfold bf cde
  by_cases h : j = 0
  · subst h
    rw [if_pos rfl, if_pos rfl]
    have : (-1 : Int32) + nI (w 0) + 1 = nI (w 0) := by
      rw [Int32.add_comm (-1), Int32.add_assoc]
      exact Int32.add_zero _
    exact this
  · rw [if_neg h, if_neg h, nI_add, nI_1]
    have := H.2.2 (j - 1) j (by omega) hj
    congr 1
    omega
theorem pd_k8 (l b : Nat) : nI l * 8 + nI b = nI (8 * l + b) := by
  rw [show (8 : Int32) = nI 8 from rfl, pk_mul, nI_add, Nat.mul_comm]
theorem pd_or {a b : Nat} (ha : a < 2 ^ 20) (hb : b ≤ 20) : nI (a % 2 ^ b) ||| (nI (a / 2 ^ b) <<< (nI b &&& 31)) = nI a := by
  have h1 : a / 2 ^ b * 2 ^ b ≤ a := Nat.div_mul_le_self a (2 ^ b)
  rw [pk_shlN (nI b &&& 31) b (s_l b (by omega)) (by omega), Int32.or_comm, Nat.mul_comm, fa_or_sum _ (Nat.mod_lt _ (Nat.two_pow_pos b)), Nat.div_add_mod]
section UP
variable {post : Int32 → SX → Prop} {k h b : Nat} {c : Nat → Nat} {sz la pk al : Nat → Int32}
theorem lp_unp2 (hk : k < 16) (hh : h ≤ 8) (hb : b ≤ 20) (h3 : ∀ i, i < h → rdv (bb pk k) (9 + i * b) b = c i % 2 ^ b) {nb : Nat → Int32} {x2 x5 : Int32} (hp : ∀ cd, (∀ j, j < h → cd j = nI (c j % 2 ^ b)) → VX dX_unpack post 73 [] [some (.inr 0), none, some (.inl x2), some (.inl (nI k)), some (.inl (nI b)), some (.inl x5), some (.inl 0), none, none, none] (sz, la, pk, nI h, cd, nb, al, nI (9 + h * b))) : ∀ (m i : Nat) (cd : Nat → Int32), i + m = h → (∀ j, j < i → cd j = nI (c j % 2 ^ b)) → VX dX_unpack post 41 [] [some (.inr 0), none, some (.inl x2), some (.inl (nI k)), some (.inl (nI b)), some (.inl x5), some (.inl (nI i)), none, none, none] (sz, la, pk, nI h, cd, nb, al, nI (9 + i * b)) := by
  intro m
  induction m with
  | zero =>
    intro i cd hi H
    have e : i = h := by omega
    subst e
    refine sgX_unpack_41 ⟨fun hl => ?_, fun _ => hp cd H⟩
    rw [pd_lt (by omega) (by omega)] at hl
    omega
  | succ m ih =>
    intro i cd hi H
    have h8 := pd_mul8 hh hb
    have hm := pd_mul (b := b) (show i + 1 ≤ h by omega)
    rw [Nat.add_one_mul] at hm
    refine sgX_unpack_41 ⟨fun _ => ?_, fun hn => absurd ?_ hn⟩
    · refine csX_unpack_60 (k_get (n := b) hk (by omega)) ?_
      rintro r S1 ⟨rfl, rfl⟩
      refine sgX_unpack_63 ⟨pd_in (by omega) (by omega), ?_⟩
      rw [h3 i (by omega), pd_cl (by omega), nI_1, Nat.add_assoc 9 (i * b) b, ← Nat.add_one_mul]
      refine ih (i + 1) _ (by omega) (fun j hj => ?_)
      by_cases e : j = i
      · subst e
        exact pk_us
      · rw [pk_un e]
        exact H j (by omega)
    · rw [pd_lt (by omega) (by omega)]
      omega
theorem lp_unp3 (hk : k < 16) (hh : h ≤ 8) (hb : b ≤ 20) (hc : ∀ i, i < h → c i < 2 ^ 20) (h169 : ps c b h h ≤ 169) (h4 : ∀ i, i < h → b < wd (c i) → rdv (bb pk k) (ps c b h i) 3 = i ∧ rdv (bb pk k) (ps c b h i + 3) 5 = wd (c i) - b ∧ rdv (bb pk k) (ps c b h i + 8) (wd (c i) - b) = c i / 2 ^ b) {nb : Nat → Int32} {x2 bef : Int32} (hbe : (x2 = 0 → bef = -1) ∧ (¬ x2 = 0 → vp_in (nI k - 1) 16 ∧ la (nI k - 1).toNatClampNeg = bef)) (hp : ∀ cd, (∀ j, j < h → cd j = nI (c j)) → VX dX_unpack post 152 [] [some (.inr 0), none, none, none, none, none, some (.inl bef), some (.inl 0), none, none] (sz, la, pk, nI h, cd, nb, al, nI (ps c b h h))) : ∀ (m i : Nat) (cd : Nat → Int32), i + m = h → (∀ j, j < h → cd j = nI (if j < i then c j else c j % 2 ^ b)) → VX dX_unpack post 73 [] [some (.inr 0), none, some (.inl x2), some (.inl (nI k)), some (.inl (nI b)), some (.inl (nI (np c b h))), some (.inl (nI (np c b i))), none, none, none] (sz, la, pk, nI h, cd, nb, al, nI (ps c b h i)) := by
  have hnh := np_le c b h
  intro m
  induction m with
  | zero =>
    intro i cd hi H
    have e : i = h := by omega
    subst e
    refine sgX_unpack_73 ⟨fun hl => ?_, fun _ => ⟨fun h0 => ?_, fun h0 => ⟨(hbe.2 h0).1, ?_⟩⟩⟩
    · rw [pd_lt (by omega) (by omega)] at hl
      omega
    · rw [← hbe.1 h0]
      exact hp cd (fun j hj => by rw [H j hj, if_pos hj])
    · rw [(hbe.2 h0).2]
      exact hp cd (fun j hj => by rw [H j hj, if_pos hj])
  | succ m ih =>
    intro i cd hi H
    have hci := hc i (by omega)
    have hwi := wd_le hci
    by_cases hw : b < wd (c i)
    · have hnx := ps_mono c b h (show i + 1 ≤ h by omega)
      rw [ps_yes hw] at hnx
      have hmn : np c b (i + 1) ≤ np c b h := fb_ct_mono _ (by omega)
      rw [np_yes hw] at hmn
      obtain ⟨g1, g2, g3⟩ := h4 i (by omega) hw
      refine sgX_unpack_73 ⟨fun _ => ?_, fun hn => absurd ?_ hn⟩
      · refine csX_unpack_83 (k_get (n := 3) hk (by omega)) ?_
        rintro r S1 ⟨rfl, rfl⟩
        rw [g1]
        refine sgX_unpack_86 (csX_unpack_91 (k_get (n := 5) hk (by omega)) ?_)
        rintro r S1 ⟨rfl, rfl⟩
        rw [g2]
        refine sgX_unpack_94 (csX_unpack_100 (k_get (n := wd (c i) - b) hk (by omega)) ?_)
        rintro r S1 ⟨rfl, rfl⟩
        rw [show ps c b h i + 3 + 5 = ps c b h i + 8 by omega, g3]
        refine sgX_unpack_103 ⟨pd_in (by omega) (by omega), pd_in (by omega) (by omega), ?_⟩
        rw [pd_cl (by omega), H i (by omega), if_neg (Nat.lt_irrefl i), pd_or hci hb, nI_1, ← np_yes hw, show ps c b h i + 8 + (wd (c i) - b) = ps c b h i + 3 + 5 + (wd (c i) - b) by omega, ← ps_yes hw]
        refine ih (i + 1) _ (by omega) (fun j hj => ?_)
        by_cases e : j = i
        · subst e
          rw [pk_us, if_pos (by omega)]
        · rw [pk_un e, H j hj]
          by_cases e2 : j < i
          · rw [if_pos e2, if_pos (by omega)]
          · rw [if_neg e2, if_neg (by omega)]
      · rw [pd_lt (by omega) (by omega)]
        omega
    · have := ih (i + 1) cd (by omega) (fun j hj => by
        rw [H j hj]
        by_cases e : j = i
        · subst e
          rw [if_neg (Nat.lt_irrefl j), if_pos (by omega)]
          have h2 : 2 ^ wd (c j) ≤ 2 ^ b := Nat.pow_le_pow_right (by decide) (by omega)
          rw [Nat.mod_eq_of_lt (Nat.lt_of_lt_of_le (wd_lt (c j)) h2)]
        · by_cases e2 : j < i
          · rw [if_pos e2, if_pos (by omega)]
          · rw [if_neg e2, if_neg (by omega)])
      rw [np_no hw, ps_no hw] at this
      exact this
end UP
theorem lp_unp4 {post : Int32 → SX → Prop} {n b h : Nat} {w : Nat → Nat} (H : wfl n w) (hh : h ≤ 8) (hbn : 8 * b + h ≤ n) {sz la pk cd al : Nat → Int32} {cu : Int32} (hcd : ∀ i, i < h → cd i = nI (cde w (8 * b + i))) (hp : ∀ nb, (∀ i, i < h → nb i = nI (w (8 * b + i))) → post 0 (sz, la, pk, nI h, cd, nb, al, cu)) : ∀ (m i : Nat) (nb : Nat → Int32), i + m = h → (∀ j, j < i → nb j = nI (w (8 * b + j))) → VX dX_unpack post 152 [] [some (.inr 0), none, none, none, none, none, some (.inl (bf w (8 * b + i))), some (.inl (nI i)), none, none] (sz, la, pk, nI h, cd, nb, al, cu) := by
  intro m
  induction m with
  | zero =>
    intro i nb hi hnb
    have e : i = h := by omega
    subst e
    refine sgX_unpack_152 ⟨fun hl => ?_, fun _ => hp nb hnb⟩
    rw [pd_lt (by omega) (by omega)] at hl
    omega
  | succ m ih =>
    intro i nb hi hnb
    refine sgX_unpack_152 ⟨fun _ => ⟨pd_in (by omega) (by omega), pd_in (by omega) (by omega), ?_⟩, fun hn => absurd ?_ hn⟩
    · rw [pd_cl (by omega), hcd i (by omega), bf_next H (by omega), nI_1]
      refine ih (i + 1) _ (by omega) (fun j hj => ?_)
      by_cases e : j = i
      · subst e
        exact pk_us
      · rw [pk_un e]
        exact hnb j (by omega)
    · rw [pd_lt (by omega) (by omega)]
      omega
theorem k_unpack {l b n : Nat} {w : Nat → Nat} (hl : l < 2) (hb : 8 * b < n) {sz la pk cd nb al : Nat → Int32} {hd cu : Int32} (H : RL n w l sz la pk) : CX yX0_unpack dX_unpack [nI l, nI b] (sz, la, pk, hd, cd, nb, al, cu) (fun _ S1 => ∃ cd1 nb1, S1 = (sz, la, pk, nI (hn n b), cd1, nb1, al, nI (bz w n b)) ∧ (∀ i, i < hn n b → cd1 i = nI (cde w (8 * b + i))) ∧ ∀ i, i < hn n b → nb1 i = nI (w (8 * b + i))) := by
  obtain ⟨Hw, Hs, Hb⟩ := H
  obtain ⟨-, E1, E2, E3, E4⟩ := Hb b hb
  have hB := bsb_le (cb w b) (hn n b)
  have hh8 := hn_8 n b
  have hh9 := hn_n (Nat.le_of_lt hb)
  have hc := cb_lt (b := b) Hw
  have hk : 8 * l + b < 16 := by have := Hw.1; omega
  have hnp := np_le (cb w b) (bsb (cb w b) (hn n b)) (hn n b)
  refine CX_of hyX_unpack (Nat.le_of_ble_eq_true rfl) (rok_v _) (sgX_unpack_0 ?_)
  rw [pd_k8]
  refine csX_unpack_11 (k_inBlock hl Hs Hw.1 hb) ?_
  rintro r S1 ⟨rfl, rfl⟩
  refine sgX_unpack_14 (csX_unpack_25 (k_get (n := 5) (c := 0) hk (by omega)) ?_)
  rintro r S1 ⟨rfl, rfl⟩
  rw [E1]
  refine sgX_unpack_28 (csX_unpack_33 (k_get (n := 4) (c := 0 + 5) hk (by omega)) ?_)
  rintro r S1 ⟨rfl, rfl⟩
  rw [show (0 + 5 : Nat) = 5 from rfl, E2]
  refine sgX_unpack_36 ?_
  have h0 := lp_unp2 (post := fun _ S1 => ∃ cd1 nb1, S1 = (sz, la, pk, nI (hn n b), cd1, nb1, al, nI (bz w n b)) ∧ (∀ i, i < hn n b → cd1 i = nI (cde w (8 * b + i))) ∧ ∀ i, i < hn n b → nb1 i = nI (w (8 * b + i))) (sz := sz) (la := la) (al := al) (nb := nb) (x2 := nI b) (x5 := nI (np (cb w b) (bsb (cb w b) (hn n b)) (hn n b))) hk (by omega) hB E3 (fun cd1 hcd1 => by
    have h1 := lp_unp3 (post := fun _ S1 => ∃ cd1 nb1, S1 = (sz, la, pk, nI (hn n b), cd1, nb1, al, nI (bz w n b)) ∧ (∀ i, i < hn n b → cd1 i = nI (cde w (8 * b + i))) ∧ ∀ i, i < hn n b → nb1 i = nI (w (8 * b + i))) (sz := sz) (la := la) (al := al) (nb := nb) (x2 := nI b) (bef := bf w (8 * b)) hk (by omega) hB hc (ps_bsb hc (by omega)) E4 ⟨fun h9 => ?_, fun h9 => ?_⟩ (fun cd2 hcd2 => ?_) (hn n b) 0 cd1 (by omega) (fun j hj => by rw [if_neg (Nat.not_lt_zero j)]; exact hcd1 j hj)
    · exact h1
    · rw [← nI_0, pd_eq (by omega) (by omega)] at h9
      subst h9
      rfl
    · rw [← nI_0, pd_eq (by omega) (by omega)] at h9
      have e : nI (8 * l + b) - 1 = nI (8 * l + (b - 1)) := by
        rw [show (1 : Int32) = nI 1 from rfl, pk_sub (by omega)]
        congr 1
        omega
      rw [e]
      refine ⟨pd_in (by omega) (by omega), ?_⟩
      rw [pd_cl (by omega), (Hb (b - 1) (by omega)).1]
      unfold bf
      rw [if_neg (by omega)]
      congr 2
      omega
    · have h2 := lp_unp4 (post := fun _ S1 => ∃ cd1 nb1, S1 = (sz, la, pk, nI (hn n b), cd1, nb1, al, nI (bz w n b)) ∧ (∀ i, i < hn n b → cd1 i = nI (cde w (8 * b + i))) ∧ ∀ i, i < hn n b → nb1 i = nI (w (8 * b + i))) (b := b) (h := hn n b) (sz := sz) (la := la) (pk := pk) (al := al) (cu := nI (bz w n b)) Hw (by omega) (by omega) hcd2 (fun nb2 hnb2 => ⟨cd2, nb2, rfl, hcd2, hnb2⟩) (hn n b) 0 nb (by omega) (fun j hj => absurd hj (Nat.not_lt_zero j))
      exact h2) (hn n b) 0 cd (by omega) (fun j hj => absurd hj (Nat.not_lt_zero j))
  rw [Nat.zero_mul] at h0
  exact h0
theorem k_lastNumber {l n : Nat} {w : Nat → Nat} (hl : l < 2) {sz la pk cd nb al : Nat → Int32} {hd cu : Int32} (H : RL n w l sz la pk) : CX yX0_lastNumber dX_lastNumber [nI l] (sz, la, pk, hd, cd, nb, al, cu) (fun r S1 => S1 = (sz, la, pk, hd, cd, nb, al, cu) ∧ r = bf w n) := by
  obtain ⟨Hw, Hs, Hb⟩ := H
  have h64 := Hw.1
  refine CX_of hyX_lastNumber (Nat.le_of_ble_eq_true rfl) (rok_i _) (sgX_lastNumber_0 (csX_lastNumber_2 (k_blockCount hl Hs Hw.1) ?_))
  rintro r S1 ⟨rfl, rfl⟩
  refine sgX_lastNumber_5 ⟨fun h0 => ⟨rfl, ?_⟩, fun h0 => ?_⟩
  · rw [← nI_0, pd_eq (by omega) (by omega)] at h0
    rw [show n = 0 by omega]
    rfl
  · rw [← nI_0, pd_eq (by omega) (by omega)] at h0
    rw [pd_k8, show (1 : Int32) = nI 1 from rfl, pk_sub (by omega), pd_cl (by omega)]
    refine ⟨pd_in (by omega) (by omega), rfl, ?_⟩
    rw [show 8 * l + (n + 7) / 8 - 1 = 8 * l + ((n + 7) / 8 - 1) by omega, (Hb ((n + 7) / 8 - 1) (by omega)).1]
    unfold bf
    rw [if_neg (by omega)]
    congr 2
    omega
end
section
/-! changing and searching a list -/
theorem up_s {α : Type} {f : Nat → α} {k : Nat} {x : α} : va_up f k x k = x := if_pos rfl
theorem up_n {α : Type} {f : Nat → α} {k j : Nat} {x : α} (h : j ≠ k) : va_up f k x j = f j := if_neg h
theorem RX_up {n : Nat → Nat} {v : Nat → Nat → Nat} {sz la pk sz1 la1 pk1 : Nat → Int32} {l n1 : Nat} {w1 : Nat → Nat} (H : RX n v sz la pk) (HL : RL n1 w1 l sz1 la1 pk1) (h1 : ∀ l1, l1 < 2 → l1 ≠ l → sz1 l1 = sz l1) (h2 : ∀ l1 b, l1 < 2 → l1 ≠ l → b < 8 → la1 (8 * l1 + b) = la (8 * l1 + b) ∧ bb pk1 (8 * l1 + b) = bb pk (8 * l1 + b)) : RX (va_up n l n1) (va_up v l w1) sz1 la1 pk1 := by
  intro l1 hl1
  by_cases e : l1 = l
  · subst e
    rw [up_s, up_s]
    exact HL
  · rw [up_n e, up_n e]
    obtain ⟨Hw, Hs, Hb⟩ := H l1 hl1
    refine ⟨Hw, (h1 l1 hl1 e).trans Hs, fun b hb => ?_⟩
    have h8 : b < 8 := by have := Hw.1; omega
    rw [(h2 l1 b hl1 e h8).1, (h2 l1 b hl1 e h8).2]
    exact Hb b hb
theorem gap_eq {n : Nat} {w : Nat → Nat} (H : wfl n w) {j : Nat} (hj : j < n) : nI (w j) - bf w j - 1 = nI (cde w j) := by
  unfold bf cde
  by_cases h : j = 0
  · subst h
    rw [if_pos rfl, if_pos rfl, Int32.sub_neg, Int32.add_sub_cancel]
  · rw [if_neg h, if_neg h]
    have := H.2.2 (j - 1) j (by omega) hj
    rw [pk_sub (by omega), show (1 : Int32) = nI 1 from rfl, pk_sub (by omega)]
theorem cde_cong {w w1 : Nat → Nat} {m : Nat} (h : ∀ i, i < m → w1 i = w i) {j : Nat} (hj : j < m) : cde w1 j = cde w j := by
  unfold cde
  by_cases e : j = 0
  · subst e
    rw [if_pos rfl, if_pos rfl, h 0 hj]
  · rw [if_neg e, if_neg e, h j hj, h (j - 1) (by omega)]
theorem bf_cong {w w1 : Nat → Nat} {m : Nat} (h : ∀ i, i < m → w1 i = w i) {j : Nat} (hj : j ≤ m) : bf w1 j = bf w j := by
  unfold bf
  by_cases e : j = 0
  · rw [if_pos e, if_pos e]
  · rw [if_neg e, if_neg e, h (j - 1) (by omega)]
theorem wfl_push {n x : Nat} {w : Nat → Nat} (H : wfl n w) (hx : x ≤ 1000000) (h64 : n < 64) (hg : ∀ i, i < n → w i < x) : wfl (n + 1) (va_up w n x) := by
  refine ⟨h64, fun i hi => ?_, fun i j hij hj => ?_⟩
  · by_cases e : i = n
    · subst e; rw [up_s]; exact hx
    · rw [up_n e]; exact H.2.1 i (by omega)
  · by_cases e : j = n
    · subst e; rw [up_s, up_n (by omega)]; exact hg i hij
    · rw [up_n e, up_n (by omega)]; exact H.2.2 i j hij (by omega)
/-- a block of the list that the change doesn't reach -/
theorem RL_old {n n1 l b : Nat} {w w1 : Nat → Nat} {sz la pk la1 pk1 : Nat → Int32} (H : RL n w l sz la pk) (h : ∀ i, i < 8 * b + 8 → w1 i = w i) (hn0 : 8 * b + 8 ≤ n) (hn1 : 8 * b + 8 ≤ n1) (h2 : la1 (8 * l + b) = la (8 * l + b)) (h3 : bb pk1 (8 * l + b) = bb pk (8 * l + b)) : la1 (8 * l + b) = nI (w1 (min (8 * b + 7) (n1 - 1))) ∧ Enc (bb pk1 (8 * l + b)) (hn n1 b) (cb w1 b) := by
  obtain ⟨g1, g2⟩ := H.2.2 b (by omega)
  rw [h2, h3, g1]
  have e1 : hn n b = 8 := Nat.min_eq_left (by omega)
  have e2 : hn n1 b = 8 := Nat.min_eq_left (by omega)
  rw [e1] at g2
  rw [e2]
  refine ⟨?_, Enc_cong (fun i hi => (cde_cong h (by omega)).symm) g2⟩
  rw [Nat.min_eq_left (by omega), Nat.min_eq_left (by omega), h _ (by omega)]
theorem lp_attach {post : Int32 → SX → Prop} {n : Nat → Nat} {v : Nat → Nat → Nat} {l x : Nat} (hl : l < 2) {sz la pk cd nb al : Nat → Int32} {cu : Int32} (H : RX n v sz la pk) (hx : x ≤ 1000000) (h64 : n l < 64) (hg : ∀ i, i < n l → v l i < x) (hcd : ∀ i, i < n l % 8 → cd i = nI (cde (v l) (8 * (n l / 8) + i))) (hp : ∀ sz1 la1 pk1 hd1 cd1 cu1, RX (va_up n l (n l + 1)) (va_up v l (va_up (v l) (n l) x)) sz1 la1 pk1 → post 0 (sz1, la1, pk1, hd1, cd1, nb, al, cu1)) : VX dX_attach post 47 [] [some (.inr 0), some (.inl (nI l)), some (.inl (nI x)), some (.inl (nI (cde (va_up (v l) (n l) x) (n l)))), some (.inl (nI (n l / 8)))] (sz, la, pk, nI (n l % 8), cd, nb, al, cu) := by
  have Hl := H l hl
  have Hw1 := wfl_push Hl.1 hx h64 hg
  have hold : ∀ i, i < n l → va_up (v l) (n l) x i = v l i := fun i hi => up_n (by omega)
  have hh : hn (n l + 1) (n l / 8) = n l % 8 + 1 := by
    show min 8 (n l + 1 - 8 * (n l / 8)) = _
    omega
  refine sgX_attach_47 ⟨pd_in (by omega) (by omega), pd_in hl (by omega), pd_in hl (by omega), ?_⟩
  rw [pd_k8, pd_cl (by omega), pd_cl (by omega), Hl.2.1, nI_1, nI_1]
  have hc := cb_lt (b := n l / 8) Hw1
  rw [hh] at hc
  refine csX_attach_89 (k_pack (h := n l % 8 + 1) (c := cb (va_up (v l) (n l) x) (n l / 8)) (by omega) (by omega) hc (fun i hi => ?_)) ?_
  · by_cases e : i = n l % 8
    · rw [e, pk_us]
      show _ = nI (cde _ (8 * (n l / 8) + n l % 8))
      rw [Nat.div_add_mod]
    · rw [pk_un e, hcd i (by omega)]
      show _ = nI (cde _ (8 * (n l / 8) + i))
      rw [cde_cong hold (by omega)]
  · rintro r S1 ⟨pk1, cu1, rfl, hot, hen⟩
    refine sgX_attach_92 ?_
    rw [pd_k8, pd_cl (by omega)]
    refine ⟨pd_in (by omega) (by omega), hp _ _ _ _ _ _ ?_⟩
    refine RX_up H ⟨Hw1, pk_us, fun b hb => ?_⟩ (fun l1 hl1 e => pk_un e) (fun l1 b hl1 e hb => ⟨pk_un (by omega), hot _ (by omega)⟩)
    by_cases e : b = n l / 8
    · subst e
      rw [pk_us, hh]
      refine ⟨?_, hen⟩
      rw [show min (8 * (n l / 8) + 7) (n l + 1 - 1) = n l by omega, up_s]
    · exact RL_old Hl (fun i hi => hold i (by omega)) (by omega) (by omega) (pk_un (by omega)) (hot _ (by omega))
theorem k_attach {n : Nat → Nat} {v : Nat → Nat → Nat} {l x : Nat} (hl : l < 2) {sz la pk cd nb al : Nat → Int32} {hd cu : Int32} (H : RX n v sz la pk) (hx : x ≤ 1000000) (h64 : n l < 64) (hg : ∀ i, i < n l → v l i < x) : CX yX0_attach dX_attach [nI l, nI x] (sz, la, pk, hd, cd, nb, al, cu) (fun _ S1 => ∃ sz1 la1 pk1 hd1 cd1 nb1 cu1, S1 = (sz1, la1, pk1, hd1, cd1, nb1, al, cu1) ∧ RX (va_up n l (n l + 1)) (va_up v l (va_up (v l) (n l) x)) sz1 la1 pk1) := by
  have Hl := H l hl
  have Hw1 := wfl_push Hl.1 hx h64 hg
  have hold : ∀ i, i < n l → va_up (v l) (n l) x i = v l i := fun i hi => up_n (by omega)
  refine CX_of hyX_attach (Nat.le_of_ble_eq_true rfl) (rok_v _) (sgX_attach_0 (csX_attach_3 (k_lastNumber hl Hl) ?_))
  rintro r S1 ⟨rfl, rfl⟩
  have hgap := gap_eq Hw1 (j := n l) (by omega)
  rw [up_s, bf_cong hold (Nat.le_refl _)] at hgap
  refine sgX_attach_6 ?_
  rw [hgap, pd_cl (by omega), Hl.2.1, pd_shr3 (by omega), pd_and7]
  refine ⟨pd_in hl (by omega), pd_in hl (by omega), fun h0 => ?_, fun h0 => ?_⟩
  · rw [← nI_0, pd_eq (by omega) (by omega)] at h0
    have h1 := lp_attach (post := fun _ S1 => ∃ sz1 la1 pk1 hd1 cd1 nb1 cu1, S1 = (sz1, la1, pk1, hd1, cd1, nb1, al, cu1) ∧ RX (va_up n l (n l + 1)) (va_up v l (va_up (v l) (n l) x)) sz1 la1 pk1) (cd := cd) (nb := nb) (al := al) (cu := cu) hl H hx h64 hg (fun i hi => by omega) (fun sz1 la1 pk1 hd1 cd1 cu1 h => ⟨sz1, la1, pk1, hd1, cd1, nb, cu1, rfl, h⟩)
    rw [h0] at h1
    exact h1
  · rw [← nI_0, pd_eq (by omega) (by omega)] at h0
    have hh : hn (n l) (n l / 8) = n l % 8 := by
      show min 8 (n l - 8 * (n l / 8)) = _
      omega
    refine csX_attach_44 (k_unpack (b := n l / 8) hl (by omega) Hl) ?_
    rintro r S1 ⟨cd1, nb1, rfl, hcd1, -⟩
    rw [hh] at hcd1 ⊢
    exact lp_attach hl H hx h64 hg hcd1 (fun sz1 la1 pk1 hd1 cd1 cu1 h => ⟨sz1, la1, pk1, hd1, cd1, nb1, cu1, rfl, h⟩)
/-! laying a list out -/
theorem lp_spread2 {post : Int32 → SX → Prop} {l n b h : Nat} {w : Nat → Nat} (hb : 8 * b + h ≤ 64) (hh : h ≤ 8) {sz la pk cd nb : Nat → Int32} {cu x2 : Int32} (hnb : ∀ i, i < h → nb i = nI (w (8 * b + i))) (hp : ∀ al, (∀ i, i < 8 * b + h → al i = nI (w i)) → VX dX_spread post 8 [] [some (.inr 0), some (.inl (nI l)), some (.inl x2), some (.inl (nI (b + 1))), none] (sz, la, pk, nI h, cd, nb, al, cu)) : ∀ (m i : Nat) (al : Nat → Int32), i + m = h → (∀ j, j < 8 * b + i → al j = nI (w j)) → VX dX_spread post 22 [] [some (.inr 0), some (.inl (nI l)), some (.inl x2), some (.inl (nI b)), some (.inl (nI i))] (sz, la, pk, nI h, cd, nb, al, cu) := by
  intro m
  induction m with
  | zero =>
    intro i al hi hal
    have e : i = h := by omega
    subst e
    refine sgX_spread_22 ⟨fun hl => ?_, fun _ => ?_⟩
    · rw [pd_lt (by omega) (by omega)] at hl
      omega
    · rw [nI_1]
      exact hp al hal
  | succ m ih =>
    intro i al hi hal
    refine sgX_spread_22 ⟨fun _ => ?_, fun hn => absurd ?_ hn⟩
    · rw [pd_k8, pd_cl (by omega), pd_cl (by omega), hnb i (by omega), nI_1]
      refine ⟨pd_in (by omega) (by omega), pd_in (by omega) (by omega), ih (i + 1) _ (by omega) (fun j hj => ?_)⟩
      by_cases e : j = 8 * b + i
      · rw [e, pk_us]
      · rw [pk_un e]
        exact hal j (by omega)
    · rw [pd_lt (by omega) (by omega)]
      omega
theorem lp_spread {post : Int32 → SX → Prop} {l n : Nat} {w : Nat → Nat} (hl : l < 2) {sz la pk : Nat → Int32} (H : RL n w l sz la pk) (hp : ∀ hd cd nb al cu, (∀ i, i < n → al i = nI (w i)) → post 0 (sz, la, pk, hd, cd, nb, al, cu)) : ∀ (m b : Nat) (hd : Int32) (cd nb al : Nat → Int32) (cu : Int32), b + m = (n + 7) / 8 → (∀ j, j < 8 * b → j < n → al j = nI (w j)) → VX dX_spread post 8 [] [some (.inr 0), some (.inl (nI l)), some (.inl (nI ((n + 7) / 8))), some (.inl (nI b)), none] (sz, la, pk, hd, cd, nb, al, cu) := by
  have h64 := H.1.1
  intro m
  induction m with
  | zero =>
    intro b hd cd nb al cu hb hal
    refine sgX_spread_8 ⟨fun hlt => ?_, fun _ => hp _ _ _ _ _ (fun i hi => hal i (by omega) hi)⟩
    rw [pd_lt (by omega) (by omega)] at hlt
    omega
  | succ m ih =>
    intro b hd cd nb al cu hb hal
    have h8 := hn_8 n b
    have h9 := hn_n (n := n) (b := b) (by omega)
    refine sgX_spread_8 ⟨fun _ => ?_, fun hn => absurd ?_ hn⟩
    · refine csX_spread_16 (k_unpack (b := b) hl (by omega) H) ?_
      rintro r S1 ⟨cd1, nb1, rfl, -, hnb⟩
      refine sgX_spread_19 (lp_spread2 (n := n) (w := w) (by omega) h8 hnb (fun al1 hal1 => ?_) (hn n b) 0 al (by omega) (fun j hj => hal j (by omega) (by omega)))
      refine ih (b + 1) _ _ _ _ _ (by omega) (fun j hj hjn => hal1 j ?_)
      show j < 8 * b + min 8 (n - 8 * b)
      omega
    · rw [pd_lt (by omega) (by omega)]
      omega
theorem k_spread {l n : Nat} {w : Nat → Nat} (hl : l < 2) {sz la pk cd nb al : Nat → Int32} {hd cu : Int32} (H : RL n w l sz la pk) : CX yX0_spread dX_spread [nI l] (sz, la, pk, hd, cd, nb, al, cu) (fun _ S1 => ∃ hd1 cd1 nb1 al1 cu1, S1 = (sz, la, pk, hd1, cd1, nb1, al1, cu1) ∧ ∀ i, i < n → al1 i = nI (w i)) := by
  refine CX_of hyX_spread (Nat.le_of_ble_eq_true rfl) (rok_v _) (sgX_spread_0 (csX_spread_2 (k_blockCount hl H.2.1 H.1.1) ?_))
  rintro r S1 ⟨rfl, rfl⟩
  exact sgX_spread_5 (lp_spread hl H (fun hd cd nb al cu h => ⟨hd, cd, nb, al, cu, rfl, h⟩) ((n + 7) / 8) 0 _ _ _ _ _ (by omega) (fun j hj => by omega))
/-! building a list anew -/
theorem lp_reb2 {post : Int32 → SX → Prop} {l n b h : Nat} {w : Nat → Nat} (Hw : wfl n w) (hb : 8 * b + h ≤ n) (hh : h ≤ 8) {sz la pk nb al : Nat → Int32} {cu x4 : Int32} (hal : ∀ i, i < n → al i = nI (w i)) (hp : ∀ cd, (∀ i, i < h → cd i = nI (cde w (8 * b + i))) → VX dX_rebuild post 126 [.inl (nI l * 8 + nI b), .inr 0] [some (.inr 0), some (.inl (nI l)), none, none, some (.inl x4), some (.inl (nI b)), some (.inl (bf w (8 * b + h))), none] (sz, la, pk, nI h, cd, nb, al, cu)) : ∀ (m i : Nat) (cd : Nat → Int32), i + m = h → (∀ j, j < i → cd j = nI (cde w (8 * b + j))) → VX dX_rebuild post 63 [] [some (.inr 0), some (.inl (nI l)), none, none, some (.inl x4), some (.inl (nI b)), some (.inl (bf w (8 * b + i))), some (.inl (nI i))] (sz, la, pk, nI h, cd, nb, al, cu) := by
  have h64 := Hw.1
  intro m
  induction m with
  | zero =>
    intro i cd hi hcd
    have e : i = h := by omega
    subst e
    refine sgX_rebuild_63 ⟨fun hl => ?_, fun _ => hp cd hcd⟩
    rw [pd_lt (by omega) (by omega)] at hl
    omega
  | succ m ih =>
    intro i cd hi hcd
    refine sgX_rebuild_63 ⟨fun _ => ?_, fun hn => absurd ?_ hn⟩
    · rw [pd_k8, pd_cl (by omega), pd_cl (by omega), hal (8 * b + i) (by omega), gap_eq Hw (by omega), nI_1]
      refine ⟨pd_in (by omega) (by omega), pd_in (by omega) (by omega), pd_in (by omega) (by omega), ih (i + 1) _ (by omega) (fun j hj => ?_)⟩
      by_cases e : j = i
      · rw [e, pk_us]
      · rw [pk_un e]
        exact hcd j (by omega)
    · rw [pd_lt (by omega) (by omega)]
      omega
theorem lp_reb {post : Int32 → SX → Prop} {l n : Nat} {w : Nat → Nat} (hl : l < 2) (Hw : wfl n w) {sz la0 pk0 nb al : Nat → Int32} (hs : sz l = nI n) (hal : ∀ i, i < n → al i = nI (w i)) (hp : ∀ la pk hd cd cu, RL n w l sz la pk → (∀ l1 b, l1 < 2 → l1 ≠ l → b < 8 → la (8 * l1 + b) = la0 (8 * l1 + b) ∧ bb pk (8 * l1 + b) = bb pk0 (8 * l1 + b)) → post 0 (sz, la, pk, hd, cd, nb, al, cu)) : ∀ (m b : Nat) (la pk cd : Nat → Int32) (hd cu : Int32), b + m = (n + 7) / 8 → (∀ b1, b1 < b → 8 * b1 < n → la (8 * l + b1) = nI (w (min (8 * b1 + 7) (n - 1))) ∧ Enc (bb pk (8 * l + b1)) (hn n b1) (cb w b1)) → (∀ l1 b, l1 < 2 → l1 ≠ l → b < 8 → la (8 * l1 + b) = la0 (8 * l1 + b) ∧ bb pk (8 * l1 + b) = bb pk0 (8 * l1 + b)) → VX dX_rebuild post 19 [] [some (.inr 0), some (.inl (nI l)), none, none, some (.inl (nI ((n + 7) / 8))), some (.inl (nI b)), none, none] (sz, la, pk, hd, cd, nb, al, cu) := by
  have h64 := Hw.1
  intro m
  induction m with
  | zero =>
    intro b la pk cd hd cu hb H1 H2
    refine sgX_rebuild_19 ⟨fun hlt => ?_, fun _ => hp _ _ _ _ _ ⟨Hw, hs, fun b1 hb1 => H1 b1 (by omega) hb1⟩ H2⟩
    rw [pd_lt (by omega) (by omega)] at hlt
    omega
  | succ m ih =>
    intro b la pk cd hd cu hb H1 H2
    have h8 := hn_8 n b
    have h9 := hn_n (n := n) (b := b) (by omega)
    have hpos : 0 < hn n b := by
      show 0 < min 8 (n - 8 * b)
      omega
    have hc := cb_lt (b := b) Hw
    refine sgX_rebuild_19 ⟨fun _ => ?_, fun hn => absurd ?_ hn⟩
    · refine csX_rebuild_31 (k_inBlock hl hs h64 (by omega)) ?_
      rintro r S1 ⟨rfl, rfl⟩
      have main : VX dX_rebuild post 63 [] [some (.inr 0), some (.inl (nI l)), none, none, some (.inl (nI ((n + 7) / 8))), some (.inl (nI b)), some (.inl (bf w (8 * b))), some (.inl 0)] (sz, la, pk, nI (hn n b), cd, nb, al, cu) := by
        have h0 := lp_reb2 (post := post) (l := l) (b := b) (h := hn n b) (sz := sz) (la := la) (pk := pk) (nb := nb) (cu := cu) (x4 := nI ((n + 7) / 8)) Hw h9 h8 hal (fun cd1 hcd1 => ?_) (hn n b) 0 cd (by omega) (fun j hj => absurd hj (Nat.not_lt_zero j))
        · exact h0
        · rw [pd_k8]
          refine csX_rebuild_126 (k_pack (h := hn n b) (c := cb w b) (by omega) h8 hc hcd1) ?_
          rintro r S1 ⟨pk1, cu1, rfl, hot, hen⟩
          refine sgX_rebuild_129 ?_
          rw [pd_k8, pd_cl (by omega), nI_1]
          refine ⟨pd_in (by omega) (by omega), ih (b + 1) _ _ _ _ _ (by omega) (fun b1 hb1 hb2 => ?_) (fun l1 b1 g1 g2 g3 => ?_)⟩
          · by_cases e : b1 = b
            · subst e
              rw [pk_us]
              refine ⟨?_, hen⟩
              have e9 : 8 * b1 + hn n b1 = min (8 * b1 + 7) (n - 1) + 1 := by
                show 8 * b1 + min 8 (n - 8 * b1) = _
                omega
              rw [e9, bf_s]
            · rw [pk_un (by omega), hot _ (by omega)]
              exact H1 b1 (by omega) hb2
          · rw [pk_un (by omega), hot _ (by omega)]
            exact H2 l1 b1 g1 g2 g3
      refine sgX_rebuild_34 ⟨fun h0 => ?_, fun h0 => ?_⟩
      · rw [← nI_0, pd_eq (by omega) (by omega)] at h0
        subst h0
        exact main
      · rw [← nI_0, pd_eq (by omega) (by omega)] at h0
        have e : nI b * 8 - 1 = nI (8 * b - 1) := by
          rw [show (8 : Int32) = nI 8 from rfl, pk_mul, show (1 : Int32) = nI 1 from rfl, pk_sub (by omega), Nat.mul_comm]
        have e2 : bf w (8 * b) = nI (w (8 * b - 1)) := by
          unfold bf
          rw [if_neg (by omega)]
        rw [e, pd_cl (by omega), hal _ (by omega), ← e2]
        exact ⟨pd_in (by omega) (by omega), main⟩
    · rw [pd_lt (by omega) (by omega)]
      omega
theorem k_rebuild {n : Nat → Nat} {v : Nat → Nat → Nat} {l n1 fr : Nat} {w1 : Nat → Nat} (hl : l < 2) {sz la pk cd nb al : Nat → Int32} {hd cu : Int32} (H : RX n v sz la pk) (Hw : wfl n1 w1) (hal : ∀ i, i < n1 → al i = nI (w1 i)) (hf1 : fr ≤ n l) (hf2 : fr ≤ n1) (hw : ∀ i, i < fr → w1 i = v l i) : CX yX0_rebuild dX_rebuild [nI l, nI n1, nI fr] (sz, la, pk, hd, cd, nb, al, cu) (fun _ S1 => ∃ sz1 la1 pk1 hd1 cd1 cu1, S1 = (sz1, la1, pk1, hd1, cd1, nb, al, cu1) ∧ RX (va_up n l n1) (va_up v l w1) sz1 la1 pk1) := by
  have h64 := Hw.1
  refine CX_of hyX_rebuild (Nat.le_of_ble_eq_true rfl) (rok_v _) (sgX_rebuild_0 ⟨pd_in hl (by omega), ?_⟩)
  rw [pd_cl (by omega)]
  refine csX_rebuild_9 (k_blockCount hl pk_us h64) ?_
  rintro r S1 ⟨rfl, rfl⟩
  refine sgX_rebuild_12 ?_
  rw [pd_shr3 (by omega)]
  refine lp_reb (la0 := la) (pk0 := pk) hl Hw pk_us hal (fun la1 pk1 hd1 cd1 cu1 HL ho => ⟨_, la1, pk1, hd1, cd1, cu1, rfl, RX_up H HL (fun l1 _ e => pk_un e) ho⟩) ((n1 + 7) / 8 - fr / 8) (fr / 8) la pk cd hd cu (by omega) (fun b1 hb1 hb2 => ?_) (fun l1 b h1 h2 h3 => ⟨rfl, rfl⟩)
  exact RL_old (b := b1) (H l hl) (fun i hi => hw i (by omega)) (by omega) (by omega) rfl rfl
end
section
/-! searching -/
def isRk (w : Nat → Nat) (n : Nat) (x : Int32) (p : Nat) : Prop := p ≤ n ∧ (∀ i, i < p → nI (w i) < x) ∧ ∀ i, p ≤ i → i < n → ¬ nI (w i) < x
def rk (w : Nat → Nat) (n : Nat) (x : Int32) : Nat := fa_first (fun i => decide (¬ nI (w i) < x)) n
theorem wfl_le {n : Nat} {w : Nat → Nat} (H : wfl n w) {i j : Nat} (hij : i ≤ j) (hj : j < n) : w i ≤ w j := by
  by_cases e : i = j
  · subst e; exact Nat.le_refl _
  · exact Nat.le_of_lt (H.2.2 i j (by omega) hj)
theorem lt_mono {a b : Nat} {x : Int32} (hab : a ≤ b) (hb : b ≤ 1000000) (h : nI b < x) : nI a < x := by
  rw [Int32.lt_iff_toInt_lt, pd_ti (by omega)] at h ⊢
  omega
theorem rk_is {n : Nat} {w : Nat → Nat} (H : wfl n w) (x : Int32) : isRk w n x (rk w n x) := by
  refine ⟨fa_first_le _ _, fun i hi => ?_, fun i hi hin => ?_⟩
  · have := fa_first_no _ n i hi
    exact Classical.not_not.mp (of_decide_eq_false this)
  · have h1 := of_decide_eq_true (fa_first_yes _ n (Nat.lt_of_le_of_lt hi hin))
    exact fun h => h1 (lt_mono (wfl_le H hi hin) (H.2.1 i hin) h)
theorem rk_eq {n p : Nat} {w : Nat → Nat} (H : wfl n w) {x : Int32} (h : isRk w n x p) : p = rk w n x := by
  have h2 := rk_is H x
  rcases Nat.lt_trichotomy p (rk w n x) with g | g | g
  · exact absurd (h2.2.1 p g) (h.2.2 p (Nat.le_refl p) (Nat.lt_of_lt_of_le g h2.1))
  · exact g
  · exact absurd (h.2.1 _ g) (h2.2.2 _ (Nat.le_refl _) (Nat.lt_of_lt_of_le g h.1))
/-- x is in the list -/
abbrev inn (w : Nat → Nat) (n : Nat) (x : Int32) : Prop := rk w n x < n ∧ nI (w (rk w n x)) = x
theorem inn_iff {n : Nat} {w : Nat → Nat} (H : wfl n w) (x : Int32) : inn w n x ↔ ∃ i, i < n ∧ nI (w i) = x := by
  constructor
  · intro h
    exact ⟨_, h.1, h.2⟩
  · rintro ⟨i, hi, rfl⟩
    have h2 := rk_is H (nI (w i))
    have h3 := H.2.1 i hi
    have h4 : i = rk w n (nI (w i)) := rk_eq H ⟨by omega, fun j hj => by
      have := H.2.2 j i hj hi
      rw [pd_lt (by omega) (by omega)]
      exact this, fun j hj hjn => by
      have := wfl_le H hj hjn
      have := H.2.1 j hjn
      rw [pd_lt (by omega) (by omega)]
      omega⟩
    refine ⟨by omega, ?_⟩
    rw [← h4]
theorem k_numberAt {l n i : Nat} {w : Nat → Nat} (hl : l < 2) (hi : i < n) {sz la pk cd nb al : Nat → Int32} {hd cu : Int32} (H : RL n w l sz la pk) : CX yX0_numberAt dX_numberAt [nI l, nI i] (sz, la, pk, hd, cd, nb, al, cu) (fun r S1 => r = nI (w i) ∧ ∃ hd1 cd1 nb1 cu1, S1 = (sz, la, pk, hd1, cd1, nb1, al, cu1)) := by
  have h64 := H.1.1
  refine CX_of hyX_numberAt (Nat.le_of_ble_eq_true rfl) (rok_i _) (sgX_numberAt_0 ?_)
  rw [pd_shr3 (by omega)]
  refine csX_numberAt_5 (k_unpack (b := i / 8) hl (by omega) H) ?_
  rintro r S1 ⟨cd1, nb1, rfl, -, hnb⟩
  refine sgX_numberAt_8 ?_
  rw [pd_and7, pd_cl (by omega), hnb (i % 8) (by show i % 8 < min 8 (n - 8 * (i / 8)); omega), Nat.div_add_mod]
  exact ⟨pd_in (by omega) (by omega), rfl, _, _, _, _, rfl⟩
/-- the last number of block b -/
abbrev lst (w : Nat → Nat) (n b : Nat) : Nat := w (min (8 * b + 7) (n - 1))
def isB (w : Nat → Nat) (n : Nat) (x : Int32) (p : Nat) : Prop := p ≤ (n + 7) / 8 ∧ (∀ b, b < p → nI (lst w n b) < x) ∧ ∀ b, p ≤ b → b < (n + 7) / 8 → ¬ nI (lst w n b) < x
theorem lst_le {n : Nat} {w : Nat → Nat} (H : wfl n w) {a b : Nat} (hab : a ≤ b) (hb : b < (n + 7) / 8) : lst w n a ≤ lst w n b := wfl_le H (by omega) (by omega)
theorem lp_blockFrom {post : Int32 → SX → Prop} {l n : Nat} {w : Nat → Nat} {x : Int32} (hl : l < 2) {sz la pk cd nb al : Nat → Int32} {hd cu : Int32} (H : RL n w l sz la pk) (hp : ∀ p, isB w n x p → post (nI p) (sz, la, pk, hd, cd, nb, al, cu)) : ∀ (m i lo hi : Nat), i + m = 4 → lo ≤ hi → hi ≤ (n + 7) / 8 → hi - lo < 2 ^ m → (∀ b, b < lo → nI (lst w n b) < x) → (∀ b, hi ≤ b → b < (n + 7) / 8 → ¬ nI (lst w n b) < x) → VX dX_blockFrom post 12 [] [some (.inr 0), some (.inl (nI l)), some (.inl x), some (.inl (nI lo)), some (.inl (nI hi)), some (.inl (nI i)), none] (sz, la, pk, hd, cd, nb, al, cu) := by
  obtain ⟨Hw, Hs, Hb⟩ := H
  have h64 := Hw.1
  intro m
  induction m with
  | zero =>
    intro i lo hi him h1 h2 h3 h4 h5
    have e : hi = lo := by omega
    subst e
    have hpp := hp hi ⟨h2, h4, h5⟩
    refine sgX_blockFrom_12 ⟨fun _ => ⟨fun h => ?_, fun _ => hpp⟩, fun _ => hpp⟩
    rw [pd_lt (by omega) (by omega)] at h
    omega
  | succ m ih =>
    intro i lo hi him h1 h2 h3 h4 h5
    rw [Nat.pow_succ] at h3
    refine sgX_blockFrom_12 ⟨fun _ => ⟨fun h => ?_, fun h => ?_⟩, fun h => absurd ?_ h⟩
    · rw [pd_lt (by omega) (by omega)] at h
      have hmid : (lo + hi) / 2 < (n + 7) / 8 := by omega
      rw [nI_add, pd_shr1 (by omega), pd_k8, pd_cl (by omega), (Hb ((lo + hi) / 2) (by omega)).1, nI_1, nI_1]
      refine ⟨pd_in (by omega) (by omega), fun g => ?_, fun g => ?_⟩
      · refine ih (i + 1) _ hi (by omega) (by omega) h2 (by omega) (fun b hb => ?_) h5
        exact lt_mono (lst_le Hw (by omega) hmid) (Hw.2.1 _ (by omega)) g
      · refine ih (i + 1) lo _ (by omega) (by omega) (by omega) (by omega) h4 (fun b hb hb2 => ?_)
        exact fun z => g (lt_mono (lst_le Hw hb hb2) (Hw.2.1 _ (by omega)) z)
    · rw [pd_lt (by omega) (by omega)] at h
      have e : hi = lo := by omega
      subst e
      exact hp hi ⟨h2, h4, h5⟩
    · rw [show (5 : Int32) = nI 5 from rfl, pd_lt (by omega) (by omega)]
      omega
theorem k_blockFrom {l n : Nat} {w : Nat → Nat} {x : Int32} (hl : l < 2) {sz la pk cd nb al : Nat → Int32} {hd cu : Int32} (H : RL n w l sz la pk) : CX yX0_blockFrom dX_blockFrom [nI l, x] (sz, la, pk, hd, cd, nb, al, cu) (fun r S1 => S1 = (sz, la, pk, hd, cd, nb, al, cu) ∧ ∃ p, r = nI p ∧ isB w n x p) := by
  have h64 := H.1.1
  refine CX_of hyX_blockFrom (Nat.le_of_ble_eq_true rfl) (rok_i _) (sgX_blockFrom_0 (csX_blockFrom_4 (k_blockCount hl H.2.1 H.1.1) ?_))
  rintro r S1 ⟨rfl, rfl⟩
  exact sgX_blockFrom_7 (lp_blockFrom hl H (fun p hp => ⟨rfl, p, rfl, hp⟩) 4 0 0 _ (by omega) (by omega) (Nat.le_refl _) (by omega) (fun b hb => by omega) (fun b h1 h2 => by omega))
theorem lp_firstFrom {post : Int32 → SX → Prop} {n p h : Nat} {w : Nat → Nat} {x : Int32} {sz la pk cd nb al : Nat → Int32} {cu : Int32} (hh : h ≤ 8) (hp8 : p < 8) (hnb : ∀ i, i < h → nb i = nI (w (8 * p + i))) (hlast : 0 < h ∧ ¬ nI (w (8 * p + (h - 1))) < x) (hp : ∀ i, i < h → (∀ j, j < i → nI (w (8 * p + j)) < x) → ¬ nI (w (8 * p + i)) < x → post (nI (8 * p + i)) (sz, la, pk, nI h, cd, nb, al, cu)) : ∀ (m i : Nat), i + m = h → 0 < m → (∀ j, j < i → nI (w (8 * p + j)) < x) → VX dX_firstFrom post 39 [] [some (.inr 0), none, some (.inl x), some (.inl (nI p)), none, some (.inl (nI i)), some (.inl (nI i))] (sz, la, pk, nI h, cd, nb, al, cu) := by
  intro m
  induction m with
  | zero =>
    intro i hi h0
    exact absurd h0 (Nat.lt_irrefl 0)
  | succ m ih =>
    intro i hi _ hlt
    refine sgX_firstFrom_39 ⟨fun _ => ⟨fun _ => ?_, fun hn => absurd ?_ hn⟩, fun hn => absurd ?_ hn⟩
    · rw [pd_k8, pd_cl (by omega), hnb i (by omega), nI_1]
      refine ⟨pd_in (by omega) (by omega), fun g => ?_, fun g => hp i (by omega) hlt g⟩
      by_cases e : m = 0
      · exact absurd g (by rw [show i = h - 1 by omega]; exact hlast.2)
      · refine ih (i + 1) (by omega) (by omega) (fun j hj => ?_)
        by_cases e2 : j = i
        · subst e2; exact g
        · exact hlt j (by omega)
    · rw [pd_lt (by omega) (by omega)]
      omega
    · rw [show (8 : Int32) = nI 8 from rfl, pd_lt (by omega) (by omega)]
      omega
theorem k_firstFrom {l n : Nat} {w : Nat → Nat} {x : Int32} (hl : l < 2) {sz la pk cd nb al : Nat → Int32} {hd cu : Int32} (H : RL n w l sz la pk) : CX yX0_firstFrom dX_firstFrom [nI l, x] (sz, la, pk, hd, cd, nb, al, cu) (fun r S1 => r = nI (rk w n x) ∧ ∃ hd1 cd1 nb1 cu1, S1 = (sz, la, pk, hd1, cd1, nb1, al, cu1) ∧ (rk w n x < n → nb1 (rk w n x % 8) = nI (w (rk w n x)))) := by
  have Hw := H.1
  have h64 := H.1.1
  refine CX_of hyX_firstFrom (Nat.le_of_ble_eq_true rfl) (rok_i _) (sgX_firstFrom_0 (csX_firstFrom_3 (k_blockFrom hl H) ?_))
  rintro r S1 ⟨rfl, p, rfl, hB⟩
  refine sgX_firstFrom_6 (csX_firstFrom_9 (k_blockCount hl H.2.1 H.1.1) ?_)
  rintro r S1 ⟨rfl, rfl⟩
  obtain ⟨b1, b2, b3⟩ := hB
  refine sgX_firstFrom_12 ⟨fun h0 => ⟨pd_in hl (by omega), ?_⟩, fun h0 => ?_⟩
  · rw [pd_eq (by omega) (by omega)] at h0
    have e : n = rk w n x := rk_eq Hw ⟨Nat.le_refl n, fun i hi => lt_mono (wfl_le Hw (by omega) (by omega)) (Hw.2.1 _ (by omega)) (b2 (i / 8) (by omega)), fun i h1 h2 => by omega⟩
    rw [pd_cl (by omega), H.2.1, ← e]
    exact ⟨rfl, _, _, _, _, rfl, fun h => by omega⟩
  · rw [pd_eq (by omega) (by omega)] at h0
    have hp : 8 * p < n := by omega
    have h8 := hn_8 n p
    have h9 := hn_n (Nat.le_of_lt hp)
    have hpos : 0 < hn n p := by
      show 0 < min 8 (n - 8 * p)
      omega
    refine csX_firstFrom_30 (k_unpack (b := p) hl hp H) ?_
    rintro r S1 ⟨cd1, nb1, rfl, -, hnb⟩
    refine sgX_firstFrom_33 (lp_firstFrom (n := n) (w := w) h8 (by omega) hnb ⟨hpos, ?_⟩ (fun i hi hlt hge => ?_) (hn n p) 0 (by omega) hpos (fun j hj => by omega))
    · have := b3 p (Nat.le_refl p) (by omega)
      rw [show 8 * p + (hn n p - 1) = min (8 * p + 7) (n - 1) by show 8 * p + (min 8 (n - 8 * p) - 1) = _; omega]
      exact this
    · have e : 8 * p + i = rk w n x := by
        refine rk_eq Hw ⟨by omega, fun j hj => ?_, fun j h1 h2 => ?_⟩
        · by_cases e2 : j < 8 * p
          · exact lt_mono (wfl_le Hw (by omega) (by omega)) (Hw.2.1 _ (by omega)) (b2 (j / 8) (by omega))
          · have := hlt (j - 8 * p) (by omega)
            rw [show 8 * p + (j - 8 * p) = j by omega] at this
            exact this
        · exact fun z => hge (lt_mono (wfl_le Hw h1 h2) (Hw.2.1 j h2) z)
      rw [← e]
      refine ⟨rfl, _, _, _, _, rfl, fun _ => ?_⟩
      rw [show (8 * p + i) % 8 = i by omega]
      exact hnb i hi
theorem wfl_cong {n : Nat} {w w1 : Nat → Nat} (h : ∀ i, i < n → w1 i = w i) (H : wfl n w) : wfl n w1 := ⟨H.1, fun i hi => by rw [h i hi]; exact H.2.1 i hi, fun i j hij hj => by rw [h i (by omega), h j hj]; exact H.2.2 i j hij hj⟩
theorem RL_cong {n l : Nat} {w w1 : Nat → Nat} {sz la pk : Nat → Int32} (h : ∀ i, i < n → w1 i = w i) (H : RL n w l sz la pk) : RL n w1 l sz la pk := by
  obtain ⟨Hw, Hs, Hb⟩ := H
  refine ⟨wfl_cong h Hw, Hs, fun b hb => ?_⟩
  obtain ⟨g1, g2⟩ := Hb b hb
  refine ⟨?_, Enc_cong (fun i hi => (cde_cong h (hn_in hi)).symm) g2⟩
  rw [h _ (by omega)]
  exact g1
theorem RX_cong {n n1 : Nat → Nat} {v v1 : Nat → Nat → Nat} {sz la pk : Nat → Int32} (h : ∀ l, l < 2 → n1 l = n l ∧ ∀ i, i < n l → v1 l i = v l i) (H : RX n v sz la pk) : RX n1 v1 sz la pk := by
  intro l hl
  rw [(h l hl).1]
  exact RL_cong (h l hl).2 (H l hl)
end
section
/-! what each call answers and leaves: of two lists, s.1 l numbers s.2 l -/
abbrev AS : Type := (Nat → Nat) × (Nat → Nat → Nat)
def QX (s : AS) (S : SX) : Prop := RX s.1 s.2 S.1 S.2.1 S.2.2.1
def QM (s : AS) (S : SM) : Prop := ∀ l, l < 2 → wfl (s.1 l) (s.2 l) ∧ S.2 l = nI (s.1 l) ∧ ∀ i, i < s.1 l → S.1 (64 * l + i) = nI (s.2 l i)
def atL (l : Int32) (f : Nat → Int32) (d : Int32) : Int32 := if isL l then f l.toNatClampNeg else d
def atS (l : Int32) (f : Nat → AS) (s : AS) : AS := if isL l then f l.toNatClampNeg else s
theorem atL_y {a : Nat} (ha : a < 2) {f : Nat → Int32} {d : Int32} : atL (nI a) f d = f a := by
  unfold atL
  rw [if_pos (isL_nI ha), pd_cl (by omega)]
theorem atL_n {l : Int32} (h : ¬ isL l) {f : Nat → Int32} {d : Int32} : atL l f d = d := if_neg h
theorem atS_y {a : Nat} (ha : a < 2) {f : Nat → AS} {s : AS} : atS (nI a) f s = f a := by
  unfold atS
  rw [if_pos (isL_nI ha), pd_cl (by omega)]
theorem atS_n {l : Int32} (h : ¬ isL l) {f : Nat → AS} {s : AS} : atS l f s = s := if_neg h
def a_size (s : AS) (l : Int32) : Int32 := atL l (fun a => nI (s.1 a)) (-1)
def t_clear (s : AS) (l : Int32) : AS := atS l (fun a => (va_up s.1 a 0, s.2)) s
def a_at (s : AS) (l i : Int32) : Int32 := atL l (fun a => if i < 0 ∨ ¬ i < nI (s.1 a) then -4 else nI (s.2 a i.toNatClampNeg)) (-1)
def a_seek (s : AS) (l x : Int32) : Int32 := atL l (fun a => if rk (s.2 a) (s.1 a) x = s.1 a then -4 else nI (rk (s.2 a) (s.1 a) x)) (-1)
def a_has (s : AS) (l x : Int32) : Int32 := atL l (fun a => if inn (s.2 a) (s.1 a) x then 1 else 0) 0
abbrev nN (x : Int32) : Prop := x < 0 ∨ 1000000 < x
theorem nN_y {x : Int32} (h : ¬ isN x) : nN x := by
  by_cases h0 : x < 0
  · exact Or.inl h0
  · by_cases h1 : 1000000 < x
    · exact Or.inr h1
    · exact absurd (isN_x h0 h1) h
theorem nN_n {x : Int32} (h : isN x) : ¬ nN x := by
  rintro (h0 | h0)
  · exact isN_n h0 h
  · exact isN_n1 h0 h
def a_append (s : AS) (l x : Int32) : Int32 := atL l (fun a => if nN x ∨ ¬ bf (s.2 a) (s.1 a) < x then -1 else if s.1 a = 64 then -2 else nI (s.1 a + 1)) (-1)
def push (s : AS) (a x : Nat) : AS := (va_up s.1 a (s.1 a + 1), va_up s.2 a (va_up (s.2 a) (s.1 a) x))
def t_append (s : AS) (l x : Int32) : AS := atS l (fun a => if nN x ∨ ¬ bf (s.2 a) (s.1 a) < x then s else if s.1 a = 64 then s else push s a x.toNatClampNeg) s
def gv (w : Nat → Nat) (N T i : Nat) : Nat := if i < N then w i else if N = 0 then (i + 1) * T - 1 else w (N - 1) + (i - N + 1) * T
def gon (s : AS) (a j T : Nat) : AS := (va_up s.1 a (s.1 a + j), va_up s.2 a (gv (s.2 a) (s.1 a) T))
abbrev nR (k t : Int32) : Prop := k < 0 ∨ 64 < k ∨ t < 1 ∨ 1000 < t
def a_run (s : AS) (l k t : Int32) : Int32 := atL l (fun a => if nR k t then -1 else if 64 < nI (s.1 a) + k then -2 else if 1000000 < bf (s.2 a) (s.1 a) + k * t then -1 else nI (s.1 a + k.toNatClampNeg)) (-1)
def t_run (s : AS) (l k t : Int32) : AS := atS l (fun a => if nR k t then s else if 64 < nI (s.1 a) + k then s else if 1000000 < bf (s.2 a) (s.1 a) + k * t then s else gon s a k.toNatClampNeg t.toNatClampNeg) s
def ins (w : Nat → Nat) (p x i : Nat) : Nat := if i < p then w i else if i = p then x else w (i - 1)
def del (w : Nat → Nat) (p i : Nat) : Nat := if i < p then w i else w (i + 1)
def a_insert (s : AS) (l x : Int32) : Int32 := atL l (fun a => if nN x then -1 else if inn (s.2 a) (s.1 a) x then -4 else if s.1 a = 64 then -2 else nI (rk (s.2 a) (s.1 a) x)) (-1)
def t_insert (s : AS) (l x : Int32) : AS := atS l (fun a => if nN x then s else if inn (s.2 a) (s.1 a) x then s else if s.1 a = 64 then s else (va_up s.1 a (s.1 a + 1), va_up s.2 a (ins (s.2 a) (rk (s.2 a) (s.1 a) x) x.toNatClampNeg))) s
def a_remove (s : AS) (l x : Int32) : Int32 := atL l (fun a => if inn (s.2 a) (s.1 a) x then nI (rk (s.2 a) (s.1 a) x) else -4) (-1)
def t_remove (s : AS) (l x : Int32) : AS := atS l (fun a => if inn (s.2 a) (s.1 a) x then (va_up s.1 a (s.1 a - 1), va_up s.2 a (del (s.2 a) (rk (s.2 a) (s.1 a) x))) else s) s
def smf (w : Nat → Nat) (i j : Int32) (p : Nat) : Nat := if nI p < i ∨ j < nI p then 0 else w p
def a_sum (s : AS) (l i j : Int32) : Int32 := atL l (fun a => nI (fb_sm (smf (s.2 a) i j) (s.1 a))) (-1)
def a_blocks (s : AS) (l : Int32) : Int32 := atL l (fun a => nI ((s.1 a + 7) / 8)) (-1)
def a_base (s : AS) (l b : Int32) : Int32 := atL l (fun a => if b < 0 ∨ ¬ b < nI ((s.1 a + 7) / 8) then -4 else nI (bsb (cb (s.2 a) b.toNatClampNeg) (hn (s.1 a) b.toNatClampNeg))) (-1)
def a_blockSize (s : AS) (l b : Int32) : Int32 := atL l (fun a => if b < 0 ∨ ¬ b < nI ((s.1 a + 7) / 8) then -4 else nI (bz (s.2 a) (s.1 a) b.toNatClampNeg)) (-1)
def pkd (s : AS) (a : Nat) : Nat := fb_sm (fun b => bz (s.2 a) (s.1 a) b) ((s.1 a + 7) / 8)
def a_packed (s : AS) : Int32 := nI (fb_sm (pkd s) 2)
def cmn (s : AS) (i : Nat) : Bool := decide (inn (s.2 1) (s.1 1) (nI (s.2 0 i)))
def a_common (s : AS) : Int32 := nI (fb_ct (cmn s) (s.1 0))
def kth (s : AS) (k : Nat) : Nat := fa_first (fun i => cmn s i && decide (fb_ct (cmn s) i = k)) (s.1 0)
def a_commonAt (s : AS) (k : Int32) : Int32 := if k < 0 then -4 else if kth s k.toNatClampNeg < s.1 0 then nI (s.2 0 (kth s k.toNatClampNeg)) else -4
def tlr (s : AS) (a : Nat) : Nat → Int32 → Int32
  | 0, r => r
  | j + 1, r => if inn (s.2 (1 - a)) (s.1 (1 - a)) (nI (s.2 a j)) then tlr s a j (nI (s.2 a j)) else r
def a_tail (s : AS) (l : Int32) : Int32 := atL l (fun a => tlr s a (s.1 a) (-4)) (-1)
/-! numbers of run -/
theorem gv_s {w : Nat → Nat} {N T m : Nat} (h : N ≤ m + 1) (hT : 1 ≤ T) : gv w N T (m + 1) = gv w N T m + T := by
  unfold gv
  rw [if_neg (by omega)]
  by_cases h0 : N = 0
  · subst h0
    rw [if_pos rfl, if_neg (by omega), if_pos rfl, Nat.add_one_mul (m + 1)]
    have : 1 ≤ (m + 1) * T := Nat.mul_pos (by omega) hT
    omega
  · rw [if_neg h0]
    by_cases h1 : m < N
    · rw [if_pos h1, show m + 1 - N + 1 = 1 by omega, show N - 1 = m by omega, Nat.one_mul]
    · rw [if_neg h1, if_neg h0, show m + 1 - N + 1 = (m - N + 1) + 1 by omega, Nat.add_one_mul (m - N + 1)]
      omega
theorem gv_0 (w : Nat → Nat) (T : Nat) : gv w 0 T 0 = T - 1 := by
  unfold gv
  rw [if_neg (by omega), if_pos rfl, Nat.zero_add, Nat.one_mul]
theorem gv_lo {w : Nat → Nat} {N T i : Nat} (h : i < N) : gv w N T i = w i := if_pos h
theorem gv_bf {w : Nat → Nat} {N T m : Nat} (h : N ≤ m) (hT : 1 ≤ T) : bf (gv w N T) m + nI T = nI (gv w N T m) := by
  cases m with
  | zero =>
    have e : N = 0 := by omega
    subst e
    rw [bf_0, gv_0, Int32.add_comm, ← Int32.sub_eq_add_neg, show (1 : Int32) = nI 1 from rfl, pk_sub hT]
  | succ m => rw [bf_s, nI_add, ← gv_s h hT]
/-- the number before, as an integer -/
def bi (w : Nat → Nat) (N : Nat) : Int := if N = 0 then -1 else (w (N - 1) : Int)
theorem bf_bi {n : Nat} {w : Nat → Nat} (H : wfl n w) : (bf w n).toInt = bi w n ∧ -1 ≤ bi w n ∧ bi w n ≤ 1000000 := by
  unfold bf bi
  by_cases h : n = 0
  · rw [if_pos h, if_pos h]
    exact ⟨by decide +kernel, by omega, by omega⟩
  · rw [if_neg h, if_neg h]
    have := H.2.1 (n - 1) (by omega)
    exact ⟨pd_ti (by omega), by omega, by omega⟩
theorem run_gt {n K T : Nat} {w : Nat → Nat} (H : wfl n w) (hK : K ≤ 64) (hT : T ≤ 1000) : 1000000 < bf w n + nI K * nI T ↔ 1000000 < bi w n + (K * T : Nat) := by
  obtain ⟨h1, h2, h3⟩ := bf_bi H
  have h4 : K * T ≤ 64 * 1000 := Nat.mul_le_mul hK hT
  have h5 := pd_ti (a := K * T) (by omega)
  rw [pk_mul, Int32.lt_iff_toInt_lt, fb_addI (by rw [h1, h5]; omega) (by rw [h1, h5]; omega), h1, h5]
  rfl
theorem gv_top {w : Nat → Nat} {N T : Nat} (hT : 1 ≤ T) : ∀ j, (gv w N T (N + j) : Int) = bi w N + ((j + 1) * T : Nat)
  | 0 => by
    unfold gv bi
    rw [if_neg (by omega), Nat.zero_add, Nat.one_mul]
    by_cases h : N = 0
    · subst h
      rw [if_pos rfl, if_pos rfl, Nat.zero_add, Nat.one_mul]
      omega
    · rw [if_neg h, if_neg h, show N + 0 - N + 1 = 1 by omega, Nat.one_mul]
      omega
  | j + 1 => by
    rw [show N + (j + 1) = N + j + 1 by omega, gv_s (by omega) hT, Nat.add_one_mul (j + 1)]
    have := gv_top (w := w) (N := N) hT j
    omega
theorem wfl_ins {n x : Nat} {w : Nat → Nat} (H : wfl n w) (hx : x ≤ 1000000) (h64 : n < 64) (hni : ¬ inn w n (nI x)) : wfl (n + 1) (ins w (rk w n (nI x)) x) := by
  obtain ⟨r1, r2, r3⟩ := rk_is H (nI x)
  have hlt : ∀ i, i < rk w n (nI x) → w i < x := fun i hi => by
    have h1 := r2 i hi
    have := H.2.1 i (by omega)
    rw [pd_lt (by omega) (by omega)] at h1
    exact h1
  have hgt : ∀ i, rk w n (nI x) ≤ i → i < n → x < w i := fun i hi hin => by
    have h1 := r3 i hi hin
    have h2 := H.2.1 i hin
    rw [pd_lt (by omega) (by omega)] at h1
    have h3 : w i ≠ x := fun e => hni ((inn_iff H _).mpr ⟨i, hin, by rw [e]⟩)
    omega
  refine ⟨h64, fun i hi => ?_, fun i j hij hj => ?_⟩
  · unfold ins
    by_cases h1 : i < rk w n (nI x)
    · rw [if_pos h1]; exact H.2.1 i (by omega)
    · rw [if_neg h1]
      by_cases h2 : i = rk w n (nI x)
      · rw [if_pos h2]; exact hx
      · rw [if_neg h2]; exact H.2.1 _ (by omega)
  · unfold ins
    by_cases h1 : j < rk w n (nI x)
    · rw [if_pos h1, if_pos (by omega)]; exact H.2.2 i j hij (by omega)
    · rw [if_neg h1]
      by_cases h2 : j = rk w n (nI x)
      · rw [if_pos h2, if_pos (by omega)]; exact hlt i (by omega)
      · rw [if_neg h2]
        by_cases h3 : i < rk w n (nI x)
        · rw [if_pos h3]; exact H.2.2 i (j - 1) (by omega) (by omega)
        · rw [if_neg h3]
          by_cases h4 : i = rk w n (nI x)
          · rw [if_pos h4]; exact hgt (j - 1) (by omega) (by omega)
          · rw [if_neg h4]; exact H.2.2 (i - 1) (j - 1) (by omega) (by omega)
theorem wfl_del {n p : Nat} {w : Nat → Nat} (H : wfl n w) (hp : p < n) : wfl (n - 1) (del w p) := by
  have h64 := H.1
  refine ⟨by omega, fun i hi => ?_, fun i j hij hj => ?_⟩
  · unfold del
    split
    · exact H.2.1 i (by omega)
    · exact H.2.1 _ (by omega)
  · unfold del
    split
    · split
      · exact H.2.2 _ _ hij (by omega)
      · exact H.2.2 _ _ (by omega) (by omega)
    · split
      · omega
      · exact H.2.2 _ _ (by omega) (by omega)
end
section
/-! the first's calls, part one -/
theorem X_size {s : AS} {S : SX} {l : Int32} (H : QX s S) : CX yX0_size dX_size [l] S (fun r S1 => r = a_size s l ∧ QX s S1) := by
  obtain ⟨sz, la, pk, hd, cd, nb, al, cu⟩ := S
  have H : RX s.1 s.2 sz la pk := H
  refine CX_of hyX_size (Nat.le_of_ble_eq_true rfl) (rok_i _) (sgX_size_0 (csX_size_2 k_badList ?_))
  rintro r S1 ⟨rfl, h1, h2⟩
  by_cases hL : isL l
  · obtain ⟨a, ha, rfl⟩ := isL_of hL
    rw [h1 hL]
    refine sgX_size_5 ⟨fun _ => ⟨pd_in ha (by omega), ?_, H⟩, fun h => absurd rfl h⟩
    rw [pd_cl (by omega), (H a ha).2.1]
    unfold a_size
    rw [atL_y ha]
  · rw [h2 hL]
    exact sgX_size_5 ⟨fun h => absurd h (by decide), fun _ => ⟨(atL_n hL).symm, H⟩⟩
theorem RL_0 {l : Nat} {w : Nat → Nat} {sz la pk : Nat → Int32} (hs : sz l = 0) : RL 0 w l sz la pk := ⟨⟨by omega, fun i hi => absurd hi (Nat.not_lt_zero i), fun i j _ hj => absurd hj (Nat.not_lt_zero j)⟩, hs, fun b hb => by omega⟩
theorem va_self {α : Type} (f : Nat → α) (k : Nat) : va_up f k (f k) = f := by
  funext j
  by_cases h : j = k
  · subst h; exact up_s
  · exact up_n h
theorem X_clear {s : AS} {S : SX} {l : Int32} (H : QX s S) : CX yX0_clear dX_clear [l] S (fun r S1 => r = a_size s l ∧ QX (t_clear s l) S1) := by
  obtain ⟨sz, la, pk, hd, cd, nb, al, cu⟩ := S
  have H : RX s.1 s.2 sz la pk := H
  refine CX_of hyX_clear (Nat.le_of_ble_eq_true rfl) (rok_i _) (sgX_clear_0 (csX_clear_2 k_badList ?_))
  rintro r S1 ⟨rfl, h1, h2⟩
  by_cases hL : isL l
  · obtain ⟨a, ha, rfl⟩ := isL_of hL
    rw [h1 hL]
    refine sgX_clear_5 ⟨fun _ => ⟨pd_in ha (by omega), pd_in ha (by omega), ?_, ?_⟩, fun h => absurd rfl h⟩
    · rw [pd_cl (by omega), (H a ha).2.1]
      unfold a_size
      rw [atL_y ha]
    · unfold t_clear
      rw [atS_y ha]
      show RX (va_up s.1 a 0) s.2 (upd sz (nI a).toNatClampNeg 0) la pk
      rw [pd_cl (by omega), ← va_self s.2 a]
      exact RX_up H (RL_0 pk_us) (fun l1 _ e => pk_un e) (fun l1 b _ _ _ => ⟨rfl, rfl⟩)
  · rw [h2 hL]
    refine sgX_clear_5 ⟨fun h => absurd h (by decide), fun _ => ⟨(atL_n hL).symm, ?_⟩⟩
    unfold t_clear
    rw [atS_n hL]
    exact H
theorem X_at {s : AS} {S : SX} {l i : Int32} (H : QX s S) : CX yX0_at dX_at [l, i] S (fun r S1 => r = a_at s l i ∧ QX s S1) := by
  obtain ⟨sz, la, pk, hd, cd, nb, al, cu⟩ := S
  have H : RX s.1 s.2 sz la pk := H
  refine CX_of hyX_at (Nat.le_of_ble_eq_true rfl) (rok_i _) (sgX_at_0 (csX_at_2 k_badList ?_))
  rintro r S1 ⟨rfl, h1, h2⟩
  unfold a_at
  by_cases hL : isL l
  · obtain ⟨a, ha, rfl⟩ := isL_of hL
    have h64 := (H a ha).1.1
    rw [h1 hL, atL_y ha]
    refine sgX_at_5 ⟨fun _ => ⟨fun h0 => ⟨(if_pos (Or.inl h0)).symm, H⟩, fun h0 => ⟨pd_in ha (by omega), ?_⟩⟩, fun h => absurd rfl h⟩
    rw [pd_cl (by omega), (H a ha).2.1]
    refine ⟨fun hlt => ?_, fun hlt => ⟨(if_pos (Or.inr hlt)).symm, H⟩⟩
    have hc : ¬ (i < 0 ∨ ¬ i < nI (s.1 a)) := by
      rintro (z | z)
      · exact h0 z
      · exact z hlt
    obtain ⟨j, hj, rfl⟩ := nI_of h0
    rw [pd_t31] at hj
    rw [pd_lt hj (by omega)] at hlt
    refine csX_at_30 (k_numberAt ha hlt (H a ha)) ?_
    rintro r S1 ⟨rfl, hd1, cd1, nb1, cu1, rfl⟩
    refine sgX_at_33 ⟨?_, H⟩
    rw [if_neg hc, pd_cl hj]
  · rw [h2 hL, atL_n hL]
    exact sgX_at_5 ⟨fun h => absurd h (by decide), fun _ => ⟨rfl, H⟩⟩
theorem X_seek {s : AS} {S : SX} {l x : Int32} (H : QX s S) : CX yX0_seek dX_seek [l, x] S (fun r S1 => r = a_seek s l x ∧ QX s S1) := by
  obtain ⟨sz, la, pk, hd, cd, nb, al, cu⟩ := S
  have H : RX s.1 s.2 sz la pk := H
  refine CX_of hyX_seek (Nat.le_of_ble_eq_true rfl) (rok_i _) (sgX_seek_0 (csX_seek_2 k_badList ?_))
  rintro r S1 ⟨rfl, h1, h2⟩
  unfold a_seek
  by_cases hL : isL l
  · obtain ⟨a, ha, rfl⟩ := isL_of hL
    have h64 := (H a ha).1.1
    have hrk := (rk_is (H a ha).1 x).1
    rw [h1 hL, atL_y ha]
    refine sgX_seek_5 ⟨fun _ => csX_seek_13 (k_firstFrom ha (H a ha)) ?_, fun h => absurd rfl h⟩
    rintro r S1 ⟨rfl, hd1, cd1, nb1, cu1, rfl, -⟩
    refine sgX_seek_16 ⟨pd_in ha (by omega), ?_⟩
    rw [pd_cl (by omega), (H a ha).2.1, pd_eq (by omega) (by omega)]
    exact ⟨fun h => ⟨(if_pos h).symm, H⟩, fun h => ⟨(if_neg h).symm, H⟩⟩
  · rw [h2 hL, atL_n hL]
    exact sgX_seek_5 ⟨fun h => absurd h (by decide), fun _ => ⟨rfl, H⟩⟩
theorem X_has {s : AS} {S : SX} {l x : Int32} (H : QX s S) : CX yX0_has dX_has [l, x] S (fun r S1 => r = a_has s l x ∧ ∃ hd1 cd1 nb1 cu1, S1 = (S.1, S.2.1, S.2.2.1, hd1, cd1, nb1, S.2.2.2.2.2.2.1, cu1)) := by
  obtain ⟨sz, la, pk, hd, cd, nb, al, cu⟩ := S
  have H : RX s.1 s.2 sz la pk := H
  refine CX_of hyX_has (Nat.le_of_ble_eq_true rfl) ?_ (sgX_has_0 (csX_has_2 k_badList ?_))
  · rintro v S1 ⟨rfl, -⟩
    refine rok_b ?_
    unfold a_has atL
    split
    · dsimp only
      split
      · exact Or.inr rfl
      · exact Or.inl rfl
    · exact Or.inl rfl
  rintro r S1 ⟨rfl, h1, h2⟩
  unfold a_has
  by_cases hL : isL l
  · obtain ⟨a, ha, rfl⟩ := isL_of hL
    have h64 := (H a ha).1.1
    have hrk := (rk_is (H a ha).1 x).1
    rw [h1 hL, atL_y ha]
    refine sgX_has_5 ⟨fun _ => csX_has_13 (k_firstFrom ha (H a ha)) ?_, fun h => absurd rfl h⟩
    rintro r S1 ⟨rfl, hd1, cd1, nb1, cu1, rfl, hnb⟩
    refine sgX_has_16 ⟨pd_in ha (by omega), ?_⟩
    rw [pd_cl (by omega), (H a ha).2.1, pd_lt (by omega) (by omega), pd_and7, pd_cl (by omega)]
    refine ⟨fun h => ⟨pd_in (by omega) (by omega), ?_⟩, fun h => ⟨(if_neg (fun z => h z.1)).symm, _, _, _, _, rfl⟩⟩
    rw [hnb h]
    exact ⟨fun g => ⟨(if_pos ⟨h, g⟩).symm, _, _, _, _, rfl⟩, fun g => ⟨(if_neg (fun z => g z.2)).symm, _, _, _, _, rfl⟩⟩
  · rw [h2 hL, atL_n hL]
    exact sgX_has_5 ⟨fun h => absurd h (by decide), fun _ => ⟨rfl, _, _, _, _, rfl⟩⟩
theorem X_blocks {s : AS} {S : SX} {l : Int32} (H : QX s S) : CX yX0_blocks dX_blocks [l] S (fun r S1 => r = a_blocks s l ∧ QX s S1) := by
  obtain ⟨sz, la, pk, hd, cd, nb, al, cu⟩ := S
  have H : RX s.1 s.2 sz la pk := H
  refine CX_of hyX_blocks (Nat.le_of_ble_eq_true rfl) (rok_i _) (sgX_blocks_0 (csX_blocks_2 k_badList ?_))
  rintro r S1 ⟨rfl, h1, h2⟩
  unfold a_blocks
  by_cases hL : isL l
  · obtain ⟨a, ha, rfl⟩ := isL_of hL
    rw [h1 hL, atL_y ha]
    refine sgX_blocks_5 ⟨fun _ => csX_blocks_14 (k_blockCount ha (H a ha).2.1 (H a ha).1.1) ?_, fun h => absurd rfl h⟩
    rintro r S1 ⟨rfl, rfl⟩
    exact sgX_blocks_17 ⟨rfl, H⟩
  · rw [h2 hL, atL_n hL]
    exact sgX_blocks_5 ⟨fun h => absurd h (by decide), fun _ => sgX_blocks_17 ⟨rfl, H⟩⟩
theorem k_noBlock {l m : Nat} (hl : l < 2) {sz la pk cd nb al : Nat → Int32} {hd cu b : Int32} (hs : sz l = nI m) (hm : m ≤ 64) : CX yX0_noBlock dX_noBlock [nI l, b] (sz, la, pk, hd, cd, nb, al, cu) (fun r S1 => S1 = (sz, la, pk, hd, cd, nb, al, cu) ∧ ((b < 0 ∨ ¬ b < nI ((m + 7) / 8)) → r = 1) ∧ (¬ (b < 0 ∨ ¬ b < nI ((m + 7) / 8)) → r = 0)) := by
  refine CX_of hyX_noBlock (Nat.le_of_ble_eq_true rfl) ?_ (sgX_noBlock_0 ⟨fun h => ⟨rfl, fun _ => rfl, fun z => absurd (Or.inl h) z⟩, fun h => csX_noBlock_7 (k_blockCount hl hs hm) ?_⟩)
  · rintro v S1 ⟨-, h1, h2⟩
    by_cases h : b < 0 ∨ ¬ b < nI ((m + 7) / 8)
    · exact rok_b (Or.inr (h1 h))
    · exact rok_b (Or.inl (h2 h))
  · rintro r S1 ⟨rfl, rfl⟩
    refine sgX_noBlock_10 ⟨fun g => ⟨rfl, fun z => ?_, fun _ => rfl⟩, fun g => ⟨rfl, fun _ => rfl, fun z => absurd (Or.inr g) z⟩⟩
    rcases z with z | z
    · exact absurd z h
    · exact absurd g z
theorem blk_of {m : Nat} {b : Int32} (hm : m ≤ 64) (h : ¬ (b < 0 ∨ ¬ b < nI ((m + 7) / 8))) : ∃ B : Nat, b = nI B ∧ B < (m + 7) / 8 := by
  have h0 : ¬ b < 0 := fun z => h (Or.inl z)
  have h1 : b < nI ((m + 7) / 8) := Classical.not_not.mp (fun z => h (Or.inr z))
  obtain ⟨j, hj, rfl⟩ := nI_of h0
  rw [pd_t31] at hj
  rw [pd_lt hj (by omega)] at h1
  exact ⟨j, rfl, h1⟩
theorem X_base {s : AS} {S : SX} {l b : Int32} (H : QX s S) : CX yX0_base dX_base [l, b] S (fun r S1 => r = a_base s l b ∧ QX s S1) := by
  obtain ⟨sz, la, pk, hd, cd, nb, al, cu⟩ := S
  have H : RX s.1 s.2 sz la pk := H
  refine CX_of hyX_base (Nat.le_of_ble_eq_true rfl) (rok_i _) (sgX_base_0 (csX_base_2 k_badList ?_))
  rintro r S1 ⟨rfl, h1, h2⟩
  unfold a_base
  by_cases hL : isL l
  · obtain ⟨a, ha, rfl⟩ := isL_of hL
    have h64 := (H a ha).1.1
    rw [h1 hL, atL_y ha]
    refine sgX_base_5 ⟨fun _ => csX_base_13 (k_noBlock ha (H a ha).2.1 h64) ?_, fun h => absurd rfl h⟩
    rintro r S1 ⟨rfl, g1, g2⟩
    by_cases hB : b < 0 ∨ ¬ b < nI ((s.1 a + 7) / 8)
    · rw [g1 hB, if_pos hB]
      exact sgX_base_16 ⟨fun h => absurd h (by decide), fun _ => ⟨rfl, H⟩⟩
    · rw [g2 hB, if_neg hB]
      obtain ⟨B, rfl, hB2⟩ := blk_of h64 hB
      refine sgX_base_16 ⟨fun _ => ?_, fun h => absurd rfl h⟩
      rw [pd_k8]
      refine csX_base_35 (k_get (n := 5) (c := 0) (by omega) (by omega)) ?_
      rintro r S1 ⟨rfl, rfl⟩
      refine sgX_base_38 ⟨?_, H⟩
      rw [pd_cl (by omega), ((H a ha).2.2 B (by omega)).2.1]
  · rw [h2 hL, atL_n hL]
    exact sgX_base_5 ⟨fun h => absurd h (by decide), fun _ => ⟨rfl, H⟩⟩
theorem X_blockSize {s : AS} {S : SX} {l b : Int32} (H : QX s S) : CX yX0_blockSize dX_blockSize [l, b] S (fun r S1 => r = a_blockSize s l b ∧ QX s S1) := by
  obtain ⟨sz, la, pk, hd, cd, nb, al, cu⟩ := S
  have H : RX s.1 s.2 sz la pk := H
  refine CX_of hyX_blockSize (Nat.le_of_ble_eq_true rfl) (rok_i _) (sgX_blockSize_0 (csX_blockSize_2 k_badList ?_))
  rintro r S1 ⟨rfl, h1, h2⟩
  unfold a_blockSize
  by_cases hL : isL l
  · obtain ⟨a, ha, rfl⟩ := isL_of hL
    have h64 := (H a ha).1.1
    rw [h1 hL, atL_y ha]
    refine sgX_blockSize_5 ⟨fun _ => csX_blockSize_13 (k_noBlock ha (H a ha).2.1 h64) ?_, fun h => absurd rfl h⟩
    rintro r S1 ⟨rfl, g1, g2⟩
    by_cases hB : b < 0 ∨ ¬ b < nI ((s.1 a + 7) / 8)
    · rw [g1 hB, if_pos hB]
      exact sgX_blockSize_16 ⟨fun h => absurd h (by decide), fun _ => ⟨rfl, H⟩⟩
    · rw [g2 hB, if_neg hB]
      obtain ⟨B, rfl, hB2⟩ := blk_of h64 hB
      refine sgX_blockSize_16 ⟨fun _ => csX_blockSize_25 (k_unpack (b := B) ha (by omega) (H a ha)) ?_, fun h => absurd rfl h⟩
      rintro r S1 ⟨cd1, nb1, rfl, -, -⟩
      refine sgX_blockSize_28 ⟨?_, H⟩
      rw [pd_cl (by omega)]
  · rw [h2 hL, atL_n hL]
    exact sgX_blockSize_5 ⟨fun h => absurd h (by decide), fun _ => ⟨rfl, H⟩⟩
theorem X_append {s : AS} {S : SX} {l x : Int32} (H : QX s S) : CX yX0_append dX_append [l, x] S (fun r S1 => r = a_append s l x ∧ QX (t_append s l x) S1) := by
  obtain ⟨sz, la, pk, hd, cd, nb, al, cu⟩ := S
  have H : RX s.1 s.2 sz la pk := H
  refine CX_of hyX_append (Nat.le_of_ble_eq_true rfl) (rok_i _) (sgX_append_0 (csX_append_2 k_badList ?_))
  rintro r S1 ⟨rfl, h1, h2⟩
  unfold a_append t_append
  by_cases hL : isL l
  · obtain ⟨a, ha, rfl⟩ := isL_of hL
    have Ha := H a ha
    have h64 := Ha.1.1
    rw [h1 hL, atL_y ha, atS_y ha]
    refine sgX_append_5 ⟨fun _ => csX_append_10 k_badNumber ?_, fun h => absurd rfl h⟩
    rintro r S1 ⟨rfl, g1, g2⟩
    by_cases hN : isN x
    · have hnN := nN_n hN
      obtain ⟨y, hy, rfl⟩ := hN
      rw [g1 ⟨y, hy, rfl⟩]
      refine sgX_append_13 ⟨fun _ => csX_append_20 (k_lastNumber ha Ha) ?_, fun h => absurd rfl h⟩
      rintro r S1 ⟨rfl, rfl⟩
      refine sgX_append_23 ⟨fun hlt => ⟨pd_in ha (by omega), ?_⟩, fun hlt => ?_⟩
      · have hc : ¬ (nN (nI y) ∨ ¬ bf (s.2 a) (s.1 a) < nI y) := by
          rintro (z | z)
          · exact hnN z
          · exact z hlt
        rw [if_neg hc, if_neg hc, pd_cl (by omega), Ha.2.1, show (64 : Int32) = nI 64 from rfl, pd_eq (by omega) (by omega)]
        refine ⟨fun e => ?_, fun e => ?_⟩
        · rw [if_pos e, if_pos e]
          exact ⟨rfl, H⟩
        · rw [if_neg e, if_neg e]
          refine csX_append_48 (k_attach ha H hy (by omega) (fun i hi => ?_)) ?_
          · have e2 : bf (s.2 a) (s.1 a) = nI (s.2 a (s.1 a - 1)) := by
              unfold bf
              rw [if_neg (by omega)]
            rw [e2] at hlt
            have h5 := Ha.1.2.1 (s.1 a - 1) (by omega)
            rw [pd_lt (by omega) (by omega)] at hlt
            have := wfl_le Ha.1 (show i ≤ s.1 a - 1 by omega) (by omega)
            omega
          · rintro r S1 ⟨sz1, la1, pk1, hd1, cd1, nb1, cu1, rfl, HR⟩
            have h6 := (HR a ha).2.1
            rw [up_s] at h6
            refine sgX_append_51 ⟨pd_in ha (by omega), ?_, ?_⟩
            · rw [pd_cl (by omega), h6]
            · rw [pd_cl (by omega)]
              exact HR
      · have hc : nN (nI y) ∨ ¬ bf (s.2 a) (s.1 a) < nI y := Or.inr hlt
        rw [if_pos hc, if_pos hc]
        exact ⟨rfl, H⟩
    · have hc : nN x ∨ ¬ bf (s.2 a) (s.1 a) < x := Or.inl (nN_y hN)
      rw [g2 hN, if_pos hc, if_pos hc]
      exact sgX_append_13 ⟨fun h => absurd h (by decide), fun _ => ⟨rfl, H⟩⟩
  · rw [h2 hL, atL_n hL, atS_n hL]
    exact sgX_append_5 ⟨fun h => absurd h (by decide), fun _ => ⟨rfl, H⟩⟩
end
section
/-! the first's calls that change a list: run, insert, remove -/
theorem gon_s (s : AS) (a j T : Nat) : (gon s a j T).1 a = s.1 a + j := up_s
theorem gon_v (s : AS) (a j T : Nat) : (gon s a j T).2 a = gv (s.2 a) (s.1 a) T := up_s
theorem lp_run {post : Int32 → SX → Prop} {s : AS} {a K T : Nat} (ha : a < 2) (hT : 1 ≤ T) (hK : s.1 a + K ≤ 64) (hm : bi (s.2 a) (s.1 a) + (K * T : Nat) ≤ 1000000) (hp : ∀ S, QX (gon s a K T) S → post (nI (s.1 a + K)) S) : ∀ (m j : Nat) (S : SX), j + m = K → QX (gon s a j T) S → VX dX_run post 75 [] [some (.inr 0), some (.inl (nI a)), some (.inl (nI K)), some (.inl (nI T)), some (.inl (bf (gv (s.2 a) (s.1 a) T) (s.1 a + j))), some (.inl (nI j))] S := by
  intro m
  induction m with
  | zero =>
    intro j S hj H
    have e : j = K := by omega
    subst e
    obtain ⟨sz, la, pk, hd, cd, nb, al, cu⟩ := S
    have H : RX (gon s a j T).1 (gon s a j T).2 sz la pk := H
    have Hs := (H a ha).2.1
    rw [gon_s] at Hs
    refine sgX_run_75 ⟨fun h => ?_, fun _ => ⟨pd_in ha (by omega), ?_⟩⟩
    · rw [pd_lt (by omega) (by omega)] at h
      omega
    · rw [pd_cl (by omega), Hs]
      exact hp _ H
  | succ m ih =>
    intro j S hj H
    obtain ⟨sz, la, pk, hd, cd, nb, al, cu⟩ := S
    have H : RX (gon s a j T).1 (gon s a j T).2 sz la pk := H
    have Hw := (H a ha).1
    rw [gon_s, gon_v] at Hw
    have htop := gv_top (w := s.2 a) (N := s.1 a) hT j
    have hle : (j + 1) * T ≤ K * T := Nat.mul_le_mul_right T (by omega)
    refine sgX_run_75 ⟨fun _ => ?_, fun hn => absurd ?_ hn⟩
    · rw [gv_bf (by omega) hT]
      refine csX_run_91 (k_attach (x := gv (s.2 a) (s.1 a) T (s.1 a + j)) ha H (by omega) (by rw [gon_s]; omega) (fun i hi => ?_)) ?_
      · rw [gon_s] at hi
        rw [gon_v]
        have h1 := wfl_le Hw (show i ≤ s.1 a + j - 1 by omega) (by omega)
        have h2 := gv_s (w := s.2 a) (N := s.1 a) (T := T) (m := s.1 a + j - 1) (by omega) hT
        rw [show s.1 a + j - 1 + 1 = s.1 a + j by omega] at h2
        omega
      · rintro r S1 ⟨sz1, la1, pk1, hd1, cd1, nb1, cu1, rfl, HR⟩
        refine sgX_run_94 ?_
        rw [nI_1]
        refine ih (j + 1) _ (by omega) (RX_cong (fun l1 hl1 => ?_) HR)
        by_cases e : l1 = a
        · subst e
          rw [up_s, up_s, gon_s, gon_s, gon_v, gon_v]
          refine ⟨by omega, fun i hi => ?_⟩
          by_cases e2 : i = s.1 l1 + j
          · rw [e2, up_s]
          · rw [up_n e2]
        · rw [up_n e, up_n e]
          unfold gon
          dsimp only
          rw [up_n e, up_n e, up_n e]
          exact ⟨rfl, fun i _ => rfl⟩
    · rw [pd_lt (by omega) (by omega)]
      omega
theorem X_run {s : AS} {S : SX} {l k t : Int32} (H : QX s S) : CX yX0_run dX_run [l, k, t] S (fun r S1 => r = a_run s l k t ∧ QX (t_run s l k t) S1) := by
  obtain ⟨sz, la, pk, hd, cd, nb, al, cu⟩ := S
  have H : RX s.1 s.2 sz la pk := H
  refine CX_of hyX_run (Nat.le_of_ble_eq_true rfl) (rok_i _) (sgX_run_0 (csX_run_2 k_badList ?_))
  rintro r S1 ⟨rfl, h1, h2⟩
  unfold a_run t_run
  by_cases hL : isL l
  · obtain ⟨a, ha, rfl⟩ := isL_of hL
    have Ha := H a ha
    have h64 := Ha.1.1
    rw [h1 hL, atL_y ha, atS_y ha]
    have bad : nR k t → -1 = (if nR k t then -1 else if 64 < nI (s.1 a) + k then -2 else if 1000000 < bf (s.2 a) (s.1 a) + k * t then -1 else nI (s.1 a + k.toNatClampNeg)) ∧ QX (if nR k t then s else if 64 < nI (s.1 a) + k then s else if 1000000 < bf (s.2 a) (s.1 a) + k * t then s else gon s a k.toNatClampNeg t.toNatClampNeg) (sz, la, pk, hd, cd, nb, al, cu) := fun h => by
      rw [if_pos h, if_pos h]
      exact ⟨rfl, H⟩
    refine sgX_run_5 ⟨fun _ => ⟨fun z => bad (Or.inl z), fun g1 => ⟨fun z => bad (Or.inr (Or.inl z)), fun g2 => ⟨fun z => bad (Or.inr (Or.inr (Or.inl z))), fun g3 => ⟨fun z => bad (Or.inr (Or.inr (Or.inr z))), fun g4 => ⟨pd_in ha (by omega), ?_⟩⟩⟩⟩⟩, fun h => absurd rfl h⟩
    have hR : ¬ nR k t := by
      rintro (z | z | z | z)
      · exact g1 z
      · exact g2 z
      · exact g3 z
      · exact g4 z
    have g5 : ¬ t < 0 := by
      intro z
      apply g3
      rw [Int32.lt_iff_toInt_lt] at z ⊢
      have e0 : (0 : Int32).toInt = 0 := rfl
      have e1 : (1 : Int32).toInt = 1 := rfl
      omega
    obtain ⟨K, hK, rfl⟩ := nI_of g1
    obtain ⟨T, hT, rfl⟩ := nI_of g5
    rw [pd_t31] at hK hT
    rw [show (64 : Int32) = nI 64 from rfl, pd_lt (by omega) hK] at g2
    rw [show (1 : Int32) = nI 1 from rfl, pd_lt hT (by omega)] at g3
    rw [show (1000 : Int32) = nI 1000 from rfl, pd_lt (by omega) hT] at g4
    rw [if_neg hR, if_neg hR, pd_cl (by omega), pd_cl (by omega), pd_cl (by omega), Ha.2.1]
    refine ⟨fun z => ?_, fun z => ?_⟩
    · rw [if_pos z, if_pos z]
      exact ⟨rfl, H⟩
    · rw [if_neg z, if_neg z]
      rw [nI_add, show (64 : Int32) = nI 64 from rfl, pd_lt (by omega) (by omega)] at z
      refine csX_run_50 (k_lastNumber ha Ha) ?_
      rintro r S1 ⟨rfl, rfl⟩
      have hrg := run_gt Ha.1 (show K ≤ 64 by omega) (show T ≤ 1000 by omega)
      have hbi := bf_bi Ha.1
      have go : ¬ 1000000 < bf (s.2 a) (s.1 a) + nI K * nI T → VX dX_run (fun r S1 => r = (if 1000000 < bf (s.2 a) (s.1 a) + nI K * nI T then -1 else nI (s.1 a + K)) ∧ QX (if 1000000 < bf (s.2 a) (s.1 a) + nI K * nI T then s else gon s a K T) S1) 75 [] [some (.inr 0), some (.inl (nI a)), some (.inl (nI K)), some (.inl (nI T)), some (.inl (bf (s.2 a) (s.1 a))), some (.inl 0)] (sz, la, pk, hd, cd, nb, al, cu) := by
        intro hng
        rw [if_neg hng, if_neg hng]
        have h7 := lp_run (post := fun r S1 => r = nI (s.1 a + K) ∧ QX (gon s a K T) S1) (s := s) ha (show 1 ≤ T by omega) (show s.1 a + K ≤ 64 by omega) (by rw [hrg] at hng; omega) (fun S hS => ⟨rfl, hS⟩) K 0 (sz, la, pk, hd, cd, nb, al, cu) (by omega) (by
          refine RX_cong (n := s.1) (v := s.2) (fun l1 hl1 => ?_) H
          by_cases e : l1 = a
          · subst e
            rw [gon_s, gon_v]
            exact ⟨by omega, fun i hi => gv_lo hi⟩
          · unfold gon
            dsimp only
            rw [up_n e]
            exact ⟨rfl, fun i _ => by rw [up_n e]⟩)
        rw [Nat.add_zero, bf_cong (w := s.2 a) (m := s.1 a) (fun i hi => gv_lo hi) (Nat.le_refl _)] at h7
        exact h7
      refine sgX_run_53 ⟨fun h0 => ⟨fun h3 => ?_, go⟩, fun h0 => go (fun h3 => ?_)⟩
      · rw [if_pos h3, if_pos h3]
        exact ⟨rfl, H⟩
      · rw [show (0 : Int32) = nI 0 from rfl, pd_lt (by omega) (by omega)] at h0
        rw [hrg, show K = 0 by omega, Nat.zero_mul] at h3
        omega
  · rw [h2 hL, atL_n hL, atS_n hL]
    exact sgX_run_5 ⟨fun h => absurd h (by decide), fun _ => ⟨rfl, H⟩⟩
theorem lp_ins {post : Int32 → SX → Prop} {a n p y : Nat} {w : Nat → Nat} (ha : a < 2) (hn : n < 64) (hpn : p ≤ n) {sz la pk cd nb : Nat → Int32} {hd cu : Int32} (hs : sz a = nI n) (hp : ∀ al, (∀ j, j < n + 1 → al j = nI (ins w p y j)) → VX dX_insert post 133 [.inl (nI p), .inl (nI (n + 1)), .inl (nI a), .inr 0] [none, none, none, some (.inl (nI p)), none, none] (sz, la, pk, hd, cd, nb, al, cu)) : ∀ (m i : Nat) (al : Nat → Int32), p + m = i → i ≤ n → (∀ j, j < i → al j = nI (w j)) → (∀ j, i < j → j < n + 1 → al j = nI (w (j - 1))) → (i = n ∨ True) → VX dX_insert post 87 [] [some (.inr 0), some (.inl (nI a)), some (.inl (nI y)), some (.inl (nI p)), none, some (.inl (nI i))] (sz, la, pk, hd, cd, nb, al, cu) := by
  intro m
  induction m with
  | zero =>
    intro i al hi hin h1 h2 _
    have e : i = p := by omega
    subst e
    refine sgX_insert_87 ⟨fun h => ?_, fun _ => ⟨pd_in (by omega) (by omega), pd_in ha (by omega), ?_⟩⟩
    · rw [pd_lt (by omega) (by omega)] at h
      omega
    · rw [pd_cl (by omega), pd_cl (by omega), hs, nI_1]
      refine hp _ (fun j hj => ?_)
      unfold ins
      by_cases e : j = i
      · rw [e, pk_us, if_neg (Nat.lt_irrefl i), if_pos rfl]
      · rw [pk_un e]
        by_cases e2 : j < i
        · rw [if_pos e2]; exact h1 j e2
        · rw [if_neg e2, if_neg e]; exact h2 j (by omega) hj
  | succ m ih =>
    intro i al hi hin h1 h2 _
    refine sgX_insert_87 ⟨fun _ => ?_, fun hn => absurd ?_ hn⟩
    · have e1 : nI i - 1 = nI (i - 1) := by rw [show (1 : Int32) = nI 1 from rfl, pk_sub (by omega)]
      have e2 : nI i + (-1) = nI (i - 1) := by rw [← Int32.sub_eq_add_neg, e1]
      rw [e1, e2, pd_cl (by omega), pd_cl (by omega), h1 (i - 1) (by omega)]
      refine ⟨pd_in (by omega) (by omega), pd_in (by omega) (by omega), ih (i - 1) _ (by omega) (by omega) (fun j hj => ?_) (fun j hj hj2 => ?_) (Or.inr trivial)⟩
      · rw [pk_un (by omega)]
        exact h1 j (by omega)
      · by_cases e : j = i
        · rw [e, pk_us]
        · rw [pk_un e]
          exact h2 j (by omega) hj2
    · rw [pd_lt (by omega) (by omega)]
      omega
theorem go_ins {s : AS} {a y : Nat} (ha : a < 2) {sz la pk cd nb al : Nat → Int32} {hd cu : Int32} (H : RX s.1 s.2 sz la pk) (hy : y ≤ 1000000) (hni : ¬ inn (s.2 a) (s.1 a) (nI y)) (post : Int32 → SX → Prop) (hpost : post = fun r S1 => r = (if s.1 a = 64 then -2 else nI (rk (s.2 a) (s.1 a) (nI y))) ∧ QX (if s.1 a = 64 then s else (va_up s.1 a (s.1 a + 1), va_up s.2 a (ins (s.2 a) (rk (s.2 a) (s.1 a) (nI y)) y))) S1) : vp_in (nI a) 2 ∧ ((sz (nI a).toNatClampNeg = 64 → post (-2) (sz, la, pk, hd, cd, nb, al, cu)) ∧ (¬ sz (nI a).toNatClampNeg = 64 → VX dX_insert post 76 [.inl (nI a), .inr 0] [some (.inr 0), some (.inl (nI a)), some (.inl (nI y)), some (.inl (nI (rk (s.2 a) (s.1 a) (nI y)))), none, none] (sz, la, pk, hd, cd, nb, al, cu))) := by
  have Ha := H a ha
  have h64 := Ha.1.1
  subst hpost
  refine ⟨pd_in ha (by omega), ?_⟩
  rw [pd_cl (by omega), Ha.2.1, show (64 : Int32) = nI 64 from rfl, pd_eq (by omega) (by omega)]
  refine ⟨fun e => ?_, fun e => ?_⟩
  · rw [if_pos e, if_pos e]
    exact ⟨rfl, H⟩
  · rw [if_neg e, if_neg e]
    have hr := rk_is Ha.1 (nI y)
    refine csX_insert_76 (k_spread ha Ha) ?_
    rintro r S1 ⟨hd1, cd1, nb1, al1, cu1, rfl, hal⟩
    refine sgX_insert_79 ⟨pd_in ha (by omega), ?_⟩
    rw [pd_cl (by omega), Ha.2.1]
    refine lp_ins (w := s.2 a) ha (by omega) hr.1 Ha.2.1 (fun al2 hal2 => ?_) (s.1 a - rk (s.2 a) (s.1 a) (nI y)) (s.1 a) al1 (by have := hr.1; omega) (Nat.le_refl _) hal (fun j h1 h2 => by omega) (Or.inl rfl)
    refine csX_insert_133 (k_rebuild ha H (wfl_ins Ha.1 hy (by omega) hni) hal2 hr.1 (by have := hr.1; omega) (fun i hi => if_pos hi)) ?_
    rintro r S1 ⟨sz1, la1, pk1, hd2, cd2, cu2, rfl, HR⟩
    exact sgX_insert_136 ⟨rfl, HR⟩
theorem X_insert {s : AS} {S : SX} {l x : Int32} (H : QX s S) : CX yX0_insert dX_insert [l, x] S (fun r S1 => r = a_insert s l x ∧ QX (t_insert s l x) S1) := by
  obtain ⟨sz, la, pk, hd, cd, nb, al, cu⟩ := S
  have H : RX s.1 s.2 sz la pk := H
  refine CX_of hyX_insert (Nat.le_of_ble_eq_true rfl) (rok_i _) (sgX_insert_0 (csX_insert_2 k_badList ?_))
  rintro r S1 ⟨rfl, h1, h2⟩
  unfold a_insert t_insert
  by_cases hL : isL l
  · obtain ⟨a, ha, rfl⟩ := isL_of hL
    have Ha := H a ha
    have h64 := Ha.1.1
    rw [h1 hL, atL_y ha, atS_y ha]
    refine sgX_insert_5 ⟨fun _ => csX_insert_10 k_badNumber ?_, fun h => absurd rfl h⟩
    rintro r S1 ⟨rfl, g1, g2⟩
    by_cases hN : isN x
    · have hnN := nN_n hN
      obtain ⟨y, hy, rfl⟩ := hN
      have hr := rk_is Ha.1 (nI y)
      rw [g1 ⟨y, hy, rfl⟩, if_neg hnN, if_neg hnN, pd_cl (by omega)]
      refine sgX_insert_13 ⟨fun _ => csX_insert_21 (k_firstFrom ha Ha) ?_, fun h => absurd rfl h⟩
      rintro r S1 ⟨rfl, hd1, cd1, nb1, cu1, rfl, -⟩
      have hr1 := hr.1
      refine sgX_insert_24 ⟨pd_in ha (by omega), fun hlt => ?_, fun hlt => ⟨fun _ => ?_, fun h => absurd rfl h⟩⟩
      · rw [pd_cl (by omega), Ha.2.1, pd_lt (by omega) (by omega)] at hlt
        refine csX_insert_38 (k_numberAt ha hlt Ha) ?_
        rintro r S1 ⟨rfl, hd2, cd2, nb2, cu2, rfl⟩
        refine sgX_insert_41 ⟨fun e => ⟨fun h => absurd h (by decide), fun _ => ?_⟩, fun e => ⟨fun _ => ?_, fun h => absurd rfl h⟩⟩
        · have hi : inn (s.2 a) (s.1 a) (nI y) := ⟨hlt, e⟩
          rw [if_pos hi, if_pos hi]
          exact ⟨rfl, H⟩
        · have hi : ¬ inn (s.2 a) (s.1 a) (nI y) := fun z => e z.2
          rw [if_neg hi, if_neg hi]
          exact go_ins ha H hy hi _ rfl
      · rw [pd_cl (by omega), Ha.2.1, pd_lt (by omega) (by omega)] at hlt
        have hi : ¬ inn (s.2 a) (s.1 a) (nI y) := fun z => hlt z.1
        rw [if_neg hi, if_neg hi]
        exact go_ins ha H hy hi _ rfl
    · rw [g2 hN, if_pos (nN_y hN), if_pos (nN_y hN)]
      exact sgX_insert_13 ⟨fun h => absurd h (by decide), fun _ => ⟨rfl, H⟩⟩
  · rw [h2 hL, atL_n hL, atS_n hL]
    exact sgX_insert_5 ⟨fun h => absurd h (by decide), fun _ => ⟨rfl, H⟩⟩
theorem lp_rem {post : Int32 → SX → Prop} {a n p : Nat} {w : Nat → Nat} (hn : n ≤ 64) {sz la pk cd nb : Nat → Int32} {hd cu : Int32} (hp : ∀ al, (∀ j, j < n - 1 → al j = nI (del w p j)) → VX dX_remove post 104 [.inl (nI p), .inl (nI (n - 1)), .inl (nI a), .inr 0] [none, none, none, some (.inl (nI p)), none, none, none] (sz, la, pk, hd, cd, nb, al, cu)) : ∀ (m i : Nat) (al : Nat → Int32), i + m = n - 1 → p ≤ i → (∀ j, j < i → al j = nI (del w p j)) → (∀ j, i ≤ j → j < n → al j = nI (w j)) → VX dX_remove post 70 [] [some (.inr 0), some (.inl (nI a)), none, some (.inl (nI p)), none, some (.inl (nI (n - 1))), some (.inl (nI i))] (sz, la, pk, hd, cd, nb, al, cu) := by
  intro m
  induction m with
  | zero =>
    intro i al hi hin h1 h2
    have e : i = n - 1 := by omega
    subst e
    refine sgX_remove_70 ⟨fun h => ?_, fun _ => hp al h1⟩
    rw [pd_lt (by omega) (by omega)] at h
    omega
  | succ m ih =>
    intro i al hi hin h1 h2
    refine sgX_remove_70 ⟨fun _ => ?_, fun hn => absurd ?_ hn⟩
    · rw [nI_1, pd_cl (by omega), pd_cl (by omega), h2 (i + 1) (by omega) (by omega)]
      refine ⟨pd_in (by omega) (by omega), pd_in (by omega) (by omega), ih (i + 1) _ (by omega) (by omega) (fun j hj => ?_) (fun j hj hj2 => ?_)⟩
      · by_cases e : j = i
        · rw [e, pk_us]
          unfold del
          rw [if_neg (by omega)]
        · rw [pk_un e]
          exact h1 j (by omega)
      · rw [pk_un (by omega)]
        exact h2 j (by omega) hj2
    · rw [pd_lt (by omega) (by omega)]
      omega
theorem X_remove {s : AS} {S : SX} {l x : Int32} (H : QX s S) : CX yX0_remove dX_remove [l, x] S (fun r S1 => r = a_remove s l x ∧ QX (t_remove s l x) S1) := by
  obtain ⟨sz, la, pk, hd, cd, nb, al, cu⟩ := S
  have H : RX s.1 s.2 sz la pk := H
  refine CX_of hyX_remove (Nat.le_of_ble_eq_true rfl) (rok_i _) (sgX_remove_0 (csX_remove_2 k_badList ?_))
  rintro r S1 ⟨rfl, h1, h2⟩
  unfold a_remove t_remove
  by_cases hL : isL l
  · obtain ⟨a, ha, rfl⟩ := isL_of hL
    have Ha := H a ha
    have h64 := Ha.1.1
    have hr := rk_is Ha.1 x
    have hr1 := hr.1
    rw [h1 hL, atL_y ha, atS_y ha]
    refine sgX_remove_5 ⟨fun _ => csX_remove_13 (k_firstFrom ha Ha) ?_, fun h => absurd rfl h⟩
    rintro r S1 ⟨rfl, hd1, cd1, nb1, cu1, rfl, -⟩
    refine sgX_remove_16 ⟨pd_in ha (by omega), fun hlt => ?_, fun hlt => ⟨fun _ => ?_, fun h => absurd rfl h⟩⟩
    · rw [pd_cl (by omega), Ha.2.1, pd_lt (by omega) (by omega)] at hlt
      refine csX_remove_30 (k_numberAt ha hlt Ha) ?_
      rintro r S1 ⟨rfl, hd2, cd2, nb2, cu2, rfl⟩
      refine sgX_remove_33 ⟨fun e => ⟨fun h => absurd h (by decide), fun _ => ?_⟩, fun e => ⟨fun _ => ?_, fun h => absurd rfl h⟩⟩
      · have hi : inn (s.2 a) (s.1 a) x := ⟨hlt, e⟩
        rw [if_pos hi, if_pos hi]
        refine csX_remove_54 (k_spread ha Ha) ?_
        rintro r S1 ⟨hd3, cd3, nb3, al3, cu3, rfl, hal⟩
        refine sgX_remove_57 ⟨pd_in ha (by omega), ?_⟩
        rw [pd_cl (by omega), Ha.2.1, show (1 : Int32) = nI 1 from rfl, pk_sub (by omega)]
        refine lp_rem (w := s.2 a) h64 (fun al4 hal4 => ?_) (s.1 a - 1 - rk (s.2 a) (s.1 a) x) (rk (s.2 a) (s.1 a) x) al3 (by omega) (Nat.le_refl _) (fun j hj => by rw [hal j (by omega)]; unfold del; rw [if_pos hj]) (fun j _ hj => hal j hj)
        refine csX_remove_104 (k_rebuild ha H (wfl_del Ha.1 hlt) hal4 hr1 (by omega) (fun i hi => if_pos hi)) ?_
        rintro r S1 ⟨sz1, la1, pk1, hd2, cd2, cu2, rfl, HR⟩
        exact sgX_remove_107 ⟨rfl, HR⟩
      · have hi : ¬ inn (s.2 a) (s.1 a) x := fun z => e z.2
        rw [if_neg hi, if_neg hi]
        exact ⟨rfl, H⟩
    · rw [pd_cl (by omega), Ha.2.1, pd_lt (by omega) (by omega)] at hlt
      have hi : ¬ inn (s.2 a) (s.1 a) x := fun z => hlt z.1
      rw [if_neg hi, if_neg hi]
      exact ⟨rfl, H⟩
  · rw [h2 hL, atL_n hL, atS_n hL]
    exact sgX_remove_5 ⟨fun h => absurd h (by decide), fun _ => ⟨rfl, H⟩⟩
end
section
/-! the first's calls that ask: sum, packed, common, commonAt, tail -/
theorem fb_tail {f : Nat → Nat} {m N : Nat} (hm : m ≤ N) (h : ∀ p, m ≤ p → p < N → f p = 0) : fb_sm f N = fb_sm f m := by
  have h1 := fb_sm_split f m (N - m)
  rw [show m + (N - m) = N by omega] at h1
  rw [h1, fb_sm_cong (f := fun k => f (m + k)) (g := fun _ => 0) (fun k hk => h (m + k) (by omega) (by omega)), fb_sm_const, Nat.mul_zero, Nat.add_zero]
theorem lp_sum2 {post : Int32 → SX → Prop} {h b : Nat} {w : Nat → Nat} {F J x1 : Int32} (hh : h ≤ 8) (hb : b < 8) {sz la pk cd nb al : Nat → Int32} {cu : Int32} (hnb : ∀ i, i < h → nb i = nI (w (8 * b + i))) (hp : VX dX_sum post 54 [] [some (.inr 0), some (.inl x1), none, none, some (.inl F), some (.inl J), some (.inl (nI (fb_sm (smf w F J) (8 * b + h)))), some (.inl (nI (b + 1))), none] (sz, la, pk, nI h, cd, nb, al, cu)) : ∀ (m k : Nat), k + m = h → VX dX_sum post 87 [] [some (.inr 0), some (.inl x1), none, none, some (.inl F), some (.inl J), some (.inl (nI (fb_sm (smf w F J) (8 * b + k)))), some (.inl (nI b)), some (.inl (nI k))] (sz, la, pk, nI h, cd, nb, al, cu) := by
  intro m
  induction m with
  | zero =>
    intro k hk
    have e : k = h := by omega
    subst e
    refine sgX_sum_87 ⟨fun hl => ?_, fun _ => ?_⟩
    · rw [pd_lt (by omega) (by omega)] at hl
      omega
    · rw [nI_1]
      exact hp
  | succ m ih =>
    intro k hk
    have ih1 := ih (k + 1) (by omega)
    rw [show 8 * b + (k + 1) = 8 * b + k + 1 by omega, fb_sm_succ] at ih1
    refine sgX_sum_87 ⟨fun _ => ?_, fun hn => absurd ?_ hn⟩
    · rw [pd_k8, pd_cl (by omega), hnb k (by omega), nI_1]
      refine ⟨fun g => ?_, fun g => ⟨fun g2 => ?_, fun g2 => ⟨pd_in (by omega) (by omega), ?_⟩⟩⟩
      · have e : smf w F J (8 * b + k) = 0 := if_pos (Or.inl g)
        rw [e, Nat.add_zero] at ih1
        exact ih1
      · have e : smf w F J (8 * b + k) = 0 := if_pos (Or.inr g2)
        rw [e, Nat.add_zero] at ih1
        exact ih1
      · have e : smf w F J (8 * b + k) = w (8 * b + k) := if_neg (by
          rintro (z | z)
          · exact g z
          · exact g2 z)
        rw [e, ← nI_add] at ih1
        exact ih1
    · rw [pd_lt (by omega) (by omega)]
      omega
theorem lp_sum {post : Int32 → SX → Prop} {l n f j : Nat} {w : Nat → Nat} (hl : l < 2) {sz la pk al : Nat → Int32} (H : RL n w l sz la pk) (hfj : f ≤ j) (hjn : j < n) (hp : ∀ hd cd nb cu, post (nI (fb_sm (smf w (nI f) (nI j)) n)) (sz, la, pk, hd, cd, nb, al, cu)) : ∀ (m b : Nat) (hd : Int32) (cd nb : Nat → Int32) (cu : Int32), b + m = j / 8 + 1 → VX dX_sum post 54 [] [some (.inr 0), some (.inl (nI l)), none, none, some (.inl (nI f)), some (.inl (nI j)), some (.inl (nI (fb_sm (smf w (nI f) (nI j)) (min (8 * b) n)))), some (.inl (nI b)), none] (sz, la, pk, hd, cd, nb, al, cu) := by
  have h64 := H.1.1
  intro m
  induction m with
  | zero =>
    intro b hd cd nb cu hb
    refine sgX_sum_54 ?_
    rw [pd_shr3 (by omega), pd_lt (by omega) (by omega)]
    refine ⟨fun _ => ?_, fun hn => absurd (by omega) hn⟩
    have e : fb_sm (smf w (nI f) (nI j)) n = fb_sm (smf w (nI f) (nI j)) (min (8 * b) n) := fb_tail (by omega) (fun p h1 h2 => if_pos (Or.inr (by rw [pd_lt (by omega) (by omega)]; omega)))
    rw [← e]
    exact hp _ _ _ _
  | succ m ih =>
    intro b hd cd nb cu hb
    have h8 := hn_8 n b
    refine sgX_sum_54 ?_
    rw [pd_shr3 (by omega), pd_lt (by omega) (by omega)]
    refine ⟨fun hn => absurd hn (by omega), fun _ => ⟨fun _ => ⟨fun hn => ?_, fun _ => ?_⟩, fun hn => absurd ?_ hn⟩⟩
    · rw [pd_lt (by omega) (by omega)] at hn
      omega
    · refine csX_sum_81 (k_unpack (b := b) hl (by omega) H) ?_
      rintro r S1 ⟨cd1, nb1, rfl, -, hnb⟩
      refine sgX_sum_84 ?_
      have ih1 := ih (b + 1) (nI (hn n b)) cd1 nb1 (nI (bz w n b)) (by omega)
      rw [show min (8 * (b + 1)) n = 8 * b + hn n b by show _ = 8 * b + min 8 (n - 8 * b); omega] at ih1
      have h0 := lp_sum2 (w := w) (F := nI f) (J := nI j) h8 (by omega) hnb ih1 (hn n b) 0 (by omega)
      rw [show min (8 * b) n = 8 * b + 0 by omega]
      exact h0
    · rw [show (8 : Int32) = nI 8 from rfl, pd_lt (by omega) (by omega)]
      omega
theorem smf_adj {w : Nat → Nat} {i j F J : Int32} {N : Nat} (hN : N ≤ 64) (hF : F = if i < 0 then 0 else i) (hJ : J = if j < nI N then j else nI N - 1) {p : Nat} (hp : p < N) : smf w i j p = smf w F J p := by
  have e0 : (0 : Int32).toInt = 0 := rfl
  have e1 : (1 : Int32).toInt = 1 := rfl
  have eN := pd_ti (a := N) (by omega)
  have ep := pd_ti (a := p) (by omega)
  have eS : (nI N - 1).toInt = (N : Int) - 1 := by rw [fb_subI (by rw [eN, e1]; omega) (by rw [eN, e1]; omega), eN, e1]
  have h1 : nI p < i ↔ nI p < F := by
    rw [hF]
    by_cases h : i < 0
    · rw [if_pos h]
      rw [Int32.lt_iff_toInt_lt] at h
      rw [Int32.lt_iff_toInt_lt, Int32.lt_iff_toInt_lt]
      omega
    · rw [if_neg h]
  have h2 : j < nI p ↔ J < nI p := by
    rw [hJ]
    by_cases h : j < nI N
    · rw [if_pos h]
    · rw [if_neg h]
      rw [Int32.lt_iff_toInt_lt] at h
      rw [Int32.lt_iff_toInt_lt, Int32.lt_iff_toInt_lt]
      omega
  unfold smf
  simp only [h1, h2]
theorem fb_none {f : Nat → Nat} {N : Nat} (h : ∀ p, p < N → f p = 0) : fb_sm f N = 0 := fb_tail (Nat.zero_le N) (fun p _ hp => h p hp)
theorem go_sum {post : Int32 → SX → Prop} {l n f : Nat} {w : Nat → Nat} {J : Int32} (hl : l < 2) {sz la pk cd nb al : Nat → Int32} {hd cu : Int32} (H : RL n w l sz la pk) (hf : f < 2147483648) (hJ : J.toInt < n) (hp : ∀ hd cd nb cu, post (nI (fb_sm (smf w (nI f) J) n)) (sz, la, pk, hd, cd, nb, al, cu)) : VX dX_sum post 54 [] [some (.inr 0), some (.inl (nI l)), none, none, some (.inl (nI f)), some (.inl J), some (.inl 0), some (.inl (nI (f / 8))), none] (sz, la, pk, hd, cd, nb, al, cu) := by
  have h64 := H.1.1
  have ef := pd_ti hf
  by_cases hlt : J < nI f
  · have e : fb_sm (smf w (nI f) J) n = 0 := fb_none (fun p hpn => if_pos (by
      have ep := pd_ti (a := p) (by omega)
      rw [Int32.lt_iff_toInt_lt] at hlt
      rw [Int32.lt_iff_toInt_lt, Int32.lt_iff_toInt_lt]
      omega))
    rw [e] at hp
    exact sgX_sum_54 ⟨fun _ => hp _ _ _ _, fun _ => ⟨fun _ => ⟨fun _ => hp _ _ _ _, fun z => absurd hlt z⟩, fun _ => hp _ _ _ _⟩⟩
  · have h0 : ¬ J < 0 := by
      rw [Int32.lt_iff_toInt_lt] at hlt ⊢
      have e0 : (0 : Int32).toInt = 0 := rfl
      omega
    obtain ⟨jj, hjj, rfl⟩ := nI_of h0
    rw [pd_t31] at hjj
    rw [pd_lt hjj hf] at hlt
    rw [pd_ti hjj] at hJ
    have h1 := lp_sum hl H (show f ≤ jj by omega) (by omega) hp (jj / 8 + 1 - f / 8) (f / 8) hd cd nb cu (by omega)
    have e : fb_sm (smf w (nI f) (nI jj)) (min (8 * (f / 8)) n) = 0 := fb_none (fun p hpn => if_pos (Or.inl (by rw [pd_lt (by omega) hf]; omega)))
    rw [e] at h1
    exact h1
theorem X_sum {s : AS} {S : SX} {l i j : Int32} (H : QX s S) : CX yX0_sum dX_sum [l, i, j] S (fun r S1 => r = a_sum s l i j ∧ QX s S1) := by
  obtain ⟨sz, la, pk, hd, cd, nb, al, cu⟩ := S
  have H : RX s.1 s.2 sz la pk := H
  refine CX_of hyX_sum (Nat.le_of_ble_eq_true rfl) (rok_i _) (sgX_sum_0 (csX_sum_2 k_badList ?_))
  rintro r S1 ⟨rfl, h1, h2⟩
  unfold a_sum
  by_cases hL : isL l
  · obtain ⟨a, ha, rfl⟩ := isL_of hL
    have Ha := H a ha
    have h64 := Ha.1.1
    have eN := pd_ti (a := s.1 a) (by omega)
    have e1 : (1 : Int32).toInt = 1 := rfl
    have eS : (nI (s.1 a) - 1).toInt = (s.1 a : Int) - 1 := by rw [fb_subI (by rw [eN, e1]; omega) (by rw [eN, e1]; omega), eN, e1]
    rw [h1 hL, atL_y ha]
    have fin : ∀ F J : Int32, F = (if i < 0 then 0 else i) → J = (if j < nI (s.1 a) then j else nI (s.1 a) - 1) → VX dX_sum (fun r S1 => r = nI (fb_sm (smf (s.2 a) i j) (s.1 a)) ∧ QX s S1) 54 [] [some (.inr 0), some (.inl (nI a)), none, none, some (.inl F), some (.inl J), some (.inl 0), some (.inl (F >>> ((3 : Int32) &&& 31))), none] (sz, la, pk, hd, cd, nb, al, cu) := by
      intro F J hF hJ
      have hF0 : ¬ F < 0 := by
        rw [hF]
        by_cases h : i < 0
        · rw [if_pos h]; decide
        · rw [if_neg h]; exact h
      have hJN : J.toInt < s.1 a := by
        rw [hJ]
        by_cases h : j < nI (s.1 a)
        · rw [if_pos h]
          rw [Int32.lt_iff_toInt_lt, eN] at h
          exact h
        · rw [if_neg h, eS]
          omega
      have eq : fb_sm (smf (s.2 a) i j) (s.1 a) = fb_sm (smf (s.2 a) F J) (s.1 a) := fb_sm_cong (fun p hp => smf_adj h64 hF hJ hp)
      obtain ⟨f, hf, rfl⟩ := nI_of hF0
      rw [pd_t31] at hf
      rw [eq, pd_shr3 hf]
      exact go_sum ha Ha hf hJN (fun hd1 cd1 nb1 cu1 => ⟨rfl, H⟩)
    refine sgX_sum_5 ?_
    rw [pd_cl (by omega), Ha.2.1]
    exact ⟨fun _ => ⟨fun hi => ⟨pd_in ha (by omega), fun hj => fin _ _ (if_pos hi).symm (if_pos hj).symm, fun hj => ⟨pd_in ha (by omega), fin _ _ (if_pos hi).symm (if_neg hj).symm⟩⟩, fun hi => ⟨pd_in ha (by omega), fun hj => fin _ _ (if_neg hi).symm (if_pos hj).symm, fun hj => ⟨pd_in ha (by omega), fin _ _ (if_neg hi).symm (if_neg hj).symm⟩⟩⟩, fun h => absurd rfl h⟩
  · rw [h2 hL, atL_n hL]
    exact sgX_sum_5 ⟨fun h => absurd h (by decide), fun _ => ⟨rfl, H⟩⟩
theorem lp_packed2 {post : Int32 → SX → Prop} {l n A : Nat} {w : Nat → Nat} (hl : l < 2) {sz la pk al : Nat → Int32} (H : RL n w l sz la pk) (hp : ∀ hd cd nb cu, VX dX_packed post 4 [] [some (.inr 0), some (.inl (nI (A + fb_sm (fun b => bz w n b) ((n + 7) / 8)))), some (.inl (nI (l + 1))), none, none] (sz, la, pk, hd, cd, nb, al, cu)) : ∀ (m b : Nat) (hd : Int32) (cd nb : Nat → Int32) (cu : Int32), b + m = (n + 7) / 8 → VX dX_packed post 18 [] [some (.inr 0), some (.inl (nI (A + fb_sm (fun b => bz w n b) b))), some (.inl (nI l)), some (.inl (nI ((n + 7) / 8))), some (.inl (nI b))] (sz, la, pk, hd, cd, nb, al, cu) := by
  have h64 := H.1.1
  intro m
  induction m with
  | zero =>
    intro b hd cd nb cu hb
    have e : b = (n + 7) / 8 := by omega
    subst e
    refine sgX_packed_18 ⟨fun hlt => ?_, fun _ => ?_⟩
    · rw [pd_lt (by omega) (by omega)] at hlt
      omega
    · rw [nI_1]
      exact hp _ _ _ _
  | succ m ih =>
    intro b hd cd nb cu hb
    refine sgX_packed_18 ⟨fun _ => ?_, fun hn => absurd ?_ hn⟩
    · refine csX_packed_28 (k_unpack (b := b) hl (by omega) H) ?_
      rintro r S1 ⟨cd1, nb1, rfl, -, -⟩
      refine sgX_packed_31 ?_
      have ih1 := ih (b + 1) (nI (hn n b)) cd1 nb1 (nI (bz w n b)) (by omega)
      rw [fb_sm_succ, ← Nat.add_assoc] at ih1
      rw [nI_add, nI_1]
      exact ih1
    · rw [pd_lt (by omega) (by omega)]
      omega
theorem lp_packed {post : Int32 → SX → Prop} {s : AS} {sz la pk al : Nat → Int32} (H : RX s.1 s.2 sz la pk) (hp : ∀ hd cd nb cu, post (a_packed s) (sz, la, pk, hd, cd, nb, al, cu)) : ∀ (m l : Nat) (hd : Int32) (cd nb : Nat → Int32) (cu : Int32), l + m = 2 → VX dX_packed post 4 [] [some (.inr 0), some (.inl (nI (fb_sm (pkd s) l))), some (.inl (nI l)), none, none] (sz, la, pk, hd, cd, nb, al, cu) := by
  intro m
  induction m with
  | zero =>
    intro l hd cd nb cu hl
    have e : l = 2 := by omega
    subst e
    exact sgX_packed_4 ⟨fun hlt => absurd hlt (by decide +kernel), fun _ => hp _ _ _ _⟩
  | succ m ih =>
    intro l hd cd nb cu hl
    have hl2 : l < 2 := by omega
    refine sgX_packed_4 ⟨fun _ => csX_packed_11 (k_blockCount hl2 (H l hl2).2.1 (H l hl2).1.1) ?_, fun hn => absurd ?_ hn⟩
    · rintro r S1 ⟨rfl, rfl⟩
      refine sgX_packed_14 ?_
      have h0 := lp_packed2 (post := post) (A := fb_sm (pkd s) l) (al := al) hl2 (H l hl2) (fun hd1 cd1 nb1 cu1 => ih (l + 1) hd1 cd1 nb1 cu1 (by omega)) ((s.1 l + 7) / 8) 0 hd cd nb cu (by omega)
      exact h0
    · rw [show (2 : Int32) = nI 2 from rfl, pd_lt (by omega) (by omega)]
      omega
theorem X_packed {s : AS} {S : SX} (H : QX s S) : CX yX0_packed dX_packed [] S (fun r S1 => r = a_packed s ∧ QX s S1) := by
  obtain ⟨sz, la, pk, hd, cd, nb, al, cu⟩ := S
  have H : RX s.1 s.2 sz la pk := H
  exact CX_of hyX_packed (Nat.le_of_ble_eq_true rfl) (rok_i _) (sgX_packed_0 (lp_packed H (fun hd1 cd1 nb1 cu1 => ⟨rfl, H⟩) 2 0 hd cd nb cu (by omega)))
/-! numbers in both lists -/
def isNx (s : AS) (i p : Nat) : Prop := i ≤ p ∧ p ≤ s.1 0 ∧ (∀ j, i ≤ j → j < p → cmn s j = false) ∧ (p < s.1 0 → cmn s p = true)
theorem cmn_t {s : AS} {i : Nat} (h : inn (s.2 1) (s.1 1) (nI (s.2 0 i))) : cmn s i = true := decide_eq_true h
theorem cmn_f {s : AS} {i : Nat} (h : ¬ inn (s.2 1) (s.1 1) (nI (s.2 0 i))) : cmn s i = false := decide_eq_false h
theorem lp_next {post : Int32 → SX → Prop} {s : AS} {i : Nat} {sz la pk al : Nat → Int32} (H : RX s.1 s.2 sz la pk) (hp : ∀ p hd cd nb cu, isNx s i p → post (nI p) (sz, la, pk, hd, cd, nb, al, cu)) : ∀ (m t r : Nat) (hd : Int32) (cd nb : Nat → Int32) (cu : Int32), s.1 0 - t ≤ m → i ≤ t → t ≤ s.1 0 → r ≤ t → (∀ j, i ≤ j → j < t → cmn s j = false) → VX dX_nextCommon post 4 [] [some (.inr 0), none, some (.inl (nI t)), some (.inl (nI r)), none, none, none] (sz, la, pk, hd, cd, nb, al, cu) := by
  have H0 := H 0 (by omega)
  have H1 := H 1 (by omega)
  have h64 := H0.1.1
  have h641 := H1.1.1
  have c0 : (0 : Int32).toNatClampNeg = 0 := rfl
  have c1 : (1 : Int32).toNatClampNeg = 1 := rfl
  have i0 : vp_in 0 2 := pd_in (a := 0) (by omega) (by omega)
  have i1 : vp_in 1 2 := pd_in (a := 1) (by omega) (by omega)
  intro m
  induction m with
  | zero =>
    intro t r hd cd nb cu hm hit htn hrt hno
    have e : t = s.1 0 := by omega
    subst e
    refine sgX_nextCommon_4 ?_
    rw [c0, H0.2.1, show (64 : Int32) = nI 64 from rfl, pd_lt (by omega) (by omega), pd_lt (by omega) (by omega)]
    have hf := fun hd cd nb cu => hp (s.1 0) hd cd nb cu ⟨hit, Nat.le_refl _, hno, fun h => by omega⟩
    exact ⟨fun _ => ⟨i0, hf _ _ _ _⟩, fun _ => ⟨i0, fun h => absurd h (Nat.lt_irrefl _), fun _ => ⟨i0, hf _ _ _ _⟩⟩⟩
  | succ m ih =>
    intro t r hd cd nb cu hm hit htn hrt hno
    refine sgX_nextCommon_4 ?_
    rw [c0, H0.2.1, show (64 : Int32) = nI 64 from rfl, pd_lt (by omega) (by omega), pd_lt (by omega) (by omega)]
    refine ⟨fun h => absurd h (by omega), fun _ => ⟨i0, fun hlt => ?_, fun hge => ⟨i0, ?_⟩⟩⟩
    · have hx := H0.1.2.1 t hlt
      refine csX_nextCommon_23 (k_numberAt (l := 0) (by omega) hlt H0) ?_
      rintro r1 S1 ⟨rfl, hd1, cd1, nb1, cu1, rfl⟩
      refine sgX_nextCommon_26 (csX_nextCommon_32 (k_firstFrom (l := 1) (by omega) H1) ?_)
      rintro r1 S1 ⟨rfl, hd2, cd2, nb2, cu2, rfl, -⟩
      obtain ⟨q1, q2, q3⟩ := rk_is H1.1 (nI (s.2 0 t))
      refine sgX_nextCommon_35 ⟨i1, ?_⟩
      rw [c1, c0, H1.2.1, H0.2.1, pd_eq (by omega) (by omega)]
      refine ⟨fun e => ⟨i0, ?_⟩, fun e => ?_⟩
      · refine hp (s.1 0) _ _ _ _ ⟨by omega, Nat.le_refl _, fun j h1 h2 => ?_, fun h => by omega⟩
        by_cases hjt : j < t
        · exact hno j h1 hjt
        · refine cmn_f (fun hin => ?_)
          obtain ⟨k, hk, hkv⟩ := (inn_iff H1.1 _).mp hin
          have g1 := q2 k (by omega)
          have g2 := wfl_le H0.1 (show t ≤ j by omega) h2
          have g3 := H1.1.2.1 k hk
          have g4 := H0.1.2.1 j h2
          rw [pd_lt (by omega) (by omega)] at g1
          rw [pd_eq (by omega) (by omega)] at hkv
          omega
      · have hrn : rk (s.2 1) (s.1 1) (nI (s.2 0 t)) < s.1 1 := by omega
        have hy := H1.1.2.1 _ hrn
        refine csX_nextCommon_59 (k_numberAt (l := 1) (by omega) hrn H1) ?_
        rintro r1 S1 ⟨rfl, hd3, cd3, nb3, cu3, rfl⟩
        refine sgX_nextCommon_62 ⟨fun e2 => ?_, fun e2 => ?_⟩
        · exact hp t _ _ _ _ ⟨hit, htn, hno, fun _ => cmn_t ⟨hrn, e2⟩⟩
        · refine csX_nextCommon_77 (k_firstFrom (l := 0) (by omega) H0) ?_
          rintro r1 S1 ⟨rfl, hd4, cd4, nb4, cu4, rfl, -⟩
          refine sgX_nextCommon_80 ?_
          rw [nI_1]
          obtain ⟨p1, p2, p3⟩ := rk_is H0.1 (nI (s.2 1 (rk (s.2 1) (s.1 1) (nI (s.2 0 t)))))
          have hge := q3 _ (Nat.le_refl _) hrn
          rw [pd_lt (by omega) (by omega)] at hge
          rw [pd_eq (by omega) (by omega)] at e2
          have hgt : t < rk (s.2 0) (s.1 0) (nI (s.2 1 (rk (s.2 1) (s.1 1) (nI (s.2 0 t))))) := by
            rcases Nat.lt_or_ge t (rk (s.2 0) (s.1 0) (nI (s.2 1 (rk (s.2 1) (s.1 1) (nI (s.2 0 t)))))) with z | z
            · exact z
            · have := p3 t z hlt
              rw [pd_lt (by omega) (by omega)] at this
              omega
          refine ih _ (r + 1) _ _ _ _ (by omega) (by omega) p1 (by omega) (fun j h1 h2 => ?_)
          by_cases hjt : j < t
          · exact hno j h1 hjt
          · refine cmn_f (fun hin => ?_)
            obtain ⟨k, hk, hkv⟩ := (inn_iff H1.1 _).mp hin
            have g0 := H1.1.2.1 k hk
            have g4 := H0.1.2.1 j (by omega)
            have g5 := p2 j h2
            rw [pd_lt (by omega) (by omega)] at g5
            rw [pd_eq (by omega) (by omega)] at hkv
            have g2 := wfl_le H0.1 (show t ≤ j by omega) (by omega)
            by_cases hkr : k < rk (s.2 1) (s.1 1) (nI (s.2 0 t))
            · have g1 := q2 k hkr
              rw [pd_lt (by omega) (by omega)] at g1
              omega
            · have g1 := wfl_le H1.1 (show rk (s.2 1) (s.1 1) (nI (s.2 0 t)) ≤ k by omega) hk
              omega
    · have e : t = s.1 0 := by omega
      subst e
      exact hp (s.1 0) _ _ _ _ ⟨hit, Nat.le_refl _, hno, fun h => by omega⟩
theorem k_next {s : AS} {i : Nat} {sz la pk cd nb al : Nat → Int32} {hd cu : Int32} (H : RX s.1 s.2 sz la pk) (hi : i ≤ s.1 0) : CX yX0_nextCommon dX_nextCommon [nI i] (sz, la, pk, hd, cd, nb, al, cu) (fun r S1 => ∃ p hd1 cd1 nb1 cu1, r = nI p ∧ isNx s i p ∧ S1 = (sz, la, pk, hd1, cd1, nb1, al, cu1)) :=
  CX_of hyX_nextCommon (Nat.le_of_ble_eq_true rfl) (rok_i _) (sgX_nextCommon_0 (lp_next H (fun p hd1 cd1 nb1 cu1 h => ⟨p, hd1, cd1, nb1, cu1, rfl, h, rfl⟩) (s.1 0) i 0 hd cd nb cu (by omega) (Nat.le_refl _) hi (by omega) (fun j h1 h2 => by omega)))
theorem ct_same {p : Nat → Bool} {a b : Nat} (hab : a ≤ b) (h : ∀ j, a ≤ j → j < b → p j = false) : fb_ct p b = fb_ct p a := by
  have h1 := fb_ct_split p a (b - a)
  rw [show a + (b - a) = b by omega] at h1
  rw [h1, fb_ct_zero.mpr (fun k hk => h (a + k) (by omega) (by omega)), Nat.add_zero]
theorem ct_next {p : Nat → Bool} {a : Nat} (h : p a = true) : fb_ct p (a + 1) = fb_ct p a + 1 := by rw [fb_ct_succ, if_pos h]
theorem lp_common {post : Int32 → SX → Prop} {s : AS} {sz la pk al : Nat → Int32} (H : RX s.1 s.2 sz la pk) (hp : ∀ hd cd nb cu, post (a_common s) (sz, la, pk, hd, cd, nb, al, cu)) : ∀ (m p : Nat) (hd : Int32) (cd nb : Nat → Int32) (cu : Int32), s.1 0 - p ≤ m → p ≤ s.1 0 → (p < s.1 0 → cmn s p = true) → VX dX_common post 10 [] [some (.inr 0), some (.inl (nI (fb_ct (cmn s) p))), some (.inl (nI p)), some (.inl (nI (fb_ct (cmn s) p)))] (sz, la, pk, hd, cd, nb, al, cu) := by
  have H0 := H 0 (by omega)
  have h64 := H0.1.1
  have c0 : (0 : Int32).toNatClampNeg = 0 := rfl
  have i0 : vp_in 0 2 := pd_in (a := 0) (by omega) (by omega)
  intro m
  induction m with
  | zero =>
    intro p hd cd nb cu hm hpn hc
    have e : p = s.1 0 := by omega
    subst e
    have hct := fb_ct_le (cmn s) (s.1 0)
    refine sgX_common_10 ?_
    rw [c0, H0.2.1, pd_lt (by omega) (by omega)]
    exact ⟨fun _ => hp _ _ _ _, fun _ => ⟨i0, fun h => absurd h (Nat.lt_irrefl _), fun _ => hp _ _ _ _⟩⟩
  | succ m ih =>
    intro p hd cd nb cu hm hpn hc
    have hct := fb_ct_le (cmn s) p
    refine sgX_common_10 ?_
    rw [c0, H0.2.1, show (64 : Int32) = nI 64 from rfl, pd_lt (by omega) (by omega), pd_lt (by omega) (by omega)]
    refine ⟨fun h => absurd h (by omega), fun _ => ⟨i0, fun hlt => ?_, fun hge => ?_⟩⟩
    · rw [nI_1, nI_1]
      refine csX_common_33 (k_next H (by omega)) ?_
      rintro r S1 ⟨q, hd1, cd1, nb1, cu1, rfl, ⟨n1, n2, n3, n4⟩, rfl⟩
      refine sgX_common_36 ?_
      have e : fb_ct (cmn s) q = fb_ct (cmn s) p + 1 := by rw [ct_same n1 n3, ct_next (hc hlt)]
      have ih1 := ih q hd1 cd1 nb1 cu1 (by omega) n2 n4
      rw [e] at ih1
      rw [nI_1]
      exact ih1
    · have e : p = s.1 0 := by omega
      subst e
      exact hp _ _ _ _
theorem X_common {s : AS} {S : SX} (H : QX s S) : CX yX0_common dX_common [] S (fun r S1 => r = a_common s ∧ QX s S1) := by
  obtain ⟨sz, la, pk, hd, cd, nb, al, cu⟩ := S
  have H : RX s.1 s.2 sz la pk := H
  refine CX_of hyX_common (Nat.le_of_ble_eq_true rfl) (rok_i _) (sgX_common_0 (csX_common_4 (k_next (i := 0) H (by omega)) ?_))
  rintro r S1 ⟨q, hd1, cd1, nb1, cu1, rfl, ⟨n1, n2, n3, n4⟩, rfl⟩
  refine sgX_common_7 ?_
  have h0 := lp_common (al := al) (post := fun r S1 => r = a_common s ∧ QX s S1) H (fun hd1 cd1 nb1 cu1 => ⟨rfl, H⟩) (s.1 0) q hd1 cd1 nb1 cu1 (by omega) n2 n4
  have e : fb_ct (cmn s) q = 0 := by rw [ct_same n1 n3]; rfl
  rw [e] at h0
  exact h0
theorem kth_y {s : AS} {p k : Nat} (hp : p < s.1 0) (hc : cmn s p = true) (hk : fb_ct (cmn s) p = k) : kth s k = p := by
  have hle := fa_first_le (fun i => cmn s i && decide (fb_ct (cmn s) i = k)) (s.1 0)
  have ht : (cmn s p && decide (fb_ct (cmn s) p = k)) = true := by
    rw [hc, decide_eq_true hk]
    rfl
  have h1 : ¬ p < kth s k := fun h => by
    have := fa_first_no _ (s.1 0) p h
    rw [ht] at this
    cases this
  have h2 : kth s k < s.1 0 := by omega
  have h3 := fa_first_yes _ (s.1 0) h2
  have h4 : cmn s (kth s k) = true ∧ fb_ct (cmn s) (kth s k) = k := by
    have h3 : (cmn s (kth s k) && decide (fb_ct (cmn s) (kth s k) = k)) = true := h3
    rw [Bool.and_eq_true] at h3
    exact ⟨h3.1, of_decide_eq_true h3.2⟩
  exact fb_ct_kth_one h4.1 hc (h4.2.trans hk.symm)
theorem kth_n {s : AS} {k : Nat} (h : ∀ i, i < s.1 0 → cmn s i = true → fb_ct (cmn s) i ≠ k) : ¬ kth s k < s.1 0 := by
  intro hlt
  have h3 := fa_first_yes _ (s.1 0) hlt
  have h3 : (cmn s (kth s k) && decide (fb_ct (cmn s) (kth s k) = k)) = true := h3
  rw [Bool.and_eq_true] at h3
  exact h _ hlt h3.1 (of_decide_eq_true h3.2)
theorem lp_commonAt {post : Int32 → SX → Prop} {s : AS} {K : Nat} {sz la pk al : Nat → Int32} (hK : K < 2147483648) (H : RX s.1 s.2 sz la pk) (hp : ∀ hd cd nb cu, post (if kth s K < s.1 0 then nI (s.2 0 (kth s K)) else -4) (sz, la, pk, hd, cd, nb, al, cu)) : ∀ (m p : Nat) (hd : Int32) (cd nb : Nat → Int32) (cu : Int32), s.1 0 - p ≤ m → p ≤ s.1 0 → (p < s.1 0 → cmn s p = true) → fb_ct (cmn s) p ≤ K → VX dX_commonAt post 15 [] [some (.inr 0), some (.inl (nI K)), some (.inl (nI p)), some (.inl (nI (fb_ct (cmn s) p)))] (sz, la, pk, hd, cd, nb, al, cu) := by
  have H0 := H 0 (by omega)
  have h64 := H0.1.1
  have c0 : (0 : Int32).toNatClampNeg = 0 := rfl
  have i0 : vp_in 0 2 := pd_in (a := 0) (by omega) (by omega)
  have none_end : fb_ct (cmn s) (s.1 0) ≤ K → ∀ hd cd nb cu, post (-4) (sz, la, pk, hd, cd, nb, al, cu) := by
    intro hle hd cd nb cu
    have h1 := hp hd cd nb cu
    rw [if_neg (kth_n (fun i hi hc => by
      have h2 := fb_ct_mono (cmn s) (show i + 1 ≤ s.1 0 by omega)
      rw [ct_next hc] at h2
      omega))] at h1
    exact h1
  intro m
  induction m with
  | zero =>
    intro p hd cd nb cu hm hpn hc hk
    have e : p = s.1 0 := by omega
    subst e
    have hct := fb_ct_le (cmn s) (s.1 0)
    have hend := none_end hk
    refine sgX_commonAt_15 ?_
    rw [c0, H0.2.1, show (64 : Int32) = nI 64 from rfl, pd_lt (by omega) (by omega), pd_lt (by omega) (by omega), pd_lt (by omega) (by omega)]
    exact ⟨fun _ => ⟨fun h => absurd h (by omega), fun _ => ⟨i0, fun h => absurd h (Nat.lt_irrefl _), fun _ => ⟨i0, fun h => absurd h (Nat.lt_irrefl _), fun _ => hend _ _ _ _⟩⟩⟩, fun _ => ⟨i0, fun h => absurd h (Nat.lt_irrefl _), fun _ => hend _ _ _ _⟩⟩
  | succ m ih =>
    intro p hd cd nb cu hm hpn hc hk
    have hct := fb_ct_le (cmn s) p
    refine sgX_commonAt_15 ?_
    rw [c0, H0.2.1, show (64 : Int32) = nI 64 from rfl, pd_lt (by omega) (by omega), pd_lt (by omega) (by omega), pd_lt (by omega) (by omega)]
    have atend : ¬ p < s.1 0 → ∀ hd cd nb cu, post (-4) (sz, la, pk, hd, cd, nb, al, cu) := fun hge => none_end (by rw [show s.1 0 = p by omega]; exact hk)
    refine ⟨fun hlt => ⟨fun h => absurd h (by omega), fun _ => ⟨i0, fun hpl => ?_, fun hge => ⟨i0, fun h => absurd h hge, fun _ => atend hge _ _ _ _⟩⟩⟩, fun hge => ⟨i0, fun hpl => ?_, fun h => atend h _ _ _ _⟩⟩
    · rw [nI_1]
      refine csX_commonAt_40 (k_next H (by omega)) ?_
      rintro r S1 ⟨q, hd1, cd1, nb1, cu1, rfl, ⟨n1, n2, n3, n4⟩, rfl⟩
      refine sgX_commonAt_43 ?_
      have e : fb_ct (cmn s) q = fb_ct (cmn s) p + 1 := by rw [ct_same n1 n3, ct_next (hc hpl)]
      have ih1 := ih q hd1 cd1 nb1 cu1 (by omega) n2 n4 (by omega)
      rw [e] at ih1
      rw [nI_1]
      exact ih1
    · refine csX_commonAt_63 (k_numberAt (l := 0) (by omega) hpl H0) ?_
      rintro r S1 ⟨rfl, hd1, cd1, nb1, cu1, rfl⟩
      refine sgX_commonAt_66 ?_
      have h1 := hp hd1 cd1 nb1 cu1
      rw [kth_y hpl (hc hpl) (show fb_ct (cmn s) p = K by omega), if_pos hpl] at h1
      exact h1
theorem X_commonAt {s : AS} {S : SX} {k : Int32} (H : QX s S) : CX yX0_commonAt dX_commonAt [k] S (fun r S1 => r = a_commonAt s k ∧ QX s S1) := by
  obtain ⟨sz, la, pk, hd, cd, nb, al, cu⟩ := S
  have H : RX s.1 s.2 sz la pk := H
  unfold a_commonAt
  refine CX_of hyX_commonAt (Nat.le_of_ble_eq_true rfl) (rok_i _) (sgX_commonAt_0 ⟨fun h => ⟨(if_pos h).symm, H⟩, fun h => ?_⟩)
  rw [if_neg h]
  obtain ⟨K, hK, rfl⟩ := nI_of h
  rw [pd_t31] at hK
  rw [pd_cl hK]
  refine csX_commonAt_9 (k_next (i := 0) H (by omega)) ?_
  rintro r S1 ⟨q, hd1, cd1, nb1, cu1, rfl, ⟨n1, n2, n3, n4⟩, rfl⟩
  refine sgX_commonAt_12 ?_
  have e : fb_ct (cmn s) q = 0 := by rw [ct_same n1 n3]; rfl
  have h0 := lp_commonAt (al := al) (post := fun r S1 => r = (if kth s K < s.1 0 then nI (s.2 0 (kth s K)) else -4) ∧ QX s S1) hK H (fun hd1 cd1 nb1 cu1 => ⟨rfl, H⟩) (s.1 0) q hd1 cd1 nb1 cu1 (by omega) n2 n4 (by omega)
  rw [e] at h0
  exact h0
theorem lp_tail {post : Int32 → SX → Prop} {s : AS} {a : Nat} (ha : a < 2) {sz la pk al : Nat → Int32} (H : RX s.1 s.2 sz la pk) : ∀ (j : Nat) (x2 x3 : Int32) (hd : Int32) (cd nb : Nat → Int32) (cu : Int32), j ≤ s.1 a → ¬ x3 = 0 → (∀ hd cd nb cu, post (tlr s a j x2) (sz, la, pk, hd, cd, nb, al, cu)) → VX dX_tail post 25 [] [some (.inr 0), some (.inl (nI a)), some (.inl x2), some (.inl x3), some (.inl (nI j - 1)), none] (sz, la, pk, hd, cd, nb, al, cu) := by
  have Ha := H a ha
  have h64 := Ha.1.1
  intro j
  induction j with
  | zero =>
    intro x2 x3 hd cd nb cu hj h3 hp
    exact sgX_tail_25 ⟨fun _ => hp _ _ _ _, fun h => absurd pd_neg1 h⟩
  | succ j ih =>
    intro x2 x3 hd cd nb cu hj h3 hp
    refine sgX_tail_25 ⟨fun h => ?_, fun _ => ⟨fun h => absurd h h3, fun _ => ?_⟩⟩
    · rw [pd_m1] at h
      exact absurd h (pd_n0 (by omega))
    · rw [pd_m1]
      refine csX_tail_38 (k_numberAt ha (show j < s.1 a by omega) Ha) ?_
      rintro r S1 ⟨rfl, hd1, cd1, nb1, cu1, rfl⟩
      refine sgX_tail_41 ?_
      rw [show (1 : Int32) = nI 1 from rfl, pk_sub (by omega)]
      refine csX_tail_49 (X_has (s := s) H) ?_
      rintro r S1 ⟨rfl, hd2, cd2, nb2, cu2, rfl⟩
      have e : nI j + (-1) = nI j - 1 := by rw [Int32.sub_eq_add_neg]
      unfold a_has
      rw [atL_y (show 1 - a < 2 by omega)]
      by_cases hin : inn (s.2 (1 - a)) (s.1 (1 - a)) (nI (s.2 a j))
      · have e2 : tlr s a (j + 1) x2 = tlr s a j (nI (s.2 a j)) := if_pos hin
        rw [if_pos hin]
        refine sgX_tail_52 ⟨fun h => absurd h (by decide), fun _ => ?_⟩
        rw [e]
        exact ih _ _ _ _ _ _ (by omega) (by decide) (fun hd cd nb cu => by rw [← e2]; exact hp hd cd nb cu)
      · have e2 : tlr s a (j + 1) x2 = x2 := if_neg hin
        rw [e2] at hp
        rw [if_neg hin]
        exact sgX_tail_52 ⟨fun _ => sgX_tail_25 ⟨fun _ => hp _ _ _ _, fun _ => ⟨fun _ => hp _ _ _ _, fun h => absurd rfl h⟩⟩, fun h => absurd rfl h⟩
theorem X_tail {s : AS} {S : SX} {l : Int32} (H : QX s S) : CX yX0_tail dX_tail [l] S (fun r S1 => r = a_tail s l ∧ QX s S1) := by
  obtain ⟨sz, la, pk, hd, cd, nb, al, cu⟩ := S
  have H : RX s.1 s.2 sz la pk := H
  refine CX_of hyX_tail (Nat.le_of_ble_eq_true rfl) (rok_i _) (sgX_tail_0 (csX_tail_2 k_badList ?_))
  rintro r S1 ⟨rfl, h1, h2⟩
  unfold a_tail
  by_cases hL : isL l
  · obtain ⟨a, ha, rfl⟩ := isL_of hL
    rw [h1 hL, atL_y ha]
    refine sgX_tail_5 ⟨fun _ => ⟨pd_in ha (by omega), ?_⟩, fun h => absurd rfl h⟩
    rw [pd_cl (by omega), (H a ha).2.1]
    exact lp_tail ha H (s.1 a) (-4) 1 hd cd nb cu (Nat.le_refl _) (by decide) (fun hd1 cd1 nb1 cu1 => ⟨rfl, H⟩)
  · rw [h2 hL, atL_n hL]
    exact sgX_tail_5 ⟨fun h => absurd h (by decide), fun _ => ⟨rfl, H⟩⟩
end
section
/-! the reference's calls, part one -/
def ML (n : Nat) (w : Nat → Nat) (l : Nat) (nu zs : Nat → Int32) : Prop := wfl n w ∧ zs l = nI n ∧ ∀ i, i < n → nu (64 * l + i) = nI (w i)
theorem QM_at {s : AS} {nu zs : Nat → Int32} (H : QM s (nu, zs)) {a : Nat} (ha : a < 2) : ML (s.1 a) (s.2 a) a nu zs := H a ha
theorem QM_up {s : AS} {nu zs nu1 zs1 : Nat → Int32} {a n1 : Nat} {w1 : Nat → Nat} (H : QM s (nu, zs)) (HL : ML n1 w1 a nu1 zs1) (h1 : ∀ l1, l1 < 2 → l1 ≠ a → zs1 l1 = zs l1) (h2 : ∀ l1 i, l1 < 2 → l1 ≠ a → i < 64 → nu1 (64 * l1 + i) = nu (64 * l1 + i)) : QM (va_up s.1 a n1, va_up s.2 a w1) (nu1, zs1) := by
  intro l1 hl1
  show ML (va_up s.1 a n1 l1) (va_up s.2 a w1 l1) l1 nu1 zs1
  by_cases e : l1 = a
  · subst e
    rw [up_s, up_s]
    exact HL
  · rw [up_n e, up_n e]
    obtain ⟨Hw, Hs, Hv⟩ := QM_at H hl1
    exact ⟨Hw, (h1 l1 hl1 e).trans Hs, fun i hi => (h2 l1 i hl1 e (by have := Hw.1; omega)).trans (Hv i hi)⟩
theorem QM_cong {s s1 : AS} {S : SM} (h : ∀ l, l < 2 → s1.1 l = s.1 l ∧ ∀ i, i < s.1 l → s1.2 l i = s.2 l i) (H : QM s S) : QM s1 S := by
  intro l hl
  obtain ⟨Hw, Hs, Hv⟩ := H l hl
  rw [(h l hl).1]
  exact ⟨wfl_cong (h l hl).2 Hw, Hs, fun i hi => by rw [(h l hl).2 i hi]; exact Hv i hi⟩
theorem pd_k64 (l b : Nat) : 64 * nI l + nI b = nI (64 * l + b) := by rw [show (64 : Int32) = nI 64 from rfl, pk_mul, nI_add]
theorem rokM_i (post : Int32 → SM → Prop) : ∀ v S1, post v S1 → rok (some .int) v := fun _ _ _ => rfl
theorem rokM_v (post : Int32 → SM → Prop) : ∀ v S1, post v S1 → rok none v := fun _ _ _ => trivial
theorem m_isList {l : Int32} {S : SM} : CM yX1_isList dM_isList [l] S (fun r S1 => S1 = S ∧ (isL l → r = 1) ∧ (¬ isL l → r = 0)) := by
  obtain ⟨nu, zs⟩ := S
  refine CM_of hyM_isList (Nat.le_of_ble_eq_true rfl) ?_ (sgM_isList_0 ⟨fun h => ⟨rfl, fun _ => rfl, fun z => absurd (Or.inl h) z⟩, fun h0 => ⟨fun h => ⟨rfl, fun _ => rfl, fun z => absurd (Or.inr h) z⟩, fun h => ⟨rfl, fun z => ?_, fun _ => rfl⟩⟩⟩)
  · rintro v S1 ⟨-, h1, h2⟩
    by_cases h : isL l
    · exact rok_b (Or.inr (h1 h))
    · exact rok_b (Or.inl (h2 h))
  · rcases z with z | z
    · exact absurd z h0
    · exact absurd z h
theorem m_isNumber {x : Int32} {S : SM} : CM yX1_isNumber dM_isNumber [x] S (fun r S1 => S1 = S ∧ (isN x → r = 1) ∧ (¬ isN x → r = 0)) := by
  obtain ⟨nu, zs⟩ := S
  refine CM_of hyM_isNumber (Nat.le_of_ble_eq_true rfl) ?_ (sgM_isNumber_0 ⟨fun h => ⟨rfl, fun z => absurd z (isN_n h), fun _ => rfl⟩, fun h0 => ⟨fun h => ⟨rfl, fun z => absurd z (isN_n1 h), fun _ => rfl⟩, fun h => ⟨rfl, fun _ => rfl, fun z => absurd (isN_x h0 h) z⟩⟩⟩)
  rintro v S1 ⟨-, h1, h2⟩
  by_cases h : isN x
  · exact rok_b (Or.inr (h1 h))
  · exact rok_b (Or.inl (h2 h))
theorem m_lastOf {a n : Nat} {w : Nat → Nat} (ha : a < 2) {nu zs : Nat → Int32} (H : ML n w a nu zs) : CM yX1_lastOf dM_lastOf [nI a] (nu, zs) (fun r S1 => S1 = (nu, zs) ∧ r = bf w n) := by
  obtain ⟨Hw, Hs, Hv⟩ := H
  have h64 := Hw.1
  refine CM_of hyM_lastOf (Nat.le_of_ble_eq_true rfl) (rokM_i _) (sgM_lastOf_0 ⟨pd_in ha (by omega), ?_⟩)
  rw [pd_cl (by omega), Hs]
  refine ⟨fun h0 => ⟨rfl, ?_⟩, fun h0 => ⟨pd_in ha (by omega), ?_⟩⟩
  · rw [← nI_0, pd_eq (by omega) (by omega)] at h0
    rw [h0]
    rfl
  · rw [← nI_0, pd_eq (by omega) (by omega)] at h0
    rw [pd_k64, show (1 : Int32) = nI 1 from rfl, pk_sub (by omega), pd_cl (by omega)]
    refine ⟨pd_in (by omega) (by omega), rfl, ?_⟩
    rw [show 64 * a + n - 1 = 64 * a + (n - 1) by omega, Hv (n - 1) (by omega)]
    unfold bf
    rw [if_neg (by omega)]
theorem m_put {s : AS} {a y : Nat} (ha : a < 2) {nu zs : Nat → Int32} (H : QM s (nu, zs)) (hy : y ≤ 1000000) (h64 : s.1 a < 64) (hg : ∀ i, i < s.1 a → s.2 a i < y) : CM yX1_put dM_put [nI a, nI y] (nu, zs) (fun _ S1 => QM (push s a y) S1) := by
  obtain ⟨Hw, Hs, Hv⟩ := QM_at H ha
  refine CM_of hyM_put (Nat.le_of_ble_eq_true rfl) (rokM_v _) (sgM_put_0 ⟨pd_in ha (by omega), ?_⟩)
  rw [pd_cl (by omega), Hs, pd_k64, pd_cl (by omega), nI_1]
  refine ⟨pd_in (by omega) (by omega), pd_in ha (by omega), pd_in ha (by omega), ?_⟩
  refine QM_up H ⟨wfl_push Hw hy h64 hg, pk_us, fun i hi => ?_⟩ (fun l1 _ e => pk_un e) (fun l1 i _ e hi => pk_un (by omega))
  by_cases e : i = s.1 a
  · rw [e, pk_us, up_s]
  · rw [pk_un (by omega), up_n e]
    exact Hv i (by omega)
theorem M_size {s : AS} {S : SM} {l : Int32} (H : QM s S) : CM yX1_size dM_size [l] S (fun r S1 => r = a_size s l ∧ QM s S1) := by
  obtain ⟨nu, zs⟩ := S
  refine CM_of hyM_size (Nat.le_of_ble_eq_true rfl) (rokM_i _) (sgM_size_0 (csM_size_2 m_isList ?_))
  rintro r S1 ⟨rfl, h1, h2⟩
  unfold a_size
  by_cases hL : isL l
  · obtain ⟨a, ha, rfl⟩ := isL_of hL
    rw [h1 hL, atL_y ha]
    refine sgM_size_5 ⟨fun h => absurd h (by decide), fun _ => ⟨pd_in ha (by omega), ?_, H⟩⟩
    rw [pd_cl (by omega), (QM_at H ha).2.1]
  · rw [h2 hL, atL_n hL]
    exact sgM_size_5 ⟨fun _ => ⟨rfl, H⟩, fun h => absurd rfl h⟩
theorem M_clear {s : AS} {S : SM} {l : Int32} (H : QM s S) : CM yX1_clear dM_clear [l] S (fun r S1 => r = a_size s l ∧ QM (t_clear s l) S1) := by
  obtain ⟨nu, zs⟩ := S
  refine CM_of hyM_clear (Nat.le_of_ble_eq_true rfl) (rokM_i _) (sgM_clear_0 (csM_clear_2 m_isList ?_))
  rintro r S1 ⟨rfl, h1, h2⟩
  unfold a_size t_clear
  by_cases hL : isL l
  · obtain ⟨a, ha, rfl⟩ := isL_of hL
    rw [h1 hL, atL_y ha, atS_y ha]
    refine sgM_clear_5 ⟨fun h => absurd h (by decide), fun _ => ⟨pd_in ha (by omega), pd_in ha (by omega), ?_, ?_⟩⟩
    · rw [pd_cl (by omega), (QM_at H ha).2.1]
    · rw [pd_cl (by omega), ← va_self s.2 a]
      exact QM_up H ⟨⟨by omega, fun i hi => absurd hi (Nat.not_lt_zero i), fun i j _ hj => absurd hj (Nat.not_lt_zero j)⟩, pk_us, fun i hi => absurd hi (Nat.not_lt_zero i)⟩ (fun l1 _ e => pk_un e) (fun l1 i _ _ _ => rfl)
  · rw [h2 hL, atL_n hL, atS_n hL]
    exact sgM_clear_5 ⟨fun _ => ⟨rfl, H⟩, fun h => absurd rfl h⟩
theorem M_at {s : AS} {S : SM} {l i : Int32} (H : QM s S) : CM yX1_at dM_at [l, i] S (fun r S1 => r = a_at s l i ∧ QM s S1) := by
  obtain ⟨nu, zs⟩ := S
  refine CM_of hyM_at (Nat.le_of_ble_eq_true rfl) (rokM_i _) (sgM_at_0 (csM_at_2 m_isList ?_))
  rintro r S1 ⟨rfl, h1, h2⟩
  unfold a_at
  by_cases hL : isL l
  · obtain ⟨a, ha, rfl⟩ := isL_of hL
    obtain ⟨Hw, Hs, Hv⟩ := QM_at H ha
    have h64 := Hw.1
    rw [h1 hL, atL_y ha]
    refine sgM_at_5 ⟨fun h => absurd h (by decide), fun _ => ⟨fun h0 => ⟨(if_pos (Or.inl h0)).symm, H⟩, fun h0 => ⟨pd_in ha (by omega), ?_⟩⟩⟩
    rw [pd_cl (by omega), Hs]
    refine ⟨fun hlt => ?_, fun hlt => ⟨(if_pos (Or.inr hlt)).symm, H⟩⟩
    have hc : ¬ (i < 0 ∨ ¬ i < nI (s.1 a)) := by
      rintro (z | z)
      · exact h0 z
      · exact z hlt
    obtain ⟨j, hj, rfl⟩ := nI_of h0
    rw [pd_t31] at hj
    rw [pd_lt hj (by omega)] at hlt
    rw [pd_k64, pd_cl (by omega)]
    refine ⟨pd_in (by omega) (by omega), ?_, H⟩
    rw [if_neg hc, pd_cl hj, Hv j hlt]
  · rw [h2 hL, atL_n hL]
    exact sgM_at_5 ⟨fun _ => ⟨rfl, H⟩, fun h => absurd rfl h⟩
theorem lp_mseek {post : Int32 → SM → Prop} {a n : Nat} {w : Nat → Nat} {x : Int32} (ha : a < 2) {nu zs : Nat → Int32} (H : ML n w a nu zs) (hp : post (if rk w n x = n then -4 else nI (rk w n x)) (nu, zs)) : ∀ (m i : Nat), i + m = n → (∀ j, j < i → nI (w j) < x) → VM dM_seek post 12 [] [some (.inr 0), some (.inl (nI a)), some (.inl x), some (.inl (nI i))] (nu, zs) := by
  obtain ⟨Hw, Hs, Hv⟩ := H
  have h64 := Hw.1
  intro m
  induction m with
  | zero =>
    intro i hi hlt
    have e : i = n := by omega
    subst e
    have e2 : i = rk w i x := rk_eq Hw ⟨Nat.le_refl _, hlt, fun j h1 h2 => by omega⟩
    rw [if_pos e2.symm] at hp
    refine sgM_seek_12 ⟨pd_in ha (by omega), fun h => ?_, fun _ => hp⟩
    rw [pd_cl (by omega), Hs, pd_lt (by omega) (by omega)] at h
    omega
  | succ m ih =>
    intro i hi hlt
    refine sgM_seek_12 ⟨pd_in ha (by omega), fun _ => ?_, fun h => absurd ?_ h⟩
    · rw [pd_k64, pd_cl (by omega), Hv i (by omega), nI_1]
      refine ⟨pd_in (by omega) (by omega), fun g => ih (i + 1) (by omega) (fun j hj => ?_), fun g => ?_⟩
      · by_cases e : j = i
        · rw [e]; exact g
        · exact hlt j (by omega)
      · have e2 : i = rk w n x := rk_eq Hw ⟨by omega, hlt, fun j h1 h2 z => g (lt_mono (wfl_le Hw h1 h2) (Hw.2.1 j h2) z)⟩
        rw [if_neg (by omega), ← e2] at hp
        exact hp
    · rw [pd_cl (by omega), Hs, pd_lt (by omega) (by omega)]
      omega
theorem M_seek {s : AS} {S : SM} {l x : Int32} (H : QM s S) : CM yX1_seek dM_seek [l, x] S (fun r S1 => r = a_seek s l x ∧ S1 = S) := by
  obtain ⟨nu, zs⟩ := S
  refine CM_of hyM_seek (Nat.le_of_ble_eq_true rfl) (rokM_i _) (sgM_seek_0 (csM_seek_2 m_isList ?_))
  rintro r S1 ⟨rfl, h1, h2⟩
  unfold a_seek
  by_cases hL : isL l
  · obtain ⟨a, ha, rfl⟩ := isL_of hL
    rw [h1 hL, atL_y ha]
    exact sgM_seek_5 ⟨fun h => absurd h (by decide), fun _ => lp_mseek ha (QM_at H ha) ⟨rfl, rfl⟩ (s.1 a) 0 (by omega) (fun j hj => by omega)⟩
  · rw [h2 hL, atL_n hL]
    exact sgM_seek_5 ⟨fun _ => ⟨rfl, rfl⟩, fun h => absurd rfl h⟩
theorem lp_mhas {post : Int32 → SM → Prop} {a n : Nat} {w : Nat → Nat} {x : Int32} (ha : a < 2) {nu zs : Nat → Int32} (H : ML n w a nu zs) (hp : post (if inn w n x then 1 else 0) (nu, zs)) : ∀ (m i : Nat), i + m = n → (∀ j, j < i → ¬ nI (w j) = x) → VM dM_has post 12 [] [some (.inr 0), some (.inl (nI a)), some (.inl x), some (.inl (nI i))] (nu, zs) := by
  obtain ⟨Hw, Hs, Hv⟩ := H
  have h64 := Hw.1
  intro m
  induction m with
  | zero =>
    intro i hi hlt
    have e : i = n := by omega
    subst e
    have e2 : ¬ inn w i x := fun h => by
      obtain ⟨j, hj, hjv⟩ := (inn_iff Hw x).mp h
      exact hlt j hj hjv
    rw [if_neg e2] at hp
    refine sgM_has_12 ⟨pd_in ha (by omega), fun h => ?_, fun _ => hp⟩
    rw [pd_cl (by omega), Hs, pd_lt (by omega) (by omega)] at h
    omega
  | succ m ih =>
    intro i hi hlt
    refine sgM_has_12 ⟨pd_in ha (by omega), fun _ => ?_, fun h => absurd ?_ h⟩
    · rw [pd_k64, pd_cl (by omega), Hv i (by omega), nI_1]
      refine ⟨pd_in (by omega) (by omega), fun g => ?_, fun g => ih (i + 1) (by omega) (fun j hj => ?_)⟩
      · rw [if_pos ((inn_iff Hw x).mpr ⟨i, by omega, g⟩)] at hp
        exact hp
      · by_cases e : j = i
        · rw [e]; exact g
        · exact hlt j (by omega)
    · rw [pd_cl (by omega), Hs, pd_lt (by omega) (by omega)]
      omega
theorem M_has {s : AS} {S : SM} {l x : Int32} (H : QM s S) : CM yX1_has dM_has [l, x] S (fun r S1 => r = a_has s l x ∧ S1 = S) := by
  obtain ⟨nu, zs⟩ := S
  refine CM_of hyM_has (Nat.le_of_ble_eq_true rfl) ?_ (sgM_has_0 (csM_has_2 m_isList ?_))
  · rintro v S1 ⟨rfl, -⟩
    refine rok_b ?_
    unfold a_has atL
    split
    · dsimp only
      split
      · exact Or.inr rfl
      · exact Or.inl rfl
    · exact Or.inl rfl
  rintro r S1 ⟨rfl, h1, h2⟩
  unfold a_has
  by_cases hL : isL l
  · obtain ⟨a, ha, rfl⟩ := isL_of hL
    rw [h1 hL, atL_y ha]
    exact sgM_has_5 ⟨fun h => absurd h (by decide), fun _ => lp_mhas ha (QM_at H ha) ⟨rfl, rfl⟩ (s.1 a) 0 (by omega) (fun j hj => by omega)⟩
  · rw [h2 hL, atL_n hL]
    exact sgM_has_5 ⟨fun _ => ⟨rfl, rfl⟩, fun h => absurd rfl h⟩
theorem M_append {s : AS} {S : SM} {l x : Int32} (H : QM s S) : CM yX1_append dM_append [l, x] S (fun r S1 => r = a_append s l x ∧ QM (t_append s l x) S1) := by
  obtain ⟨nu, zs⟩ := S
  refine CM_of hyM_append (Nat.le_of_ble_eq_true rfl) (rokM_i _) (sgM_append_0 (csM_append_2 m_isList ?_))
  rintro r S1 ⟨rfl, h1, h2⟩
  unfold a_append t_append
  by_cases hL : isL l
  · obtain ⟨a, ha, rfl⟩ := isL_of hL
    have Ha := QM_at H ha
    have h64 := Ha.1.1
    rw [h1 hL, atL_y ha, atS_y ha]
    refine sgM_append_5 ⟨fun h => absurd h (by decide), fun _ => csM_append_10 m_isNumber ?_⟩
    rintro r S1 ⟨rfl, g1, g2⟩
    by_cases hN : isN x
    · have hnN := nN_n hN
      obtain ⟨y, hy, rfl⟩ := hN
      rw [g1 ⟨y, hy, rfl⟩]
      refine sgM_append_13 ⟨fun h => absurd h (by decide), fun _ => csM_append_19 (m_lastOf ha Ha) ?_⟩
      rintro r S1 ⟨rfl, rfl⟩
      refine sgM_append_22 ⟨fun hlt => ⟨pd_in ha (by omega), ?_⟩, fun hlt => ?_⟩
      · have hc : ¬ (nN (nI y) ∨ ¬ bf (s.2 a) (s.1 a) < nI y) := by
          rintro (z | z)
          · exact hnN z
          · exact z hlt
        rw [if_neg hc, if_neg hc, pd_cl (by omega), Ha.2.1, show (64 : Int32) = nI 64 from rfl, pd_eq (by omega) (by omega)]
        refine ⟨fun e => ?_, fun e => ?_⟩
        · rw [if_pos e, if_pos e]
          exact ⟨rfl, H⟩
        · rw [if_neg e, if_neg e]
          refine csM_append_44 (m_put ha H hy (by omega) (fun i hi => ?_)) ?_
          · have e2 : bf (s.2 a) (s.1 a) = nI (s.2 a (s.1 a - 1)) := by
              unfold bf
              rw [if_neg (by omega)]
            rw [e2] at hlt
            have h5 := Ha.1.2.1 (s.1 a - 1) (by omega)
            rw [pd_lt (by omega) (by omega)] at hlt
            have := wfl_le Ha.1 (show i ≤ s.1 a - 1 by omega) (by omega)
            omega
          · rintro r ⟨nu1, zs1⟩ HR
            have h6 : zs1 a = nI (va_up s.1 a (s.1 a + 1) a) := (HR a ha).2.1
            rw [up_s] at h6
            refine sgM_append_47 ⟨pd_in ha (by omega), ?_, ?_⟩
            · rw [pd_cl (by omega), h6]
            · rw [pd_cl (by omega)]
              exact HR
      · have hc : nN (nI y) ∨ ¬ bf (s.2 a) (s.1 a) < nI y := Or.inr hlt
        rw [if_pos hc, if_pos hc]
        exact ⟨rfl, H⟩
    · have hc : nN x ∨ ¬ bf (s.2 a) (s.1 a) < x := Or.inl (nN_y hN)
      rw [g2 hN, if_pos hc, if_pos hc]
      exact sgM_append_13 ⟨fun _ => ⟨rfl, H⟩, fun h => absurd rfl h⟩
  · rw [h2 hL, atL_n hL, atS_n hL]
    exact sgM_append_5 ⟨fun _ => ⟨rfl, H⟩, fun h => absurd rfl h⟩
theorem lp_mrun {post : Int32 → SM → Prop} {s : AS} {a K T : Nat} (ha : a < 2) (hT : 1 ≤ T) (hK : s.1 a + K ≤ 64) (hm : bi (s.2 a) (s.1 a) + (K * T : Nat) ≤ 1000000) (hp : ∀ S, QM (gon s a K T) S → post (nI (s.1 a + K)) S) : ∀ (m j : Nat) (S : SM), j + m = K → QM (gon s a j T) S → VM dM_run post 67 [] [some (.inr 0), some (.inl (nI a)), some (.inl (nI K)), some (.inl (nI T)), some (.inl (nI j)), none] S := by
  intro m
  induction m with
  | zero =>
    intro j S hj H
    have e : j = K := by omega
    subst e
    obtain ⟨nu, zs⟩ := S
    have Hs := (QM_at H ha).2.1
    rw [gon_s] at Hs
    refine sgM_run_67 ⟨fun h => ?_, fun _ => ⟨pd_in ha (by omega), ?_⟩⟩
    · rw [pd_lt (by omega) (by omega)] at h
      omega
    · rw [pd_cl (by omega), Hs]
      exact hp _ H
  | succ m ih =>
    intro j S hj H
    obtain ⟨nu, zs⟩ := S
    have Ha := QM_at H ha
    rw [gon_s, gon_v] at Ha
    have Hw := Ha.1
    have htop := gv_top (w := s.2 a) (N := s.1 a) hT j
    have hle : (j + 1) * T ≤ K * T := Nat.mul_le_mul_right T (by omega)
    refine sgM_run_67 ⟨fun _ => csM_run_75 (m_lastOf ha Ha) ?_, fun hn => absurd ?_ hn⟩
    · rintro r S1 ⟨rfl, rfl⟩
      refine sgM_run_78 ?_
      rw [gv_bf (by omega) hT]
      refine csM_run_86 (m_put (y := gv (s.2 a) (s.1 a) T (s.1 a + j)) ha H (by omega) (by rw [gon_s]; omega) (fun i hi => ?_)) ?_
      · rw [gon_s] at hi
        rw [gon_v]
        have h1 := wfl_le Hw (show i ≤ s.1 a + j - 1 by omega) (by omega)
        have h2 := gv_s (w := s.2 a) (N := s.1 a) (T := T) (m := s.1 a + j - 1) (by omega) hT
        rw [show s.1 a + j - 1 + 1 = s.1 a + j by omega] at h2
        omega
      · rintro r ⟨nu1, zs1⟩ HR
        refine sgM_run_89 ?_
        rw [nI_1]
        refine ih (j + 1) _ (by omega) (QM_cong (fun l1 hl1 => ?_) HR)
        unfold push
        dsimp only
        by_cases e : l1 = a
        · subst e
          rw [up_s, up_s, gon_s, gon_s, gon_v, gon_v]
          refine ⟨by omega, fun i hi => ?_⟩
          by_cases e2 : i = s.1 l1 + j
          · rw [e2, up_s]
          · rw [up_n e2]
        · rw [up_n e, up_n e]
          unfold gon
          dsimp only
          rw [up_n e, up_n e, up_n e]
          exact ⟨rfl, fun i _ => rfl⟩
    · rw [pd_lt (by omega) (by omega)]
      omega
theorem M_run {s : AS} {S : SM} {l k t : Int32} (H : QM s S) : CM yX1_run dM_run [l, k, t] S (fun r S1 => r = a_run s l k t ∧ QM (t_run s l k t) S1) := by
  obtain ⟨nu, zs⟩ := S
  refine CM_of hyM_run (Nat.le_of_ble_eq_true rfl) (rokM_i _) (sgM_run_0 (csM_run_2 m_isList ?_))
  rintro r S1 ⟨rfl, h1, h2⟩
  unfold a_run t_run
  by_cases hL : isL l
  · obtain ⟨a, ha, rfl⟩ := isL_of hL
    have Ha := QM_at H ha
    have h64 := Ha.1.1
    rw [h1 hL, atL_y ha, atS_y ha]
    have bad : nR k t → -1 = (if nR k t then -1 else if 64 < nI (s.1 a) + k then -2 else if 1000000 < bf (s.2 a) (s.1 a) + k * t then -1 else nI (s.1 a + k.toNatClampNeg)) ∧ QM (if nR k t then s else if 64 < nI (s.1 a) + k then s else if 1000000 < bf (s.2 a) (s.1 a) + k * t then s else gon s a k.toNatClampNeg t.toNatClampNeg) (nu, zs) := fun h => by
      rw [if_pos h, if_pos h]
      exact ⟨rfl, H⟩
    refine sgM_run_5 ⟨fun h => absurd h (by decide), fun _ => ⟨fun z => bad (Or.inl z), fun g1 => ⟨fun z => bad (Or.inr (Or.inl z)), fun g2 => ⟨fun z => bad (Or.inr (Or.inr (Or.inl z))), fun g3 => ⟨fun z => bad (Or.inr (Or.inr (Or.inr z))), fun g4 => ⟨pd_in ha (by omega), ?_⟩⟩⟩⟩⟩⟩
    have hR : ¬ nR k t := by
      rintro (z | z | z | z)
      · exact g1 z
      · exact g2 z
      · exact g3 z
      · exact g4 z
    have g5 : ¬ t < 0 := by
      intro z
      apply g3
      rw [Int32.lt_iff_toInt_lt] at z ⊢
      have e0 : (0 : Int32).toInt = 0 := rfl
      have e1 : (1 : Int32).toInt = 1 := rfl
      omega
    obtain ⟨K, hK, rfl⟩ := nI_of g1
    obtain ⟨T, hT, rfl⟩ := nI_of g5
    rw [pd_t31] at hK hT
    rw [show (64 : Int32) = nI 64 from rfl, pd_lt (by omega) hK] at g2
    rw [show (1 : Int32) = nI 1 from rfl, pd_lt hT (by omega)] at g3
    rw [show (1000 : Int32) = nI 1000 from rfl, pd_lt (by omega) hT] at g4
    rw [if_neg hR, if_neg hR, pd_cl (by omega), pd_cl (by omega), pd_cl (by omega), Ha.2.1]
    refine ⟨fun z => ?_, fun z => ?_⟩
    · rw [if_pos z, if_pos z]
      exact ⟨rfl, H⟩
    · rw [if_neg z, if_neg z]
      rw [nI_add, show (64 : Int32) = nI 64 from rfl, pd_lt (by omega) (by omega)] at z
      refine csM_run_50 (m_lastOf ha Ha) ?_
      rintro r S1 ⟨rfl, rfl⟩
      have hrg := run_gt Ha.1 (show K ≤ 64 by omega) (show T ≤ 1000 by omega)
      refine sgM_run_53 ⟨fun h3 => ?_, fun hng => ?_⟩
      · rw [if_pos h3, if_pos h3]
        exact ⟨rfl, H⟩
      · rw [if_neg hng, if_neg hng]
        refine lp_mrun (s := s) ha (show 1 ≤ T by omega) (show s.1 a + K ≤ 64 by omega) (by rw [hrg] at hng; omega) (fun S hS => ⟨rfl, hS⟩) K 0 (nu, zs) (by omega) (QM_cong (fun l1 hl1 => ?_) H)
        by_cases e : l1 = a
        · subst e
          rw [gon_s, gon_v]
          exact ⟨by omega, fun i hi => gv_lo hi⟩
        · unfold gon
          dsimp only
          rw [up_n e]
          exact ⟨rfl, fun i _ => by rw [up_n e]⟩
  · rw [h2 hL, atL_n hL, atS_n hL]
    exact sgM_run_5 ⟨fun _ => ⟨rfl, H⟩, fun h => absurd rfl h⟩
end
section
/-! the reference's calls, part two -/
theorem lp_mins {post : Int32 → SM → Prop} {s : AS} {a y p : Nat} (ha : a < 2) (hy : y ≤ 1000000) (h64 : s.1 a < 64) (hpe : p = rk (s.2 a) (s.1 a) (nI y)) {nu0 zs : Nat → Int32} (H : QM s (nu0, zs)) (hni : ¬ inn (s.2 a) (s.1 a) (nI y)) (hp : ∀ S, QM (va_up s.1 a (s.1 a + 1), va_up s.2 a (ins (s.2 a) p y)) S → post (nI p) S) : ∀ (i : Nat) (nu : Nat → Int32), i ≤ s.1 a → (∀ j, j < max i p → nu (64 * a + j) = nI (s.2 a j)) → (∀ j, max i p < j → j < s.1 a + 1 → nu (64 * a + j) = nI (s.2 a (j - 1))) → (∀ l1 j, l1 < 2 → l1 ≠ a → j < 64 → nu (64 * l1 + j) = nu0 (64 * l1 + j)) → VM dM_insert post 54 [] [some (.inr 0), some (.inl (nI a)), some (.inl (nI y)), some (.inl (nI (p - min i p))), some (.inl (nI i))] (nu, zs) := by
  obtain ⟨Hw, Hs, Hv⟩ := QM_at H ha
  have hr := rk_is Hw (nI y)
  rw [← hpe] at hr
  obtain ⟨r1, r2, r3⟩ := hr
  intro i
  induction i with
  | zero =>
    intro nu hi h1 h2 h3
    have e1 : max 0 p = p := by omega
    have e2 : p - min 0 p = p := by omega
    rw [e1] at h1 h2
    rw [e2]
    refine sgM_insert_54 ⟨fun h => absurd h (by decide +kernel), fun _ => ?_⟩
    rw [pd_k64, pd_cl (by omega), pd_cl (by omega), Hs, nI_1]
    refine ⟨pd_in (by omega) (by omega), pd_in ha (by omega), pd_in ha (by omega), hp _ ?_⟩
    refine QM_up H ⟨by rw [hpe]; exact wfl_ins Hw hy h64 hni, pk_us, fun j hj => ?_⟩ (fun l1 _ e => pk_un e) (fun l1 j hl1 e hj => by rw [pk_un (by omega)]; exact h3 l1 j hl1 e hj)
    unfold ins
    by_cases e : j = p
    · rw [e, pk_us, if_neg (Nat.lt_irrefl p), if_pos rfl]
    · rw [pk_un (by omega)]
      by_cases e3 : j < p
      · rw [if_pos e3]; exact h1 j e3
      · rw [if_neg e3, if_neg e]; exact h2 j (by omega) hj
  | succ i ih =>
    intro nu hi h1 h2 h3
    have hwi := Hw.2.1 i (by omega)
    have e0 : nI (i + 1) + (-1) = nI i := by rw [← Int32.sub_eq_add_neg, nI_pred]
    have e1 : 64 * nI a + nI (i + 1) - 1 = nI (64 * a + i) := by rw [pd_k64, show 64 * a + (i + 1) = 64 * a + i + 1 by omega, nI_pred]
    refine sgM_insert_54 ⟨fun _ => ?_, fun h => absurd ?_ h⟩
    · rw [e0, e1, pd_k64, pd_cl (by omega), pd_cl (by omega), h1 i (by omega), pd_lt (by omega) (by omega)]
      refine ⟨pd_in (by omega) (by omega), fun g => ⟨pd_in (by omega) (by omega), pd_in (by omega) (by omega), ?_⟩, fun g => ?_⟩
      · have hpi : p ≤ i := by
          rcases Nat.lt_or_ge i p with z | z
          · have := r2 i z
            rw [pd_lt (by omega) (by omega)] at this
            omega
          · exact z
        rw [show p - min (i + 1) p = p - min i p by omega]
        refine ih _ (by omega) (fun j hj => ?_) (fun j hj hj2 => ?_) (fun l1 j hl1 e hj => ?_)
        · rw [pk_un (by omega)]
          exact h1 j (by omega)
        · by_cases e : j = i + 1
          · rw [e, pk_us]
            rfl
          · rw [pk_un (by omega)]
            exact h2 j (by omega) hj2
        · rw [pk_un (by omega)]
          exact h3 l1 j hl1 e hj
      · have hpi : i < p := by
          rcases Nat.lt_or_ge i p with z | z
          · exact z
          · have h9 := r3 i z (by omega)
            rw [pd_lt (by omega) (by omega)] at h9
            exact absurd ((inn_iff Hw _).mpr ⟨i, by omega, by rw [show s.2 a i = y by omega]⟩) hni
        rw [nI_1, show p - min (i + 1) p + 1 = p - min i p by omega]
        refine ih _ (by omega) (fun j hj => h1 j (by omega)) (fun j hj hj2 => h2 j (by omega) hj2) h3
    · rw [show (0 : Int32) = nI 0 from rfl, pd_lt (by omega) (by omega)]
      omega
theorem M_insert {s : AS} {S : SM} {l x : Int32} (H : QM s S) : CM yX1_insert dM_insert [l, x] S (fun r S1 => r = a_insert s l x ∧ QM (t_insert s l x) S1) := by
  obtain ⟨nu, zs⟩ := S
  refine CM_of hyM_insert (Nat.le_of_ble_eq_true rfl) (rokM_i _) (sgM_insert_0 (csM_insert_2 m_isList ?_))
  rintro r S1 ⟨rfl, h1, h2⟩
  unfold a_insert t_insert
  by_cases hL : isL l
  · obtain ⟨a, ha, rfl⟩ := isL_of hL
    obtain ⟨Hw, Hs, Hv⟩ := QM_at H ha
    have h64 := Hw.1
    rw [h1 hL, atL_y ha, atS_y ha]
    refine sgM_insert_5 ⟨fun h => absurd h (by decide), fun _ => csM_insert_10 m_isNumber ?_⟩
    rintro r S1 ⟨rfl, g1, g2⟩
    by_cases hN : isN x
    · have hnN := nN_n hN
      obtain ⟨y, hy, rfl⟩ := hN
      rw [g1 ⟨y, hy, rfl⟩, if_neg hnN, if_neg hnN, pd_cl (by omega)]
      refine sgM_insert_13 ⟨fun h => absurd h (by decide), fun _ => csM_insert_21 (M_has (s := s) H) ?_⟩
      rintro r S1 ⟨rfl, rfl⟩
      unfold a_has
      rw [atL_y ha]
      by_cases hi : inn (s.2 a) (s.1 a) (nI y)
      · rw [if_pos hi, if_pos hi, if_pos hi]
        exact sgM_insert_24 ⟨fun h => absurd h (by decide), fun _ => ⟨rfl, H⟩⟩
      · rw [if_neg hi, if_neg hi, if_neg hi]
        refine sgM_insert_24 ⟨fun _ => ⟨pd_in ha (by omega), ?_⟩, fun h => absurd rfl h⟩
        rw [pd_cl (by omega), Hs, show (64 : Int32) = nI 64 from rfl, pd_eq (by omega) (by omega)]
        refine ⟨fun e => ?_, fun e => ⟨pd_in ha (by omega), ?_⟩⟩
        · rw [if_pos e, if_pos e]
          exact ⟨rfl, H⟩
        · rw [if_neg e, if_neg e]
          have hr := (rk_is Hw (nI y)).1
          have h0 := lp_mins (post := fun r S1 => r = nI (rk (s.2 a) (s.1 a) (nI y)) ∧ QM (va_up s.1 a (s.1 a + 1), va_up s.2 a (ins (s.2 a) (rk (s.2 a) (s.1 a) (nI y)) y)) S1) (s := s) ha hy (by omega) rfl H hi (fun S hS => ⟨rfl, hS⟩) (s.1 a) nu (Nat.le_refl _) (fun j hj => Hv j (by omega)) (fun j h3 h4 => by omega) (fun l1 j _ _ _ => rfl)
          rw [show rk (s.2 a) (s.1 a) (nI y) - min (s.1 a) (rk (s.2 a) (s.1 a) (nI y)) = 0 by omega] at h0
          exact h0
    · rw [g2 hN, if_pos (nN_y hN), if_pos (nN_y hN)]
      exact sgM_insert_13 ⟨fun _ => ⟨rfl, H⟩, fun h => absurd rfl h⟩
  · rw [h2 hL, atL_n hL, atS_n hL]
    exact sgM_insert_5 ⟨fun _ => ⟨rfl, H⟩, fun h => absurd rfl h⟩
theorem lp_mrem {post : Int32 → SM → Prop} {s : AS} {a p : Nat} (ha : a < 2) (hpn : p < s.1 a) {nu0 zs : Nat → Int32} (H : QM s (nu0, zs)) (hp : ∀ S, QM (va_up s.1 a (s.1 a - 1), va_up s.2 a (del (s.2 a) p)) S → post (nI p) S) : ∀ (m t : Nat) (nu : Nat → Int32), t + m = s.1 a - 1 → p ≤ t → (∀ j, j < t → nu (64 * a + j) = nI (del (s.2 a) p j)) → (∀ j, t ≤ j → j < s.1 a → nu (64 * a + j) = nI (s.2 a j)) → (∀ l1 j, l1 < 2 → l1 ≠ a → j < 64 → nu (64 * l1 + j) = nu0 (64 * l1 + j)) → VM dM_remove post 34 [] [some (.inr 0), some (.inl (nI a)), none, some (.inl (nI p)), some (.inl (nI (t + 1)))] (nu, zs) := by
  obtain ⟨Hw, Hs, Hv⟩ := QM_at H ha
  have h64 := Hw.1
  intro m
  induction m with
  | zero =>
    intro t nu ht hpt h1 h2 h3
    refine sgM_remove_34 ⟨pd_in ha (by omega), ?_⟩
    rw [pd_cl (by omega), Hs, pd_lt (by omega) (by omega), show (1 : Int32) = nI 1 from rfl, pk_sub (by omega)]
    refine ⟨fun h => absurd h (by omega), fun _ => ⟨pd_in ha (by omega), pd_in ha (by omega), hp _ ?_⟩⟩
    exact QM_up H ⟨wfl_del Hw hpn, pk_us, fun j hj => h1 j (by omega)⟩ (fun l1 _ e => pk_un e) h3
  | succ m ih =>
    intro t nu ht hpt h1 h2 h3
    refine sgM_remove_34 ⟨pd_in ha (by omega), ?_⟩
    have e1 : 64 * nI a + nI (t + 1) - 1 = nI (64 * a + t) := by rw [pd_k64, show 64 * a + (t + 1) = 64 * a + t + 1 by omega, nI_pred]
    rw [pd_cl (by omega), Hs, pd_lt (by omega) (by omega), e1, pd_k64, pd_cl (by omega), pd_cl (by omega), h2 (t + 1) (by omega) (by omega), nI_1]
    refine ⟨fun _ => ⟨pd_in (by omega) (by omega), pd_in (by omega) (by omega), ih (t + 1) _ (by omega) (by omega) (fun j hj => ?_) (fun j hj hj2 => ?_) (fun l1 j hl1 e hj => ?_)⟩, fun h => absurd (by omega) h⟩
    · by_cases e : j = t
      · rw [e, pk_us]
        unfold del
        rw [if_neg (by omega)]
      · rw [pk_un (by omega)]
        exact h1 j (by omega)
    · rw [pk_un (by omega)]
      exact h2 j (by omega) hj2
    · rw [pk_un (by omega)]
      exact h3 l1 j hl1 e hj
theorem M_remove {s : AS} {S : SM} {l x : Int32} (H : QM s S) : CM yX1_remove dM_remove [l, x] S (fun r S1 => r = a_remove s l x ∧ QM (t_remove s l x) S1) := by
  obtain ⟨nu, zs⟩ := S
  refine CM_of hyM_remove (Nat.le_of_ble_eq_true rfl) (rokM_i _) (sgM_remove_0 (csM_remove_2 m_isList ?_))
  rintro r S1 ⟨rfl, h1, h2⟩
  unfold a_remove t_remove
  by_cases hL : isL l
  · obtain ⟨a, ha, rfl⟩ := isL_of hL
    obtain ⟨Hw, Hs, Hv⟩ := QM_at H ha
    rw [h1 hL, atL_y ha, atS_y ha]
    refine sgM_remove_5 ⟨fun h => absurd h (by decide), fun _ => csM_remove_13 (M_has (s := s) H) ?_⟩
    rintro r S1 ⟨rfl, rfl⟩
    unfold a_has
    rw [atL_y ha]
    by_cases hi : inn (s.2 a) (s.1 a) x
    · rw [if_pos hi, if_pos hi, if_pos hi]
      refine sgM_remove_16 ⟨fun h => absurd h (by decide), fun _ => csM_remove_25 (M_seek (s := s) H) ?_⟩
      rintro r S1 ⟨rfl, rfl⟩
      unfold a_seek
      rw [atL_y ha, if_neg (by have := hi.1; omega)]
      refine sgM_remove_28 ?_
      rw [nI_1]
      exact lp_mrem ha hi.1 H (fun S hS => ⟨rfl, hS⟩) (s.1 a - 1 - rk (s.2 a) (s.1 a) x) _ nu (by have := hi.1; omega) (Nat.le_refl _) (fun j hj => by rw [Hv j (by have := hi.1; omega)]; unfold del; rw [if_pos hj]) (fun j _ hj => Hv j hj) (fun l1 j _ _ _ => rfl)
    · rw [if_neg hi, if_neg hi, if_neg hi]
      exact sgM_remove_16 ⟨fun _ => ⟨rfl, H⟩, fun h => absurd rfl h⟩
  · rw [h2 hL, atL_n hL, atS_n hL]
    exact sgM_remove_5 ⟨fun _ => ⟨rfl, H⟩, fun h => absurd rfl h⟩
theorem lp_msum {post : Int32 → SM → Prop} {a n : Nat} {w : Nat → Nat} {i j : Int32} (ha : a < 2) {nu zs : Nat → Int32} (H : ML n w a nu zs) (hp : post (nI (fb_sm (smf w i j) n)) (nu, zs)) : ∀ (m p : Nat), p + m = n → VM dM_sum post 16 [] [some (.inr 0), some (.inl (nI a)), some (.inl i), some (.inl j), some (.inl (nI (fb_sm (smf w i j) p))), some (.inl (nI p))] (nu, zs) := by
  obtain ⟨Hw, Hs, Hv⟩ := H
  have h64 := Hw.1
  intro m
  induction m with
  | zero =>
    intro p hpm
    have e : p = n := by omega
    subst e
    refine sgM_sum_16 ⟨pd_in ha (by omega), fun h => ?_, fun _ => hp⟩
    rw [pd_cl (by omega), Hs, pd_lt (by omega) (by omega)] at h
    omega
  | succ m ih =>
    intro p hpm
    have ih1 := ih (p + 1) (by omega)
    rw [fb_sm_succ] at ih1
    refine sgM_sum_16 ⟨pd_in ha (by omega), fun _ => ?_, fun h => absurd ?_ h⟩
    · rw [pd_k64, pd_cl (by omega), Hv p (by omega), nI_1]
      refine ⟨fun g => ?_, fun g => ⟨fun g2 => ?_, fun g2 => ⟨pd_in (by omega) (by omega), ?_⟩⟩⟩
      · have e : smf w i j p = 0 := if_pos (Or.inl g)
        rw [e, Nat.add_zero] at ih1
        exact ih1
      · have e : smf w i j p = 0 := if_pos (Or.inr g2)
        rw [e, Nat.add_zero] at ih1
        exact ih1
      · have e : smf w i j p = w p := if_neg (by
          rintro (z | z)
          · exact g z
          · exact g2 z)
        rw [e, ← nI_add] at ih1
        exact ih1
    · rw [pd_cl (by omega), Hs, pd_lt (by omega) (by omega)]
      omega
theorem M_sum {s : AS} {S : SM} {l i j : Int32} (H : QM s S) : CM yX1_sum dM_sum [l, i, j] S (fun r S1 => r = a_sum s l i j ∧ QM s S1) := by
  obtain ⟨nu, zs⟩ := S
  refine CM_of hyM_sum (Nat.le_of_ble_eq_true rfl) (rokM_i _) (sgM_sum_0 (csM_sum_2 m_isList ?_))
  rintro r S1 ⟨rfl, h1, h2⟩
  unfold a_sum
  by_cases hL : isL l
  · obtain ⟨a, ha, rfl⟩ := isL_of hL
    rw [h1 hL, atL_y ha]
    exact sgM_sum_5 ⟨fun h => absurd h (by decide), fun _ => lp_msum ha (QM_at H ha) ⟨rfl, H⟩ (s.1 a) 0 (by omega)⟩
  · rw [h2 hL, atL_n hL]
    exact sgM_sum_5 ⟨fun _ => ⟨rfl, H⟩, fun h => absurd rfl h⟩
theorem pd_div8 {n : Nat} (hn : n ≤ 64) : (nI n + 7) / 8 = nI ((n + 7) / 8) := by
  rw [show (7 : Int32) = nI 7 from rfl, nI_add, show (8 : Int32) = nI 8 from rfl, pk_div (by omega) (by omega) (by omega)]
theorem M_blocks {s : AS} {S : SM} {l : Int32} (H : QM s S) : CM yX1_blocks dM_blocks [l] S (fun r S1 => r = a_blocks s l ∧ QM s S1) := by
  obtain ⟨nu, zs⟩ := S
  refine CM_of hyM_blocks (Nat.le_of_ble_eq_true rfl) (rokM_i _) (sgM_blocks_0 (csM_blocks_2 m_isList ?_))
  rintro r S1 ⟨rfl, h1, h2⟩
  unfold a_blocks
  by_cases hL : isL l
  · obtain ⟨a, ha, rfl⟩ := isL_of hL
    obtain ⟨Hw, Hs, Hv⟩ := QM_at H ha
    rw [h1 hL, atL_y ha]
    refine sgM_blocks_5 ⟨fun h => absurd h (by decide), fun _ => ⟨pd_in ha (by omega), by decide, ?_, H⟩⟩
    rw [pd_cl (by omega), Hs, pd_div8 Hw.1]
  · rw [h2 hL, atL_n hL]
    exact sgM_blocks_5 ⟨fun _ => ⟨rfl, H⟩, fun h => absurd rfl h⟩
theorem m_codeAt {a n i : Nat} {w : Nat → Nat} (ha : a < 2) {nu zs : Nat → Int32} (H : ML n w a nu zs) (hi : i < n) : CM yX1_codeAt dM_codeAt [nI a, nI i] (nu, zs) (fun r S1 => S1 = (nu, zs) ∧ r = nI (cde w i)) := by
  obtain ⟨Hw, Hs, Hv⟩ := H
  have h64 := Hw.1
  have hg := gap_eq Hw hi
  refine CM_of hyM_codeAt (Nat.le_of_ble_eq_true rfl) (rokM_i _) (sgM_codeAt_0 ?_)
  rw [pd_k64, pd_cl (by omega), Hv i hi]
  refine ⟨fun h0 => ⟨pd_in (by omega) (by omega), rfl, ?_⟩, fun h0 => ?_⟩
  · rw [← nI_0, pd_eq (by omega) (by omega)] at h0
    subst h0
    exact hg
  · rw [← nI_0, pd_eq (by omega) (by omega)] at h0
    have e2 : bf w i = nI (w (i - 1)) := by
      unfold bf
      rw [if_neg h0]
    have e1 : nI (64 * a + i) - 1 = nI (64 * a + (i - 1)) := by
      rw [show (1 : Int32) = nI 1 from rfl, pk_sub (by omega)]
      congr 1
      omega
    rw [e1, pd_cl (by omega), Hv (i - 1) (by omega), ← e2]
    exact ⟨pd_in (by omega) (by omega), pd_in (by omega) (by omega), rfl, hg⟩
theorem lp_mwidth {post : Int32 → SM → Prop} {c : Nat} (hc : c < 2 ^ 20) {nu zs : Nat → Int32} (hp : post (nI (wd c)) (nu, zs)) : ∀ (m i : Nat), i + m = wd c → VM dM_widthOf post 2 [] [none, some (.inl (nI c)), some (.inl (nI i))] (nu, zs) := by
  have h20 := wd_le hc
  have hs : ∀ i, i < 20 → (1 : Int32) <<< (nI i &&& 31) = nI (2 ^ i) ∧ 2 ^ i < 2147483648 := fun i hi => by
    have h1 : 2 ^ i ≤ 2 ^ 20 := Nat.pow_le_pow_right (by decide) (by omega)
    have e : (1 : Int32) <<< (nI i &&& 31) = nI (1 * 2 ^ i) := pk_shlN (n := 1) (nI i &&& 31) i (s_l i (by omega)) (by omega)
    rw [Nat.one_mul] at e
    exact ⟨e, by omega⟩
  intro m
  induction m with
  | zero =>
    intro i hi
    have e : i = wd c := by omega
    subst e
    refine sgM_widthOf_2 ⟨fun h => ⟨fun _ => hp, fun g => absurd ?_ g⟩, fun _ => hp⟩
    rw [show (20 : Int32) = nI 20 from rfl, pd_lt (by omega) (by omega)] at h
    rw [(hs _ h).1, pd_lt (by omega) (hs _ h).2]
    exact wd_lt c
  | succ m ih =>
    intro i hi
    have hi20 : i < 20 := by omega
    refine sgM_widthOf_2 ⟨fun h => ⟨fun g => ?_, fun _ => ?_⟩, fun h => absurd ?_ h⟩
    · rw [(hs i hi20).1, pd_lt (by omega) (hs i hi20).2] at g
      have := (wd_iff c i).mpr (by omega)
      omega
    · rw [nI_1]
      exact ih (i + 1) (by omega)
    · rw [show (20 : Int32) = nI 20 from rfl, pd_lt (by omega) (by omega)]
      exact hi20
theorem m_widthOf {c : Nat} (hc : c < 2 ^ 20) {S : SM} : CM yX1_widthOf dM_widthOf [nI c] S (fun r S1 => S1 = S ∧ r = nI (wd c)) := by
  obtain ⟨nu, zs⟩ := S
  exact CM_of hyM_widthOf (Nat.le_of_ble_eq_true rfl) (rokM_i _) (sgM_widthOf_0 (lp_mwidth hc ⟨rfl, rfl⟩ (wd c) 0 (by omega)))
theorem lp_msize {post : Int32 → SM → Prop} {a n b W : Nat} {w : Nat → Nat} (ha : a < 2) (hW : W ≤ 20) (hb : 8 * b < n) {nu zs : Nat → Int32} (H : ML n w a nu zs) (hp : post (nI (ps (cb w b) W (hn n b) (hn n b))) (nu, zs)) : ∀ (m i : Nat), i + m = hn n b → VM dM_sizeAt post 10 [] [some (.inr 0), some (.inl (nI a)), some (.inl (nI b)), some (.inl (nI W)), some (.inl (nI (9 + i * W + fb_sm (fun j => ex W (cb w b j)) i))), some (.inl (nI (8 * b + i))), none, none] (nu, zs) := by
  have Hw := H.1
  have h64 := Hw.1
  have hh8 := hn_8 n b
  have hhn := hn_n (Nat.le_of_lt hb)
  have e8 : 8 * nI b + 8 = nI (8 * b + 8) := by rw [show (8 : Int32) = nI 8 from rfl, pk_mul, nI_add]
  intro m
  induction m with
  | zero =>
    intro i hi
    have e : i = hn n b := by omega
    subst e
    refine sgM_sizeAt_10 ?_
    rw [e8, pd_cl (by omega), H.2.1, pd_lt (by omega) (by omega), pd_lt (by omega) (by omega)]
    refine ⟨fun g => ⟨pd_in ha (by omega), fun g2 => ?_, fun _ => hp⟩, fun _ => hp⟩
    have : hn n b = min 8 (n - 8 * b) := rfl
    omega
  | succ m ih =>
    intro i hi
    have hci := cb_lt (b := b) Hw i (by omega)
    have hwi := wd_le hci
    refine sgM_sizeAt_10 ?_
    rw [e8, pd_cl (by omega), H.2.1, pd_lt (by omega) (by omega), pd_lt (by omega) (by omega)]
    refine ⟨fun g => ⟨pd_in ha (by omega), fun _ => ?_, fun h => absurd (by omega) h⟩, fun h => absurd (by omega) h⟩
    refine csM_sizeAt_37 (m_codeAt ha H (by omega)) ?_
    rintro r S1 ⟨rfl, rfl⟩
    refine sgM_sizeAt_40 (csM_sizeAt_45 (m_widthOf hci) ?_)
    rintro r S1 ⟨rfl, rfl⟩
    have hwi2 : wd (cde w (8 * b + i)) ≤ 20 := hwi
    refine sgM_sizeAt_48 ⟨fun hlt => ?_, fun hlt => ?_⟩
    · rw [pd_lt (by omega) (by omega)] at hlt
      have e : 9 + i * W + fb_sm (fun j => ex W (cb w b j)) i + (W + 8 + wd (cde w (8 * b + i)) - W) = 9 + (i + 1) * W + fb_sm (fun j => ex W (cb w b j)) (i + 1) := by
        have hlt : W < wd (cde w (8 * b + i)) := hlt
        have e0 : W + 8 + wd (cde w (8 * b + i)) - W = 8 + wd (cde w (8 * b + i)) := by rw [Nat.add_assoc, Nat.add_sub_cancel_left]
        have e1 : ex W (cde w (8 * b + i)) = 8 + wd (cde w (8 * b + i)) - W := if_pos hlt
        rw [e0, fb_sm_succ, Nat.add_one_mul i W]
        show _ = _ + (_ + ex W (cde w (8 * b + i)))
        rw [e1]
        omega
      rw [show (8 : Int32) = nI 8 from rfl, nI_add, nI_add, pk_sub (by omega), nI_add, e, nI_1]
      exact ih (i + 1) (by omega)
    · rw [pd_lt (by omega) (by omega)] at hlt
      have e : 9 + i * W + fb_sm (fun j => ex W (cb w b j)) i + W = 9 + (i + 1) * W + fb_sm (fun j => ex W (cb w b j)) (i + 1) := by
        rw [fb_sm_succ, Nat.add_one_mul i W]
        show _ = _ + (_ + ex W (cde w (8 * b + i)))
        unfold ex
        rw [if_neg hlt]
        omega
      rw [nI_add, e, nI_1]
      exact ih (i + 1) (by omega)
theorem m_sizeAt {a n b W : Nat} {w : Nat → Nat} (ha : a < 2) (hW : W ≤ 20) (hb : 8 * b < n) {nu zs : Nat → Int32} (H : ML n w a nu zs) : CM yX1_sizeAt dM_sizeAt [nI a, nI b, nI W] (nu, zs) (fun r S1 => S1 = (nu, zs) ∧ r = nI (ps (cb w b) W (hn n b) (hn n b))) := by
  have h0 := lp_msize (post := fun r S1 => S1 = (nu, zs) ∧ r = nI (ps (cb w b) W (hn n b) (hn n b))) ha hW hb H ⟨rfl, rfl⟩ (hn n b) 0 (by omega)
  rw [Nat.zero_mul] at h0
  refine CM_of hyM_sizeAt (Nat.le_of_ble_eq_true rfl) (rokM_i _) (sgM_sizeAt_0 ?_)
  rw [show (8 : Int32) = nI 8 from rfl, pk_mul]
  exact h0
theorem m_isBlock {a n : Nat} {w : Nat → Nat} {b : Int32} (ha : a < 2) {nu zs : Nat → Int32} (H : ML n w a nu zs) : CM yX1_isBlock dM_isBlock [nI a, b] (nu, zs) (fun r S1 => S1 = (nu, zs) ∧ ((b < 0 ∨ ¬ b < nI ((n + 7) / 8)) → r = 0) ∧ (¬ (b < 0 ∨ ¬ b < nI ((n + 7) / 8)) → r = 1)) := by
  obtain ⟨Hw, Hs, Hv⟩ := H
  refine CM_of hyM_isBlock (Nat.le_of_ble_eq_true rfl) ?_ (sgM_isBlock_0 ?_)
  · rintro v S1 ⟨-, h1, h2⟩
    by_cases h : b < 0 ∨ ¬ b < nI ((n + 7) / 8)
    · exact rok_b (Or.inl (h1 h))
    · exact rok_b (Or.inr (h2 h))
  · rw [pd_cl (by omega), Hs, pd_div8 Hw.1]
    refine ⟨fun h => ⟨rfl, fun _ => rfl, fun z => absurd (Or.inl h) z⟩, fun h => ⟨pd_in ha (by omega), by decide, fun g => ⟨rfl, fun z => ?_, fun _ => rfl⟩, fun g => ⟨rfl, fun _ => rfl, fun z => absurd (Or.inr g) z⟩⟩⟩
    rcases z with z | z
    · exact absurd z h
    · exact absurd g z
theorem lp_mbest {post : Int32 → SM → Prop} {a n b : Nat} {w : Nat → Nat} (ha : a < 2) (hb : 8 * b < n) {nu zs : Nat → Int32} (H : ML n w a nu zs) (hp : post (nI (bsb (cb w b) (hn n b))) (nu, zs)) : ∀ (m k : Nat), k + m = 20 → VM dM_bestBase post 5 [] [some (.inr 0), some (.inl (nI a)), some (.inl (nI b)), some (.inl (nI (bst (fun W => ps (cb w b) W (hn n b) (hn n b)) k))), some (.inl (nI (k + 1)))] (nu, zs) := by
  have hh8 := hn_8 n b
  have hc := cb_lt (b := b) H.1
  intro m
  induction m with
  | zero =>
    intro k hk
    have e : k = 20 := by omega
    subst e
    exact sgM_bestBase_5 ⟨fun _ => hp, fun h => absurd (by decide +kernel) h⟩
  | succ m ih =>
    intro k hk
    have hbk := bst_le (fun W => ps (cb w b) W (hn n b) (hn n b)) k
    refine sgM_bestBase_5 ⟨fun h => ?_, fun _ => ?_⟩
    · rw [show (20 : Int32) = nI 20 from rfl, pd_lt (by omega) (by omega)] at h
      omega
    · refine csM_bestBase_17 (m_sizeAt (W := k + 1) ha (by omega) hb H) ?_
      rintro r S1 ⟨rfl, rfl⟩
      refine sgM_bestBase_20 (csM_bestBase_24 (m_sizeAt (W := bst (fun W => ps (cb w b) W (hn n b) (hn n b)) k) ha (by omega) hb H) ?_)
      rintro r S1 ⟨rfl, rfl⟩
      have b1 := ps_bd (b := k + 1) hc (by omega) hh8 (Nat.le_refl _)
      have b2 := ps_bd (b := bst (fun W => ps (cb w b) W (hn n b) (hn n b)) k) hc (by omega) hh8 (Nat.le_refl _)
      refine sgM_bestBase_27 ⟨fun hw => ?_, fun hw => ?_⟩
      · rw [pd_lt (by omega) (by omega)] at hw
        have e : bst (fun W => ps (cb w b) W (hn n b) (hn n b)) (k + 1) = k + 1 := by
          rw [bst]
          exact if_pos hw
        have := ih (k + 1) (by omega)
        rw [e] at this
        rw [nI_1]
        exact this
      · rw [pd_lt (by omega) (by omega)] at hw
        have e : bst (fun W => ps (cb w b) W (hn n b) (hn n b)) (k + 1) = bst (fun W => ps (cb w b) W (hn n b) (hn n b)) k := by
          rw [bst]
          exact if_neg hw
        have := ih (k + 1) (by omega)
        rw [e] at this
        rw [nI_1]
        exact this
theorem m_bestBase {a n b : Nat} {w : Nat → Nat} (ha : a < 2) (hb : 8 * b < n) {nu zs : Nat → Int32} (H : ML n w a nu zs) : CM yX1_bestBase dM_bestBase [nI a, nI b] (nu, zs) (fun r S1 => S1 = (nu, zs) ∧ r = nI (bsb (cb w b) (hn n b))) :=
  CM_of hyM_bestBase (Nat.le_of_ble_eq_true rfl) (rokM_i _) (sgM_bestBase_0 (lp_mbest ha hb H ⟨rfl, rfl⟩ 20 0 (by omega)))
theorem M_base {s : AS} {S : SM} {l b : Int32} (H : QM s S) : CM yX1_base dM_base [l, b] S (fun r S1 => r = a_base s l b ∧ QM s S1) := by
  obtain ⟨nu, zs⟩ := S
  refine CM_of hyM_base (Nat.le_of_ble_eq_true rfl) (rokM_i _) (sgM_base_0 (csM_base_2 m_isList ?_))
  rintro r S1 ⟨rfl, h1, h2⟩
  unfold a_base
  by_cases hL : isL l
  · obtain ⟨a, ha, rfl⟩ := isL_of hL
    have Ha := QM_at H ha
    have h64 := Ha.1.1
    rw [h1 hL, atL_y ha]
    refine sgM_base_5 ⟨fun h => absurd h (by decide), fun _ => csM_base_13 (m_isBlock ha Ha) ?_⟩
    rintro r S1 ⟨rfl, g1, g2⟩
    by_cases hB : b < 0 ∨ ¬ b < nI ((s.1 a + 7) / 8)
    · rw [g1 hB, if_pos hB]
      exact sgM_base_16 ⟨fun _ => ⟨rfl, H⟩, fun h => absurd rfl h⟩
    · rw [g2 hB, if_neg hB]
      obtain ⟨B, rfl, hB2⟩ := blk_of h64 hB
      refine sgM_base_16 ⟨fun h => absurd h (by decide), fun _ => csM_base_22 (m_bestBase ha (by omega) Ha) ?_⟩
      rintro r S1 ⟨rfl, rfl⟩
      refine sgM_base_25 ⟨?_, H⟩
      rw [pd_cl (by omega)]
  · rw [h2 hL, atL_n hL]
    exact sgM_base_5 ⟨fun _ => ⟨rfl, H⟩, fun h => absurd rfl h⟩
theorem M_blockSize {s : AS} {S : SM} {l b : Int32} (H : QM s S) : CM yX1_blockSize dM_blockSize [l, b] S (fun r S1 => r = a_blockSize s l b ∧ S1 = S) := by
  obtain ⟨nu, zs⟩ := S
  refine CM_of hyM_blockSize (Nat.le_of_ble_eq_true rfl) (rokM_i _) (sgM_blockSize_0 (csM_blockSize_2 m_isList ?_))
  rintro r S1 ⟨rfl, h1, h2⟩
  unfold a_blockSize
  by_cases hL : isL l
  · obtain ⟨a, ha, rfl⟩ := isL_of hL
    have Ha := QM_at H ha
    have h64 := Ha.1.1
    rw [h1 hL, atL_y ha]
    refine sgM_blockSize_5 ⟨fun h => absurd h (by decide), fun _ => csM_blockSize_13 (m_isBlock ha Ha) ?_⟩
    rintro r S1 ⟨rfl, g1, g2⟩
    by_cases hB : b < 0 ∨ ¬ b < nI ((s.1 a + 7) / 8)
    · rw [g1 hB, if_pos hB]
      exact sgM_blockSize_16 ⟨fun _ => ⟨rfl, rfl⟩, fun h => absurd rfl h⟩
    · rw [g2 hB, if_neg hB]
      obtain ⟨B, rfl, hB2⟩ := blk_of h64 hB
      refine sgM_blockSize_16 ⟨fun h => absurd h (by decide), fun _ => csM_blockSize_25 (m_bestBase ha (by omega) Ha) ?_⟩
      rintro r S1 ⟨rfl, rfl⟩
      refine sgM_blockSize_28 (csM_blockSize_33 (m_sizeAt ha (bsb_le _ _) (by omega) Ha) ?_)
      rintro r S1 ⟨rfl, rfl⟩
      refine sgM_blockSize_36 ⟨?_, rfl⟩
      rw [pd_cl (by omega)]
      rfl
  · rw [h2 hL, atL_n hL]
    exact sgM_blockSize_5 ⟨fun _ => ⟨rfl, rfl⟩, fun h => absurd rfl h⟩
theorem lp_mpack2 {post : Int32 → SM → Prop} {s : AS} {l A : Nat} (hl : l < 2) {nu zs : Nat → Int32} (H : QM s (nu, zs)) (hp : VM dM_packed post 4 [] [some (.inr 0), some (.inl (nI (A + pkd s l))), some (.inl (nI (l + 1))), none] (nu, zs)) : ∀ (m b : Nat), b + m = (s.1 l + 7) / 8 → VM dM_packed post 11 [] [some (.inr 0), some (.inl (nI (A + fb_sm (fun b => bz (s.2 l) (s.1 l) b) b))), some (.inl (nI l)), some (.inl (nI b))] (nu, zs) := by
  obtain ⟨Hw, Hs, Hv⟩ := QM_at H hl
  have h64 := Hw.1
  intro m
  induction m with
  | zero =>
    intro b hb
    have e : b = (s.1 l + 7) / 8 := by omega
    subst e
    refine sgM_packed_11 ⟨pd_in hl (by omega), by decide, ?_⟩
    rw [pd_cl (by omega), Hs, pd_div8 h64, pd_lt (by omega) (by omega), nI_1]
    exact ⟨fun h => absurd h (Nat.lt_irrefl _), fun _ => hp⟩
  | succ m ih =>
    intro b hb
    refine sgM_packed_11 ⟨pd_in hl (by omega), by decide, ?_⟩
    rw [pd_cl (by omega), Hs, pd_div8 h64, pd_lt (by omega) (by omega)]
    refine ⟨fun h => csM_packed_31 (M_blockSize (s := s) H) ?_, fun h => absurd (by omega) h⟩
    rintro r S1 ⟨rfl, rfl⟩
    refine sgM_packed_34 ?_
    have hB : ¬ (nI b < 0 ∨ ¬ nI b < nI ((s.1 l + 7) / 8)) := by
      rintro (z | z)
      · exact pd_n0 (by omega) z
      · exact z ((pd_lt (by omega) (by omega)).mpr h)
    have ih1 := ih (b + 1) (by omega)
    rw [fb_sm_succ, ← Nat.add_assoc] at ih1
    unfold a_blockSize
    rw [atL_y hl, if_neg hB, pd_cl (by omega), nI_add, nI_1]
    exact ih1
theorem lp_mpack {post : Int32 → SM → Prop} {s : AS} {nu zs : Nat → Int32} (H : QM s (nu, zs)) (hp : post (a_packed s) (nu, zs)) : ∀ (m l : Nat), l + m = 2 → VM dM_packed post 4 [] [some (.inr 0), some (.inl (nI (fb_sm (pkd s) l))), some (.inl (nI l)), none] (nu, zs) := by
  intro m
  induction m with
  | zero =>
    intro l hl
    have e : l = 2 := by omega
    subst e
    exact sgM_packed_4 ⟨fun h => absurd h (by decide +kernel), fun _ => hp⟩
  | succ m ih =>
    intro l hl
    refine sgM_packed_4 ⟨fun _ => lp_mpack2 (A := fb_sm (pkd s) l) (by omega) H (ih (l + 1) (by omega)) ((s.1 l + 7) / 8) 0 (by omega), fun h => absurd ?_ h⟩
    rw [show (2 : Int32) = nI 2 from rfl, pd_lt (by omega) (by omega)]
    omega
theorem M_packed {s : AS} {S : SM} (H : QM s S) : CM yX1_packed dM_packed [] S (fun r S1 => r = a_packed s ∧ QM s S1) := by
  obtain ⟨nu, zs⟩ := S
  exact CM_of hyM_packed (Nat.le_of_ble_eq_true rfl) (rokM_i _) (sgM_packed_0 (lp_mpack H ⟨rfl, H⟩ 2 0 (by omega)))
theorem has1 (s : AS) (i : Nat) : a_has s 1 (nI (s.2 0 i)) = if cmn s i = true then 1 else 0 := by
  have e : a_has s 1 (nI (s.2 0 i)) = if inn (s.2 1) (s.1 1) (nI (s.2 0 i)) then 1 else 0 := atL_y (a := 1) (by omega)
  rw [e]
  by_cases h : inn (s.2 1) (s.1 1) (nI (s.2 0 i))
  · rw [if_pos h, if_pos (cmn_t h)]
  · rw [if_neg h, if_neg (by rw [cmn_f h]; decide)]
theorem lp_mcommon {post : Int32 → SM → Prop} {s : AS} {nu zs : Nat → Int32} (H : QM s (nu, zs)) (hp : post (a_common s) (nu, zs)) : ∀ (m i : Nat), i + m = s.1 0 → VM dM_common post 4 [] [some (.inr 0), some (.inl (nI (fb_ct (cmn s) i))), some (.inl (nI i))] (nu, zs) := by
  obtain ⟨Hw, Hs, Hv⟩ := QM_at H (a := 0) (by omega)
  have h64 := Hw.1
  have c0 : (0 : Int32).toNatClampNeg = 0 := rfl
  have i0 : vp_in 0 2 := pd_in (a := 0) (by omega) (by omega)
  intro m
  induction m with
  | zero =>
    intro i hi
    have e : i = s.1 0 := by omega
    subst e
    refine sgM_common_4 ⟨i0, ?_⟩
    rw [c0, Hs, pd_lt (by omega) (by omega)]
    exact ⟨fun h => absurd h (Nat.lt_irrefl _), fun _ => hp⟩
  | succ m ih =>
    intro i hi
    have hvi := Hv i (by omega)
    rw [show 64 * 0 + i = i by omega] at hvi
    have ih1 := ih (i + 1) (by omega)
    refine sgM_common_4 ⟨i0, ?_⟩
    rw [c0, Hs, pd_lt (by omega) (by omega), pd_cl (by omega), hvi]
    refine ⟨fun h => ⟨pd_in (by omega) (by omega), csM_common_22 (M_has (s := s) H) ?_⟩, fun h => absurd (by omega) h⟩
    rintro r S1 ⟨rfl, rfl⟩
    rw [has1]
    refine sgM_common_25 ?_
    rw [nI_1, nI_1]
    by_cases hc : cmn s i = true
    · rw [ct_next hc] at ih1
      rw [if_pos hc]
      exact ⟨fun h => absurd h (by decide), fun _ => ih1⟩
    · rw [fb_ct_succ, if_neg hc, Nat.add_zero] at ih1
      rw [if_neg hc]
      exact ⟨fun _ => ih1, fun h => absurd rfl h⟩
theorem M_common {s : AS} {S : SM} (H : QM s S) : CM yX1_common dM_common [] S (fun r S1 => r = a_common s ∧ QM s S1) := by
  obtain ⟨nu, zs⟩ := S
  exact CM_of hyM_common (Nat.le_of_ble_eq_true rfl) (rokM_i _) (sgM_common_0 (lp_mcommon H ⟨rfl, H⟩ (s.1 0) 0 (by omega)))
theorem lp_mcat {post : Int32 → SM → Prop} {s : AS} {k : Int32} {nu zs : Nat → Int32} (H : QM s (nu, zs)) (hp : post (a_commonAt s k) (nu, zs)) : ∀ (m i : Nat), i + m = s.1 0 → (∀ j, j < i → cmn s j = true → ¬ nI (fb_ct (cmn s) j) = k) → VM dM_commonAt post 4 [] [some (.inr 0), some (.inl k), some (.inl (nI (fb_ct (cmn s) i))), some (.inl (nI i))] (nu, zs) := by
  obtain ⟨Hw, Hs, Hv⟩ := QM_at H (a := 0) (by omega)
  have h64 := Hw.1
  have c0 : (0 : Int32).toNatClampNeg = 0 := rfl
  have i0 : vp_in 0 2 := pd_in (a := 0) (by omega) (by omega)
  intro m
  induction m with
  | zero =>
    intro i hi hno
    have e : i = s.1 0 := by omega
    subst e
    have ee : a_commonAt s k = -4 := by
      unfold a_commonAt
      by_cases hk : k < 0
      · rw [if_pos hk]
      · rw [if_neg hk]
        obtain ⟨K, hK, rfl⟩ := nI_of hk
        rw [pd_t31] at hK
        rw [pd_cl hK, if_neg (kth_n (fun j hj hc z => hno j hj hc (by rw [z])))]
    rw [ee] at hp
    refine sgM_commonAt_4 ⟨i0, ?_⟩
    rw [c0, Hs, pd_lt (by omega) (by omega)]
    exact ⟨fun h => absurd h (Nat.lt_irrefl _), fun _ => hp⟩
  | succ m ih =>
    intro i hi hno
    have hvi := Hv i (by omega)
    rw [show 64 * 0 + i = i by omega] at hvi
    have hct := fb_ct_le (cmn s) i
    refine sgM_commonAt_4 ⟨i0, ?_⟩
    rw [c0, Hs, pd_lt (by omega) (by omega), pd_cl (by omega), hvi]
    refine ⟨fun h => ⟨pd_in (by omega) (by omega), csM_commonAt_22 (M_has (s := s) H) ?_⟩, fun h => absurd (by omega) h⟩
    rintro r S1 ⟨rfl, rfl⟩
    rw [has1]
    refine sgM_commonAt_25 ?_
    rw [nI_1, nI_1, pd_cl (by omega), hvi]
    by_cases hc : cmn s i = true
    · rw [if_pos hc]
      refine ⟨fun h => absurd h (by decide), fun _ => ⟨fun e => ⟨pd_in (by omega) (by omega), ?_⟩, fun e => ?_⟩⟩
      · have ee : a_commonAt s k = nI (s.2 0 i) := by
          subst e
          unfold a_commonAt
          rw [if_neg (pd_n0 (by omega)), pd_cl (by omega), kth_y h hc rfl, if_pos h]
        rw [ee] at hp
        exact hp
      · have ih1 := ih (i + 1) (by omega) (fun j hj hcj => by
          by_cases e2 : j = i
          · rw [e2]; exact e
          · exact hno j (by omega) hcj)
        rw [ct_next hc] at ih1
        exact ih1
    · rw [if_neg hc]
      refine ⟨fun _ => ?_, fun h => absurd rfl h⟩
      have ih1 := ih (i + 1) (by omega) (fun j hj hcj => by
        by_cases e2 : j = i
        · rw [e2] at hcj; exact absurd hcj hc
        · exact hno j (by omega) hcj)
      rw [fb_ct_succ, if_neg hc, Nat.add_zero] at ih1
      exact ih1
theorem M_commonAt {s : AS} {S : SM} {k : Int32} (H : QM s S) : CM yX1_commonAt dM_commonAt [k] S (fun r S1 => r = a_commonAt s k ∧ QM s S1) := by
  obtain ⟨nu, zs⟩ := S
  exact CM_of hyM_commonAt (Nat.le_of_ble_eq_true rfl) (rokM_i _) (sgM_commonAt_0 (lp_mcat H ⟨rfl, H⟩ (s.1 0) 0 (by omega) (fun j hj => by omega)))
theorem lp_mtail {post : Int32 → SM → Prop} {s : AS} {a : Nat} (ha : a < 2) {nu zs : Nat → Int32} (H : QM s (nu, zs)) : ∀ (j : Nat) (x2 : Int32), j ≤ s.1 a → post (tlr s a j x2) (nu, zs) → VM dM_tail post 22 [] [some (.inr 0), some (.inl (nI a)), some (.inl x2), some (.inl (nI j - 1))] (nu, zs) := by
  obtain ⟨Hw, Hs, Hv⟩ := QM_at H ha
  have h64 := Hw.1
  intro j
  induction j with
  | zero =>
    intro x2 hj hp
    exact sgM_tail_22 ⟨fun _ => hp, fun h => absurd pd_neg1 h⟩
  | succ j ih =>
    intro x2 hj hp
    refine sgM_tail_22 ?_
    rw [pd_m1, pd_k64, pd_cl (by omega), Hv j (by omega), show (1 : Int32) = nI 1 from rfl, pk_sub (by omega)]
    refine ⟨fun h => absurd h (pd_n0 (by omega)), fun _ => ⟨pd_in (by omega) (by omega), csM_tail_41 (M_has (s := s) H) ?_⟩⟩
    rintro r S1 ⟨rfl, rfl⟩
    unfold a_has
    rw [atL_y (show 1 - a < 2 by omega)]
    have e : nI j + (-1) = nI j - 1 := by rw [Int32.sub_eq_add_neg]
    refine sgM_tail_44 ?_
    rw [pd_k64, pd_cl (by omega), Hv j (by omega), e]
    by_cases hin : inn (s.2 (1 - a)) (s.1 (1 - a)) (nI (s.2 a j))
    · have e2 : tlr s a (j + 1) x2 = tlr s a j (nI (s.2 a j)) := if_pos hin
      rw [e2] at hp
      rw [if_pos hin]
      exact ⟨fun h => absurd h (by decide), fun _ => ⟨pd_in (by omega) (by omega), ih _ (by omega) hp⟩⟩
    · have e2 : tlr s a (j + 1) x2 = x2 := if_neg hin
      rw [e2] at hp
      rw [if_neg hin]
      exact ⟨fun _ => hp, fun h => absurd rfl h⟩
theorem M_tail {s : AS} {S : SM} {l : Int32} (H : QM s S) : CM yX1_tail dM_tail [l] S (fun r S1 => r = a_tail s l ∧ QM s S1) := by
  obtain ⟨nu, zs⟩ := S
  refine CM_of hyM_tail (Nat.le_of_ble_eq_true rfl) (rokM_i _) (sgM_tail_0 (csM_tail_2 m_isList ?_))
  rintro r S1 ⟨rfl, h1, h2⟩
  unfold a_tail
  by_cases hL : isL l
  · obtain ⟨a, ha, rfl⟩ := isL_of hL
    rw [h1 hL, atL_y ha]
    refine sgM_tail_5 ⟨fun h => absurd h (by decide), fun _ => ⟨pd_in ha (by omega), ?_⟩⟩
    rw [pd_cl (by omega), (QM_at H ha).2.1]
    exact lp_mtail ha H (s.1 a) (-4) (Nat.le_refl _) ⟨rfl, H⟩
  · rw [h2 hL, atL_n hL]
    exact sgM_tail_5 ⟨fun _ => ⟨rfl, H⟩, fun h => absurd rfl h⟩
end
section
set_option maxRecDepth 100000
def ZX : SX := (fun _ => 0, fun _ => 0, fun _ => 0, 0, fun _ => 0, fun _ => 0, fun _ => 0, 0)
set_option maxHeartbeats 4000000 in
/-- the constructor: its arrays are new, all is 0 -/
theorem initX (l : Launch) (D : va_G) (h0 sz : Nat) : Met l yX0_init (ws_ yX0_init cX0_init 1 none) ({ frames := 1, cells := 6, slots := 195, locals := 12 }) (va_Pc [.ref h0] (fun U => U.heap.size = sz ∧ va_P D vwCl [(h0, .inr (0, [.null, .null, .null, .int 0, .null, .null, .null, .int 0]))] U.heap ∧ va_K D vwCl [] U ∧ va_D (fun _ => True) [(h0, .inr (0, [.null, .null, .null, .int 0, .null, .null, .null, .int 0]))])) (qq none (fun _ (u : (Nat → Nat) × (Nat → ClassId)) => u.1 0 = h0) (fun u t => BX D u.2 u.1 (va_A [(h0, .inr (0, [.null, .null, .null, .int 0, .null, .null, .null, .int 0]))] sz) ZX t) (va_A [(h0, .inr (0, [.null, .null, .null, .int 0, .null, .null, .null, .int 0]))] sz)) 6 195 (va_A [(h0, .inr (0, [.null, .null, .null, .int 0, .null, .null, .null, .int 0]))] sz) := by
  refine Met.ofW (cc := cX0_init) (maxL := 1) (ret := none) (by decide) rfl ?_
  intro p e s m args below meth c s₁ B hml hv
  obtain ⟨rfl, hsz, hP, hK, hD0⟩ := hv
  have hx := B.exec
  have hb := B.bytes
  have hr := B.returns
  have hts := atoms_spec (ws := ws_ yX0_init cX0_init 1 none) B.pre
  have hts : ∀ w ∈ lw_all, w.before _ s = true := fun w h => hts w (List.mem_cons_of_mem _ h)
  have hown : s.vm.findClass RX0 = some m.cls := findClass_of_methodNamed B.named
  have hlocks := B.notSynchronized
  have hin : meth.name = "<init>" := (name_of_methodNamed B.named B.method).1
  subst hsz
  have hD := hD0.self (sz := s.heap.size)
  generalize hAe : va_A [(h0, .inr (0, [.null, .null, .null, .int 0, .null, .null, .null, .int 0]))] s.heap.size = A at hD ⊢
  have hA : ∀ q : Nat, s.heap.size ≤ q → A q := fun q h => by rw [← hAe]; exact Or.inr h
  have hS : va_S A s.heap s.heap [] := va_S.rf
  have hP : va_P D vwCl [(h0, .inr (0, [.null, .null, .null, .int 0, .null, .null, .null, .int 0]))] s.heap := hP
  have hl := lv_entry ([.ref h0]) (n := 1) (Nat.le_of_ble_eq_true rfl)
  rw [lg_entry_eq]
  generalize (lg_sl ([.ref h0]) ++ List.replicate (1 - (lg_sl ([.ref h0])).length) Slot.unset).toArray = ls at hl ⊢
  have hl : lv_has ls 1 [(0, .ref h0)] := hl
  refine lv_aload_n hx hb (show decode cX0_init 0 = .ok (.aload_n 0, 1) by decide +kernel) rfl (lv_at hl 0 rfl) ?_
  refine W.objInit hx hb hown (hts _ q37) (hts _ q38) (hts _ q39) rfl (by rw [hml]; exact hl.1) rfl (show decode cX0_init 1 = .ok (.invokespecial 1, 3) by decide +kernel) (Nat.le_of_ble_eq_true rfl) (Nat.le_of_ble_eq_true rfl) ?_
  refine W.eq (g2 := F0 m 4 ls []) rfl ?_
  refine lv_aload_n hx hb (show decode cX0_init 4 = .ok (.aload_n 0, 1) by decide +kernel) rfl (lv_at hl 0 rfl) ?_
  refine lv_iconst (v := 2) hx hb (show decode cX0_init 5 = .ok (.iconst 2, 1) by decide +kernel) (by decide +kernel) ?_
  refine va_newa (D := D) (atype := .int) (a0 := (2, .inl (fun _ => 0))) (ty := .int) hx hb (hts _ q65) rfl hK hP hD hS hA (fun cA => rfl) (by decide) (by decide +kernel) (by decide) (Nat.le_of_ble_eq_true rfl) (Nat.le_of_ble_eq_true rfl) (show decode cX0_init 6 = .ok (.newarray .int, 2) by decide +kernel) (fun q1 c1 H hK hP hD hS => ?_)
  have hP : va_P D vwCl [(h0, .inr (0, [.null, .null, .null, .int 0, .null, .null, .null, .int 0])), (q1, .inl (c1, 2, .inl (fun _ => 0)))] H := hP
  have hD : va_D A [(h0, .inr (0, [.null, .null, .null, .int 0, .null, .null, .null, .int 0])), (q1, .inl (c1, 2, .inl (fun _ => 0)))] := hD
  have hK : va_K D vwCl [(c1, .int)] s := hK
  refine va_putF (D := D) (ci := 0) (v := .ref q1) (ty := .array .int) (C := RX0) (T := TX0) (N := 8) hx hb hts in_X0 tyX0 tyX0_ok nmX0 hown hK hP hD hS 0 rfl rfl 0 (by decide) (hts _ q40) (fun _ h9 => h9) rfl hin rfl (by decide +kernel) rfl rfl (Nat.le_of_ble_eq_true rfl) (show decode cX0_init 8 = .ok (.putfield 7, 3) by decide +kernel) (fun H locs hP hD hS => ?_)
  have hP : va_P D vwCl [(h0, .inr (0, [.ref q1, .null, .null, .int 0, .null, .null, .null, .int 0])), (q1, .inl (c1, 2, .inl (fun _ => 0)))] H := hP
  have hD : va_D A [(h0, .inr (0, [.ref q1, .null, .null, .int 0, .null, .null, .null, .int 0])), (q1, .inl (c1, 2, .inl (fun _ => 0)))] := hD
  refine lv_aload_n hx hb (show decode cX0_init 11 = .ok (.aload_n 0, 1) by decide +kernel) rfl (lv_at hl 0 rfl) ?_
  refine lv_bipush (v := 16) hx hb (show decode cX0_init 12 = .ok (.bipush 16, 2) by decide +kernel) (by decide +kernel) ?_
  refine va_newa (D := D) (atype := .int) (a0 := (16, .inl (fun _ => 0))) (ty := .int) hx hb (hts _ q65) rfl hK hP hD hS hA (fun cA => rfl) (by decide) (by decide +kernel) (by decide) (Nat.le_of_ble_eq_true rfl) (Nat.le_of_ble_eq_true rfl) (show decode cX0_init 14 = .ok (.newarray .int, 2) by decide +kernel) (fun q2 c2 H hK hP hD hS => ?_)
  have hP : va_P D vwCl [(h0, .inr (0, [.ref q1, .null, .null, .int 0, .null, .null, .null, .int 0])), (q1, .inl (c1, 2, .inl (fun _ => 0))), (q2, .inl (c2, 16, .inl (fun _ => 0)))] H := hP
  have hD : va_D A [(h0, .inr (0, [.ref q1, .null, .null, .int 0, .null, .null, .null, .int 0])), (q1, .inl (c1, 2, .inl (fun _ => 0))), (q2, .inl (c2, 16, .inl (fun _ => 0)))] := hD
  have hK : va_K D vwCl [(c1, .int), (c2, .int)] s := hK
  refine va_putF (D := D) (ci := 0) (v := .ref q2) (ty := .array .int) (C := RX0) (T := TX0) (N := 8) hx hb hts in_X0 tyX0 tyX0_ok nmX0 hown hK hP hD hS 0 rfl rfl 1 (by decide) (hts _ q41) (fun _ h9 => h9) rfl hin rfl (by decide +kernel) rfl rfl (Nat.le_of_ble_eq_true rfl) (show decode cX0_init 16 = .ok (.putfield 13, 3) by decide +kernel) (fun H locs hP hD hS => ?_)
  have hP : va_P D vwCl [(h0, .inr (0, [.ref q1, .ref q2, .null, .int 0, .null, .null, .null, .int 0])), (q1, .inl (c1, 2, .inl (fun _ => 0))), (q2, .inl (c2, 16, .inl (fun _ => 0)))] H := hP
  have hD : va_D A [(h0, .inr (0, [.ref q1, .ref q2, .null, .int 0, .null, .null, .null, .int 0])), (q1, .inl (c1, 2, .inl (fun _ => 0))), (q2, .inl (c2, 16, .inl (fun _ => 0)))] := hD
  refine lv_aload_n hx hb (show decode cX0_init 19 = .ok (.aload_n 0, 1) by decide +kernel) rfl (lv_at hl 0 rfl) ?_
  refine lv_bipush (v := 96) hx hb (show decode cX0_init 20 = .ok (.bipush 96, 2) by decide +kernel) (by decide +kernel) ?_
  refine va_newa (D := D) (atype := .int) (a0 := (96, .inl (fun _ => 0))) (ty := .int) hx hb (hts _ q65) rfl hK hP hD hS hA (fun cA => rfl) (by decide) (by decide +kernel) (by decide) (Nat.le_of_ble_eq_true rfl) (Nat.le_of_ble_eq_true rfl) (show decode cX0_init 22 = .ok (.newarray .int, 2) by decide +kernel) (fun q3 c3 H hK hP hD hS => ?_)
  have hP : va_P D vwCl [(h0, .inr (0, [.ref q1, .ref q2, .null, .int 0, .null, .null, .null, .int 0])), (q1, .inl (c1, 2, .inl (fun _ => 0))), (q2, .inl (c2, 16, .inl (fun _ => 0))), (q3, .inl (c3, 96, .inl (fun _ => 0)))] H := hP
  have hD : va_D A [(h0, .inr (0, [.ref q1, .ref q2, .null, .int 0, .null, .null, .null, .int 0])), (q1, .inl (c1, 2, .inl (fun _ => 0))), (q2, .inl (c2, 16, .inl (fun _ => 0))), (q3, .inl (c3, 96, .inl (fun _ => 0)))] := hD
  have hK : va_K D vwCl [(c1, .int), (c2, .int), (c3, .int)] s := hK
  refine va_putF (D := D) (ci := 0) (v := .ref q3) (ty := .array .int) (C := RX0) (T := TX0) (N := 8) hx hb hts in_X0 tyX0 tyX0_ok nmX0 hown hK hP hD hS 0 rfl rfl 2 (by decide) (hts _ q42) (fun _ h9 => h9) rfl hin rfl (by decide +kernel) rfl rfl (Nat.le_of_ble_eq_true rfl) (show decode cX0_init 24 = .ok (.putfield 16, 3) by decide +kernel) (fun H locs hP hD hS => ?_)
  have hP : va_P D vwCl [(h0, .inr (0, [.ref q1, .ref q2, .ref q3, .int 0, .null, .null, .null, .int 0])), (q1, .inl (c1, 2, .inl (fun _ => 0))), (q2, .inl (c2, 16, .inl (fun _ => 0))), (q3, .inl (c3, 96, .inl (fun _ => 0)))] H := hP
  have hD : va_D A [(h0, .inr (0, [.ref q1, .ref q2, .ref q3, .int 0, .null, .null, .null, .int 0])), (q1, .inl (c1, 2, .inl (fun _ => 0))), (q2, .inl (c2, 16, .inl (fun _ => 0))), (q3, .inl (c3, 96, .inl (fun _ => 0)))] := hD
  refine lv_aload_n hx hb (show decode cX0_init 27 = .ok (.aload_n 0, 1) by decide +kernel) rfl (lv_at hl 0 rfl) ?_
  refine lv_bipush (v := 8) hx hb (show decode cX0_init 28 = .ok (.bipush 8, 2) by decide +kernel) (by decide +kernel) ?_
  refine va_newa (D := D) (atype := .int) (a0 := (8, .inl (fun _ => 0))) (ty := .int) hx hb (hts _ q65) rfl hK hP hD hS hA (fun cA => rfl) (by decide) (by decide +kernel) (by decide) (Nat.le_of_ble_eq_true rfl) (Nat.le_of_ble_eq_true rfl) (show decode cX0_init 30 = .ok (.newarray .int, 2) by decide +kernel) (fun q4 c4 H hK hP hD hS => ?_)
  have hP : va_P D vwCl [(h0, .inr (0, [.ref q1, .ref q2, .ref q3, .int 0, .null, .null, .null, .int 0])), (q1, .inl (c1, 2, .inl (fun _ => 0))), (q2, .inl (c2, 16, .inl (fun _ => 0))), (q3, .inl (c3, 96, .inl (fun _ => 0))), (q4, .inl (c4, 8, .inl (fun _ => 0)))] H := hP
  have hD : va_D A [(h0, .inr (0, [.ref q1, .ref q2, .ref q3, .int 0, .null, .null, .null, .int 0])), (q1, .inl (c1, 2, .inl (fun _ => 0))), (q2, .inl (c2, 16, .inl (fun _ => 0))), (q3, .inl (c3, 96, .inl (fun _ => 0))), (q4, .inl (c4, 8, .inl (fun _ => 0)))] := hD
  have hK : va_K D vwCl [(c1, .int), (c2, .int), (c3, .int), (c4, .int)] s := hK
  refine va_putF (D := D) (ci := 0) (v := .ref q4) (ty := .array .int) (C := RX0) (T := TX0) (N := 8) hx hb hts in_X0 tyX0 tyX0_ok nmX0 hown hK hP hD hS 0 rfl rfl 4 (by decide) (hts _ q44) (fun _ h9 => h9) rfl hin rfl (by decide +kernel) rfl rfl (Nat.le_of_ble_eq_true rfl) (show decode cX0_init 32 = .ok (.putfield 19, 3) by decide +kernel) (fun H locs hP hD hS => ?_)
  have hP : va_P D vwCl [(h0, .inr (0, [.ref q1, .ref q2, .ref q3, .int 0, .ref q4, .null, .null, .int 0])), (q1, .inl (c1, 2, .inl (fun _ => 0))), (q2, .inl (c2, 16, .inl (fun _ => 0))), (q3, .inl (c3, 96, .inl (fun _ => 0))), (q4, .inl (c4, 8, .inl (fun _ => 0)))] H := hP
  have hD : va_D A [(h0, .inr (0, [.ref q1, .ref q2, .ref q3, .int 0, .ref q4, .null, .null, .int 0])), (q1, .inl (c1, 2, .inl (fun _ => 0))), (q2, .inl (c2, 16, .inl (fun _ => 0))), (q3, .inl (c3, 96, .inl (fun _ => 0))), (q4, .inl (c4, 8, .inl (fun _ => 0)))] := hD
  refine lv_aload_n hx hb (show decode cX0_init 35 = .ok (.aload_n 0, 1) by decide +kernel) rfl (lv_at hl 0 rfl) ?_
  refine lv_bipush (v := 8) hx hb (show decode cX0_init 36 = .ok (.bipush 8, 2) by decide +kernel) (by decide +kernel) ?_
  refine va_newa (D := D) (atype := .int) (a0 := (8, .inl (fun _ => 0))) (ty := .int) hx hb (hts _ q65) rfl hK hP hD hS hA (fun cA => rfl) (by decide) (by decide +kernel) (by decide) (Nat.le_of_ble_eq_true rfl) (Nat.le_of_ble_eq_true rfl) (show decode cX0_init 38 = .ok (.newarray .int, 2) by decide +kernel) (fun q5 c5 H hK hP hD hS => ?_)
  have hP : va_P D vwCl [(h0, .inr (0, [.ref q1, .ref q2, .ref q3, .int 0, .ref q4, .null, .null, .int 0])), (q1, .inl (c1, 2, .inl (fun _ => 0))), (q2, .inl (c2, 16, .inl (fun _ => 0))), (q3, .inl (c3, 96, .inl (fun _ => 0))), (q4, .inl (c4, 8, .inl (fun _ => 0))), (q5, .inl (c5, 8, .inl (fun _ => 0)))] H := hP
  have hD : va_D A [(h0, .inr (0, [.ref q1, .ref q2, .ref q3, .int 0, .ref q4, .null, .null, .int 0])), (q1, .inl (c1, 2, .inl (fun _ => 0))), (q2, .inl (c2, 16, .inl (fun _ => 0))), (q3, .inl (c3, 96, .inl (fun _ => 0))), (q4, .inl (c4, 8, .inl (fun _ => 0))), (q5, .inl (c5, 8, .inl (fun _ => 0)))] := hD
  have hK : va_K D vwCl [(c1, .int), (c2, .int), (c3, .int), (c4, .int), (c5, .int)] s := hK
  refine va_putF (D := D) (ci := 0) (v := .ref q5) (ty := .array .int) (C := RX0) (T := TX0) (N := 8) hx hb hts in_X0 tyX0 tyX0_ok nmX0 hown hK hP hD hS 0 rfl rfl 5 (by decide) (hts _ q45) (fun _ h9 => h9) rfl hin rfl (by decide +kernel) rfl rfl (Nat.le_of_ble_eq_true rfl) (show decode cX0_init 40 = .ok (.putfield 22, 3) by decide +kernel) (fun H locs hP hD hS => ?_)
  have hP : va_P D vwCl [(h0, .inr (0, [.ref q1, .ref q2, .ref q3, .int 0, .ref q4, .ref q5, .null, .int 0])), (q1, .inl (c1, 2, .inl (fun _ => 0))), (q2, .inl (c2, 16, .inl (fun _ => 0))), (q3, .inl (c3, 96, .inl (fun _ => 0))), (q4, .inl (c4, 8, .inl (fun _ => 0))), (q5, .inl (c5, 8, .inl (fun _ => 0)))] H := hP
  have hD : va_D A [(h0, .inr (0, [.ref q1, .ref q2, .ref q3, .int 0, .ref q4, .ref q5, .null, .int 0])), (q1, .inl (c1, 2, .inl (fun _ => 0))), (q2, .inl (c2, 16, .inl (fun _ => 0))), (q3, .inl (c3, 96, .inl (fun _ => 0))), (q4, .inl (c4, 8, .inl (fun _ => 0))), (q5, .inl (c5, 8, .inl (fun _ => 0)))] := hD
  refine lv_aload_n hx hb (show decode cX0_init 43 = .ok (.aload_n 0, 1) by decide +kernel) rfl (lv_at hl 0 rfl) ?_
  refine lv_bipush (v := 65) hx hb (show decode cX0_init 44 = .ok (.bipush 65, 2) by decide +kernel) (by decide +kernel) ?_
  refine va_newa (D := D) (atype := .int) (a0 := (65, .inl (fun _ => 0))) (ty := .int) hx hb (hts _ q65) rfl hK hP hD hS hA (fun cA => rfl) (by decide) (by decide +kernel) (by decide) (Nat.le_of_ble_eq_true rfl) (Nat.le_of_ble_eq_true rfl) (show decode cX0_init 46 = .ok (.newarray .int, 2) by decide +kernel) (fun q6 c6 H hK hP hD hS => ?_)
  have hP : va_P D vwCl [(h0, .inr (0, [.ref q1, .ref q2, .ref q3, .int 0, .ref q4, .ref q5, .null, .int 0])), (q1, .inl (c1, 2, .inl (fun _ => 0))), (q2, .inl (c2, 16, .inl (fun _ => 0))), (q3, .inl (c3, 96, .inl (fun _ => 0))), (q4, .inl (c4, 8, .inl (fun _ => 0))), (q5, .inl (c5, 8, .inl (fun _ => 0))), (q6, .inl (c6, 65, .inl (fun _ => 0)))] H := hP
  have hD : va_D A [(h0, .inr (0, [.ref q1, .ref q2, .ref q3, .int 0, .ref q4, .ref q5, .null, .int 0])), (q1, .inl (c1, 2, .inl (fun _ => 0))), (q2, .inl (c2, 16, .inl (fun _ => 0))), (q3, .inl (c3, 96, .inl (fun _ => 0))), (q4, .inl (c4, 8, .inl (fun _ => 0))), (q5, .inl (c5, 8, .inl (fun _ => 0))), (q6, .inl (c6, 65, .inl (fun _ => 0)))] := hD
  have hK : va_K D vwCl [(c1, .int), (c2, .int), (c3, .int), (c4, .int), (c5, .int), (c6, .int)] s := hK
  refine va_putF (D := D) (ci := 0) (v := .ref q6) (ty := .array .int) (C := RX0) (T := TX0) (N := 8) hx hb hts in_X0 tyX0 tyX0_ok nmX0 hown hK hP hD hS 0 rfl rfl 6 (by decide) (hts _ q46) (fun _ h9 => h9) rfl hin rfl (by decide +kernel) rfl rfl (Nat.le_of_ble_eq_true rfl) (show decode cX0_init 48 = .ok (.putfield 25, 3) by decide +kernel) (fun H locs hP hD hS => ?_)
  have hP : va_P D vwCl [(h0, .inr (0, [.ref q1, .ref q2, .ref q3, .int 0, .ref q4, .ref q5, .ref q6, .int 0])), (q1, .inl (c1, 2, .inl (fun _ => 0))), (q2, .inl (c2, 16, .inl (fun _ => 0))), (q3, .inl (c3, 96, .inl (fun _ => 0))), (q4, .inl (c4, 8, .inl (fun _ => 0))), (q5, .inl (c5, 8, .inl (fun _ => 0))), (q6, .inl (c6, 65, .inl (fun _ => 0)))] H := hP
  have hD : va_D A [(h0, .inr (0, [.ref q1, .ref q2, .ref q3, .int 0, .ref q4, .ref q5, .ref q6, .int 0])), (q1, .inl (c1, 2, .inl (fun _ => 0))), (q2, .inl (c2, 16, .inl (fun _ => 0))), (q3, .inl (c3, 96, .inl (fun _ => 0))), (q4, .inl (c4, 8, .inl (fun _ => 0))), (q5, .inl (c5, 8, .inl (fun _ => 0))), (q6, .inl (c6, 65, .inl (fun _ => 0)))] := hD
  refine W.widen (k := 6) (n := 195) (Nat.le_of_ble_eq_true rfl) (Nat.le_of_ble_eq_true rfl) ?_
  exact W.vret hx hb hr (fun t ht hW => ⟨⟨0, (fun k => match k with | 0 => h0 | 1 => q1 | 2 => q2 | 3 => q3 | 4 => q4 | 5 => q5 | _ => q6, fun k => match k with | 1 => c1 | 2 => c2 | 3 => c3 | 4 => c4 | 5 => c5 | _ => c6), rfl, rfl, by rw [ht]; exact hP, va_K.moved hW.alike hK, hD⟩, hS.F ht⟩) hS.2.2 (show decode cX0_init 51 = .ok (.return_, 1) by decide +kernel) hlocks
def ZM : SM := (fun _ => 0, fun _ => 0)
set_option maxHeartbeats 4000000 in
/-- the constructor: its arrays are new, all is 0 -/
theorem initM (l : Launch) (D : va_G) (h0 sz : Nat) : Met l yX1_init (ws_ yX1_init cX1_init 1 none) ({ frames := 1, cells := 2, slots := 130, locals := 12 }) (va_Pc [.ref h0] (fun U => U.heap.size = sz ∧ va_P D vwCl [(h0, .inr (1, [.null, .null]))] U.heap ∧ va_K D vwCl [] U ∧ va_D (fun _ => True) [(h0, .inr (1, [.null, .null]))])) (qq none (fun _ (u : (Nat → Nat) × (Nat → ClassId)) => u.1 0 = h0) (fun u t => BM D u.2 u.1 (va_A [(h0, .inr (1, [.null, .null]))] sz) ZM t) (va_A [(h0, .inr (1, [.null, .null]))] sz)) 2 130 (va_A [(h0, .inr (1, [.null, .null]))] sz) := by
  refine Met.ofW (cc := cX1_init) (maxL := 1) (ret := none) (by decide) rfl ?_
  intro p e s m args below meth c s₁ B hml hv
  obtain ⟨rfl, hsz, hP, hK, hD0⟩ := hv
  have hx := B.exec
  have hb := B.bytes
  have hr := B.returns
  have hts := atoms_spec (ws := ws_ yX1_init cX1_init 1 none) B.pre
  have hts : ∀ w ∈ lw_all, w.before _ s = true := fun w h => hts w (List.mem_cons_of_mem _ h)
  have hown : s.vm.findClass RX1 = some m.cls := findClass_of_methodNamed B.named
  have hlocks := B.notSynchronized
  have hin : meth.name = "<init>" := (name_of_methodNamed B.named B.method).1
  subst hsz
  have hD := hD0.self (sz := s.heap.size)
  generalize hAe : va_A [(h0, .inr (1, [.null, .null]))] s.heap.size = A at hD ⊢
  have hA : ∀ q : Nat, s.heap.size ≤ q → A q := fun q h => by rw [← hAe]; exact Or.inr h
  have hS : va_S A s.heap s.heap [] := va_S.rf
  have hP : va_P D vwCl [(h0, .inr (1, [.null, .null]))] s.heap := hP
  have hl := lv_entry ([.ref h0]) (n := 1) (Nat.le_of_ble_eq_true rfl)
  rw [lg_entry_eq]
  generalize (lg_sl ([.ref h0]) ++ List.replicate (1 - (lg_sl ([.ref h0])).length) Slot.unset).toArray = ls at hl ⊢
  have hl : lv_has ls 1 [(0, .ref h0)] := hl
  refine lv_aload_n hx hb (show decode cX1_init 0 = .ok (.aload_n 0, 1) by decide +kernel) rfl (lv_at hl 0 rfl) ?_
  refine W.objInit hx hb hown (hts _ q221) (hts _ q38) (hts _ q39) rfl (by rw [hml]; exact hl.1) rfl (show decode cX1_init 1 = .ok (.invokespecial 1, 3) by decide +kernel) (Nat.le_of_ble_eq_true rfl) (Nat.le_of_ble_eq_true rfl) ?_
  refine W.eq (g2 := F0 m 4 ls []) rfl ?_
  refine lv_aload_n hx hb (show decode cX1_init 4 = .ok (.aload_n 0, 1) by decide +kernel) rfl (lv_at hl 0 rfl) ?_
  refine lv_sipush (v := 128) hx hb (show decode cX1_init 5 = .ok (.sipush 128, 3) by decide +kernel) (by decide +kernel) ?_
  refine va_newa (D := D) (atype := .int) (a0 := (128, .inl (fun _ => 0))) (ty := .int) hx hb (hts _ q65) rfl hK hP hD hS hA (fun cA => rfl) (by decide) (by decide +kernel) (by decide) (Nat.le_of_ble_eq_true rfl) (Nat.le_of_ble_eq_true rfl) (show decode cX1_init 8 = .ok (.newarray .int, 2) by decide +kernel) (fun q1 c1 H hK hP hD hS => ?_)
  have hP : va_P D vwCl [(h0, .inr (1, [.null, .null])), (q1, .inl (c1, 128, .inl (fun _ => 0)))] H := hP
  have hD : va_D A [(h0, .inr (1, [.null, .null])), (q1, .inl (c1, 128, .inl (fun _ => 0)))] := hD
  have hK : va_K D vwCl [(c1, .int)] s := hK
  refine va_putF (D := D) (ci := 1) (v := .ref q1) (ty := .array .int) (C := RX1) (T := TX1) (N := 2) hx hb hts in_X1 tyX1 tyX1_ok nmX1 hown hK hP hD hS 0 rfl rfl 0 (by decide) (hts _ q222) (fun _ h9 => h9) rfl hin rfl (by decide +kernel) rfl rfl (Nat.le_of_ble_eq_true rfl) (show decode cX1_init 10 = .ok (.putfield 7, 3) by decide +kernel) (fun H locs hP hD hS => ?_)
  have hP : va_P D vwCl [(h0, .inr (1, [.ref q1, .null])), (q1, .inl (c1, 128, .inl (fun _ => 0)))] H := hP
  have hD : va_D A [(h0, .inr (1, [.ref q1, .null])), (q1, .inl (c1, 128, .inl (fun _ => 0)))] := hD
  refine lv_aload_n hx hb (show decode cX1_init 13 = .ok (.aload_n 0, 1) by decide +kernel) rfl (lv_at hl 0 rfl) ?_
  refine lv_iconst (v := 2) hx hb (show decode cX1_init 14 = .ok (.iconst 2, 1) by decide +kernel) (by decide +kernel) ?_
  refine va_newa (D := D) (atype := .int) (a0 := (2, .inl (fun _ => 0))) (ty := .int) hx hb (hts _ q65) rfl hK hP hD hS hA (fun cA => rfl) (by decide) (by decide +kernel) (by decide) (Nat.le_of_ble_eq_true rfl) (Nat.le_of_ble_eq_true rfl) (show decode cX1_init 15 = .ok (.newarray .int, 2) by decide +kernel) (fun q2 c2 H hK hP hD hS => ?_)
  have hP : va_P D vwCl [(h0, .inr (1, [.ref q1, .null])), (q1, .inl (c1, 128, .inl (fun _ => 0))), (q2, .inl (c2, 2, .inl (fun _ => 0)))] H := hP
  have hD : va_D A [(h0, .inr (1, [.ref q1, .null])), (q1, .inl (c1, 128, .inl (fun _ => 0))), (q2, .inl (c2, 2, .inl (fun _ => 0)))] := hD
  have hK : va_K D vwCl [(c1, .int), (c2, .int)] s := hK
  refine va_putF (D := D) (ci := 1) (v := .ref q2) (ty := .array .int) (C := RX1) (T := TX1) (N := 2) hx hb hts in_X1 tyX1 tyX1_ok nmX1 hown hK hP hD hS 0 rfl rfl 1 (by decide) (hts _ q223) (fun _ h9 => h9) rfl hin rfl (by decide +kernel) rfl rfl (Nat.le_of_ble_eq_true rfl) (show decode cX1_init 17 = .ok (.putfield 13, 3) by decide +kernel) (fun H locs hP hD hS => ?_)
  have hP : va_P D vwCl [(h0, .inr (1, [.ref q1, .ref q2])), (q1, .inl (c1, 128, .inl (fun _ => 0))), (q2, .inl (c2, 2, .inl (fun _ => 0)))] H := hP
  have hD : va_D A [(h0, .inr (1, [.ref q1, .ref q2])), (q1, .inl (c1, 128, .inl (fun _ => 0))), (q2, .inl (c2, 2, .inl (fun _ => 0)))] := hD
  refine W.widen (k := 2) (n := 130) (Nat.le_of_ble_eq_true rfl) (Nat.le_of_ble_eq_true rfl) ?_
  exact W.vret hx hb hr (fun t ht hW => ⟨⟨0, (fun k => match k with | 0 => h0 | 1 => q1 | _ => q2, fun k => match k with | 1 => c1 | _ => c2), rfl, rfl, by rw [ht]; exact hP, va_K.moved hW.alike hK, hD⟩, hS.F ht⟩) hS.2.2 (show decode cX1_init 20 = .ok (.return_, 1) by decide +kernel) hlocks
def A0 : AS := (fun _ => 0, fun _ _ => 0)
theorem QX_0 : QX A0 ZX := fun l _ => RL_0 rfl
theorem QM_0 : QM A0 ZM := fun l _ => ⟨⟨Nat.zero_le 64, fun i hi => absurd hi (Nat.not_lt_zero i), fun i j _ hj => absurd hj (Nat.not_lt_zero j)⟩, rfl, fun i hi => absurd hi (Nat.not_lt_zero i)⟩
end
section
set_option maxRecDepth 100000
def R_law : String := "PforDeltaLaw"
def lw_P (b : Addr) (xs : List Int32) (args : Array Value) (s : State) : Prop := args = #[.ref b] ∧ s.IntsAt b xs ∧ xs.length ≤ 256 ∧ (Jvm.Cond.and given_1 narrow_1).before args s = true
def lw_Q (_ : Array Value) (s : State) (o : Outcome) (t : State) : Prop := o = .returned (some (.int 1)) ∧ Framed s o t [] 600000 7290000
def lw_Z (below : List Frame) (a : Array Value) (s : State) : State → Prop := fun t => ∃ o, t.status = .running ∧ Ended t below o ∧ lw_Q a s o t
/-- the law's own end, with 1 on the stack, nothing written that was there before, its room as the claim has it -/
theorem lw_ret {p : Program} {l : Launch} {e : Env} {s : State} {m : MethodId} {below : List Frame} {meth : Method} {c : Code} {b : Nat} (hx : p.tables.exec = Jvm.exec) (hb : c.code = code) (hr : meth.sig.returnType = ret) (hlocks : meth.locks = false) {pc : Nat} {H : Heap} {ls : Array Slot} (hdg : decode code pc = .ok (.ireturn, 1)) : W p l e room_1 s m #[Value.ref b] below meth c H [] 600000 7290000 (lw_Z below #[Value.ref b] s) (F0 m pc ls [.int 1]) := by
  intro T hT X
  obtain ⟨fs, hret, hrun, hended, hW, hframe⟩ := X.leave (v := some (.int 1)) (hlocks := hlocks) (fun h => by rw [hr] at h; cases h)
  have hmeth' : T.vm.method? m = some meth := X.method'
  refine ⟨T.setFrames fs, ?_, .returned (some (.int 1)), hrun, hended, rfl, ⟨_, rfl⟩, hW, hframe⟩
  jvm_step X.here [X.here.top, hx, hb, hdg, hmeth', hr, ret, narrow_b1]
  (try refine ⟨rfl, ?_⟩); (try refine ⟨rfl, ?_⟩)
  first | (intro acts; rw [hret _ acts rfl rfl rfl]) | rw [hret _ _ rfl rfl rfl]
  exact Steps.refl _
/-- what holds at the law's entry: the machine, the code, the tables' words (any of lw_tbl by 'hts w (by decide +kernel)'), the script of L ints xs at the cell b, what the Statement gives of the start (any of its parts by flat_of_before) -/
def lw_At (p : Program) (s : State) (m : MethodId) (meth : Method) (c : Code) (b L : Nat) (xs : Nat → Int32) : Prop :=
  p.tables.exec = Jvm.exec ∧ c.code = code ∧ meth.sig.returnType = ret ∧ c.maxLocals = 4 ∧ s.vm.findClass R_law = some m.cls ∧ (∀ w ∈ lw_tbl, w.before #[Value.ref b] s = true) ∧ va_X b L xs s s.heap ∧ b < s.heap.size ∧ meth.locks = false ∧ (Jvm.Cond.and given_1 narrow_1).before #[Value.ref b] s = true
def PL : List (Nat × Instr × Nat) := [(0, .new 7, 3), (3, .dup, 1), (4, .invokespecial 9, 3), (7, .astore_n 1, 1), (8, .new 10, 3), (11, .dup, 1), (12, .invokespecial 12, 3), (15, .astore_n 2, 1), (16, .iconst 0, 1), (17, .istore_n 3, 1), (18, .iload_n 3, 1), (19, .aload_n 0, 1), (20, .arraylength, 1), (21, .iconst 4, 1), (22, .isub, 1), (23, .if_icmp .gt 590, 3), (26, .aload_n 0, 1), (27, .iload_n 3, 1), (28, .iaload, 1), (29, .bipush 31, 2), (31, .iand, 1), (32, .tableswitch 575 0 16 #[84, 117, 160, 193, 226, 249, 272, 305, 338, 371, 414, 437, 470, 503, 516, 529, 552], 84), (116, .aload_n 1, 1), (117, .aload_n 0, 1), (118, .iload_n 3, 1), (119, .iconst 1, 1), (120, .iadd, 1), (121, .iaload, 1), (122, .aload_n 0, 1), (123, .iload_n 3, 1), (124, .iconst 2, 1), (125, .iadd, 1), (126, .iaload, 1), (127, .invokevirtual 13, 3), (130, .aload_n 2, 1), (131, .aload_n 0, 1), (132, .iload_n 3, 1), (133, .iconst 1, 1), (134, .iadd, 1), (135, .iaload, 1), (136, .aload_n 0, 1), (137, .iload_n 3, 1), (138, .iconst 2, 1), (139, .iadd, 1), (140, .iaload, 1), (141, .invokevirtual 17, 3), (144, .if_icmp .eq 463, 3), (147, .iconst 0, 1), (148, .ireturn, 1), (149, .aload_n 1, 1), (150, .aload_n 0, 1), (151, .iload_n 3, 1), (152, .iconst 1, 1), (153, .iadd, 1), (154, .iaload, 1), (155, .aload_n 0, 1), (156, .iload_n 3, 1), (157, .iconst 2, 1), (158, .iadd, 1), (159, .iaload, 1), (160, .aload_n 0, 1), (161, .iload_n 3, 1), (162, .iconst 3, 1), (163, .iadd, 1), (164, .iaload, 1), (165, .invokevirtual 18, 3), (168, .aload_n 2, 1), (169, .aload_n 0, 1), (170, .iload_n 3, 1), (171, .iconst 1, 1), (172, .iadd, 1), (173, .iaload, 1), (174, .aload_n 0, 1), (175, .iload_n 3, 1), (176, .iconst 2, 1), (177, .iadd, 1), (178, .iaload, 1), (179, .aload_n 0, 1), (180, .iload_n 3, 1), (181, .iconst 3, 1), (182, .iadd, 1), (183, .iaload, 1), (184, .invokevirtual 22, 3), (187, .if_icmp .eq 420, 3), (190, .iconst 0, 1), (191, .ireturn, 1), (192, .aload_n 1, 1), (193, .aload_n 0, 1), (194, .iload_n 3, 1), (195, .iconst 1, 1), (196, .iadd, 1), (197, .iaload, 1), (198, .aload_n 0, 1), (199, .iload_n 3, 1), (200, .iconst 2, 1), (201, .iadd, 1), (202, .iaload, 1), (203, .invokevirtual 23, 3), (206, .aload_n 2, 1), (207, .aload_n 0, 1), (208, .iload_n 3, 1), (209, .iconst 1, 1), (210, .iadd, 1), (211, .iaload, 1), (212, .aload_n 0, 1), (213, .iload_n 3, 1), (214, .iconst 2, 1), (215, .iadd, 1), (216, .iaload, 1), (217, .invokevirtual 26, 3), (220, .if_icmp .eq 387, 3), (223, .iconst 0, 1), (224, .ireturn, 1), (225, .aload_n 1, 1), (226, .aload_n 0, 1), (227, .iload_n 3, 1), (228, .iconst 1, 1), (229, .iadd, 1), (230, .iaload, 1), (231, .aload_n 0, 1), (232, .iload_n 3, 1), (233, .iconst 2, 1), (234, .iadd, 1), (235, .iaload, 1), (236, .invokevirtual 27, 3), (239, .aload_n 2, 1), (240, .aload_n 0, 1), (241, .iload_n 3, 1), (242, .iconst 1, 1), (243, .iadd, 1), (244, .iaload, 1), (245, .aload_n 0, 1), (246, .iload_n 3, 1), (247, .iconst 2, 1), (248, .iadd, 1), (249, .iaload, 1), (250, .invokevirtual 30, 3), (253, .if_icmp .eq 354, 3), (256, .iconst 0, 1), (257, .ireturn, 1), (258, .aload_n 1, 1), (259, .aload_n 0, 1), (260, .iload_n 3, 1), (261, .iconst 1, 1), (262, .iadd, 1), (263, .iaload, 1), (264, .invokevirtual 31, 3), (267, .aload_n 2, 1), (268, .aload_n 0, 1), (269, .iload_n 3, 1), (270, .iconst 1, 1), (271, .iadd, 1), (272, .iaload, 1), (273, .invokevirtual 35, 3), (276, .if_icmp .eq 331, 3), (279, .iconst 0, 1), (280, .ireturn, 1), (281, .aload_n 1, 1), (282, .aload_n 0, 1), (283, .iload_n 3, 1), (284, .iconst 1, 1), (285, .iadd, 1), (286, .iaload, 1), (287, .invokevirtual 36, 3), (290, .aload_n 2, 1), (291, .aload_n 0, 1), (292, .iload_n 3, 1), (293, .iconst 1, 1), (294, .iadd, 1), (295, .iaload, 1), (296, .invokevirtual 39, 3), (299, .if_icmp .eq 308, 3), (302, .iconst 0, 1), (303, .ireturn, 1), (304, .aload_n 1, 1), (305, .aload_n 0, 1), (306, .iload_n 3, 1), (307, .iconst 1, 1), (308, .iadd, 1), (309, .iaload, 1), (310, .aload_n 0, 1), (311, .iload_n 3, 1), (312, .iconst 2, 1), (313, .iadd, 1), (314, .iaload, 1), (315, .invokevirtual 40, 3), (318, .aload_n 2, 1), (319, .aload_n 0, 1), (320, .iload_n 3, 1), (321, .iconst 1, 1), (322, .iadd, 1), (323, .iaload, 1), (324, .aload_n 0, 1), (325, .iload_n 3, 1), (326, .iconst 2, 1), (327, .iadd, 1), (328, .iaload, 1), (329, .invokevirtual 43, 3), (332, .if_icmp .eq 275, 3), (335, .iconst 0, 1), (336, .ireturn, 1), (337, .aload_n 1, 1), (338, .aload_n 0, 1), (339, .iload_n 3, 1), (340, .iconst 1, 1), (341, .iadd, 1), (342, .iaload, 1), (343, .aload_n 0, 1), (344, .iload_n 3, 1), (345, .iconst 2, 1), (346, .iadd, 1), (347, .iaload, 1), (348, .invokevirtual 44, 3), (351, .aload_n 2, 1), (352, .aload_n 0, 1), (353, .iload_n 3, 1), (354, .iconst 1, 1), (355, .iadd, 1), (356, .iaload, 1), (357, .aload_n 0, 1), (358, .iload_n 3, 1), (359, .iconst 2, 1), (360, .iadd, 1), (361, .iaload, 1), (362, .invokevirtual 47, 3), (365, .if_icmp .eq 242, 3), (368, .iconst 0, 1), (369, .ireturn, 1), (370, .aload_n 1, 1), (371, .aload_n 0, 1), (372, .iload_n 3, 1), (373, .iconst 1, 1), (374, .iadd, 1), (375, .iaload, 1), (376, .aload_n 0, 1), (377, .iload_n 3, 1), (378, .iconst 2, 1), (379, .iadd, 1), (380, .iaload, 1), (381, .invokevirtual 48, 3), (384, .aload_n 2, 1), (385, .aload_n 0, 1), (386, .iload_n 3, 1), (387, .iconst 1, 1), (388, .iadd, 1), (389, .iaload, 1), (390, .aload_n 0, 1), (391, .iload_n 3, 1), (392, .iconst 2, 1), (393, .iadd, 1), (394, .iaload, 1), (395, .invokevirtual 52, 3), (398, .if_icmp .eq 209, 3), (401, .iconst 0, 1), (402, .ireturn, 1), (403, .aload_n 1, 1), (404, .aload_n 0, 1), (405, .iload_n 3, 1), (406, .iconst 1, 1), (407, .iadd, 1), (408, .iaload, 1), (409, .aload_n 0, 1), (410, .iload_n 3, 1), (411, .iconst 2, 1), (412, .iadd, 1), (413, .iaload, 1), (414, .aload_n 0, 1), (415, .iload_n 3, 1), (416, .iconst 3, 1), (417, .iadd, 1), (418, .iaload, 1), (419, .invokevirtual 53, 3), (422, .aload_n 2, 1), (423, .aload_n 0, 1), (424, .iload_n 3, 1), (425, .iconst 1, 1), (426, .iadd, 1), (427, .iaload, 1), (428, .aload_n 0, 1), (429, .iload_n 3, 1), (430, .iconst 2, 1), (431, .iadd, 1), (432, .iaload, 1), (433, .aload_n 0, 1), (434, .iload_n 3, 1), (435, .iconst 3, 1), (436, .iadd, 1), (437, .iaload, 1), (438, .invokevirtual 56, 3), (441, .if_icmp .eq 166, 3), (444, .iconst 0, 1), (445, .ireturn, 1), (446, .aload_n 1, 1), (447, .aload_n 0, 1), (448, .iload_n 3, 1), (449, .iconst 1, 1), (450, .iadd, 1), (451, .iaload, 1), (452, .invokevirtual 57, 3), (455, .aload_n 2, 1), (456, .aload_n 0, 1), (457, .iload_n 3, 1), (458, .iconst 1, 1), (459, .iadd, 1), (460, .iaload, 1), (461, .invokevirtual 60, 3), (464, .if_icmp .eq 143, 3), (467, .iconst 0, 1), (468, .ireturn, 1), (469, .aload_n 1, 1), (470, .aload_n 0, 1), (471, .iload_n 3, 1), (472, .iconst 1, 1), (473, .iadd, 1), (474, .iaload, 1), (475, .aload_n 0, 1), (476, .iload_n 3, 1), (477, .iconst 2, 1), (478, .iadd, 1), (479, .iaload, 1), (480, .invokevirtual 61, 3), (483, .aload_n 2, 1), (484, .aload_n 0, 1), (485, .iload_n 3, 1), (486, .iconst 1, 1), (487, .iadd, 1), (488, .iaload, 1), (489, .aload_n 0, 1), (490, .iload_n 3, 1), (491, .iconst 2, 1), (492, .iadd, 1), (493, .iaload, 1), (494, .invokevirtual 64, 3), (497, .if_icmp .eq 110, 3), (500, .iconst 0, 1), (501, .ireturn, 1), (502, .aload_n 1, 1), (503, .aload_n 0, 1), (504, .iload_n 3, 1), (505, .iconst 1, 1), (506, .iadd, 1), (507, .iaload, 1), (508, .aload_n 0, 1), (509, .iload_n 3, 1), (510, .iconst 2, 1), (511, .iadd, 1), (512, .iaload, 1), (513, .invokevirtual 65, 3), (516, .aload_n 2, 1), (517, .aload_n 0, 1), (518, .iload_n 3, 1), (519, .iconst 1, 1), (520, .iadd, 1), (521, .iaload, 1), (522, .aload_n 0, 1), (523, .iload_n 3, 1), (524, .iconst 2, 1), (525, .iadd, 1), (526, .iaload, 1), (527, .invokevirtual 68, 3), (530, .if_icmp .eq 77, 3), (533, .iconst 0, 1), (534, .ireturn, 1), (535, .aload_n 1, 1), (536, .invokevirtual 69, 3), (539, .aload_n 2, 1), (540, .invokevirtual 73, 3), (543, .if_icmp .eq 64, 3), (546, .iconst 0, 1), (547, .ireturn, 1), (548, .aload_n 1, 1), (549, .invokevirtual 74, 3), (552, .aload_n 2, 1), (553, .invokevirtual 77, 3), (556, .if_icmp .eq 51, 3), (559, .iconst 0, 1), (560, .ireturn, 1), (561, .aload_n 1, 1), (562, .aload_n 0, 1), (563, .iload_n 3, 1), (564, .iconst 1, 1), (565, .iadd, 1), (566, .iaload, 1), (567, .invokevirtual 78, 3), (570, .aload_n 2, 1), (571, .aload_n 0, 1), (572, .iload_n 3, 1), (573, .iconst 1, 1), (574, .iadd, 1), (575, .iaload, 1), (576, .invokevirtual 81, 3), (579, .if_icmp .eq 28, 3), (582, .iconst 0, 1), (583, .ireturn, 1), (584, .aload_n 1, 1), (585, .aload_n 0, 1), (586, .iload_n 3, 1), (587, .iconst 1, 1), (588, .iadd, 1), (589, .iaload, 1), (590, .invokevirtual 82, 3), (593, .aload_n 2, 1), (594, .aload_n 0, 1), (595, .iload_n 3, 1), (596, .iconst 1, 1), (597, .iadd, 1), (598, .iaload, 1), (599, .invokevirtual 85, 3), (602, .if_icmp .eq 5, 3), (605, .iconst 0, 1), (606, .ireturn, 1), (607, .iinc 3 4, 3), (610, .goto (-592), 3), (613, .iconst 1, 1), (614, .ireturn, 1)]
theorem PL_ok : PL.all (fun q => decide (decode code q.1 = .ok (q.2.1, q.2.2))) = true := by decide +kernel
def lkd (pc : Nat) : List (Nat × Instr × Nat) → Option (Nat × Instr × Nat)
  | [] => none
  | q :: P => cond (Nat.beq q.1 pc) (some q) (lkd pc P)
theorem lkd_ok {pc : Nat} : ∀ {P : List (Nat × Instr × Nat)} {q : Nat × Instr × Nat}, lkd pc P = some q → q ∈ P ∧ q.1 = pc
  | [], q, h => by cases h
  | x :: P, q, h => by
    unfold lkd at h
    cases hb : Nat.beq x.1 pc with
    | true =>
      rw [hb] at h
      cases h
      exact ⟨List.mem_cons_self, Nat.eq_of_beq_eq_true hb⟩
    | false =>
      rw [hb] at h
      obtain ⟨h1, h2⟩ := lkd_ok (P := P) h
      exact ⟨List.mem_cons_of_mem _ h1, h2⟩
/-- an instruction of the law, by its place -/
theorem dLg {cc : ByteArray} {P : List (Nat × Instr × Nat)} (hP : P.all (fun q => decide (decode cc q.1 = .ok (q.2.1, q.2.2))) = true) {pc : Nat} {i : Instr} {n : Nat} (h : lkd pc P = some (pc, i, n)) : decode cc pc = .ok (i, n) := by
  have h1 := List.all_eq_true.mp hP (pc, i, n) (lkd_ok h).1
  exact of_decide_eq_true h1
theorem dL {pc : Nat} {i : Instr} {n : Nat} (h : lkd pc PL = some (pc, i, n)) : decode code pc = .ok (i, n) := dLg PL_ok h
/-- what the law's walk rests on -/
def CL (p : Program) (s : State) (m : MethodId) (meth : Method) (c : Code) (b L : Nat) (xs : Nat → Int32) (D : va_G) (dX dM : Nat → ClassId) : Prop :=
  p.tables.exec = Jvm.exec ∧ c.code = code ∧ meth.sig.returnType = ret ∧ c.maxLocals = 4 ∧ s.vm.findClass R_law = some m.cls ∧ (∀ w ∈ lw_all, w.before #[Value.ref b] s = true) ∧ va_X b L xs s s.heap ∧ b < s.heap.size ∧ meth.locks = false ∧ va_K D vwCl (tX dX ++ tM dM) s
abbrev AL (s : State) : Nat → Prop := fun q => s.heap.size ≤ q
/-- the two objects' cells -/
abbrev wL (aX : Nat → Nat) (dX : Nat → ClassId) (aM : Nat → Nat) (dM : Nat → ClassId) (S : SX) (T : SM) : va_W := pX aX dX S ++ pM aM dM T
def PW (D : va_G) (s : State) (aX : Nat → Nat) (dX : Nat → ClassId) (aM : Nat → Nat) (dM : Nat → ClassId) (S : SX) (T : SM) (H : Heap) (locs : List Loc) : Prop := va_P D vwCl (wL aX dX aM dM S T) H ∧ va_D (AL s) (wL aX dX aM dM S T) ∧ va_S (AL s) s.heap H locs
abbrev WL (p : Program) (l : Launch) (e : Env) (s : State) (m : MethodId) (below : List Frame) (meth : Method) (c : Code) (b : Nat) (H : Heap) (locs : List Loc) (pc : Nat) (ls : Array Slot) (st : List Value) : Prop := W p l e room_1 s m #[Value.ref b] below meth c H locs 600000 7290000 (lw_Z below #[Value.ref b] s) (F0 m pc ls st)
abbrev lcl (b qx qm : Nat) (i : Int32) : List (Nat × Value) := [(0, .ref b), (1, .ref qx), (2, .ref qm), (3, .int i)]
section LW
variable {p : Program} {l : Launch} {e : Env} {s : State} {m : MethodId} {below : List Frame} {meth : Method} {c : Code} {b L : Nat} {xs : Nat → Int32} {D : va_G} {aX aM : Nat → Nat} {dX dM : Nat → ClassId} {S : SX} {T : SM} {H : Heap} {locs : List Loc} {ls : Array Slot}
theorem lw_arg (C : CL p s m meth c b L xs D dX dM) (hS : va_S (AL s) s.heap H locs) {qx qm i j pc : Nat} {n : Int} {st : List Value} (hl : lv_has ls 4 (lcl b qx qm (nI i))) (hL : L ≤ 256) (hij : i + j < L) (hn : Int32.ofInt n = nI j) (d0 : decode code pc = .ok (.aload_n 0, 1)) (d1 : decode code (pc + 1) = .ok (.iload_n 3, 1)) (d2 : decode code (pc + 1 + 1) = .ok (.iconst n, 1)) (d3 : decode code (pc + 1 + 1 + 1) = .ok (.iadd, 1)) (d4 : decode code (pc + 1 + 1 + 1 + 1) = .ok (.iaload, 1)) (k : WL p l e s m below meth c b H locs (pc + 5) ls (.int (xs (i + j)) :: st)) : WL p l e s m below meth c b H locs pc ls st := by
  obtain ⟨hx, hb, hr, hml, hown, hts, hX, hbl, hlocks, hK⟩ := C
  refine lv_aload_n hx hb d0 rfl (lv_at hl 0 rfl) ?_
  refine lv_iload_n hx hb d1 rfl (lv_at hl 3 rfl) ?_
  refine lv_iconst (v := nI j) hx hb d2 hn ?_
  refine lv_iadd hx hb d3 ?_
  rw [nI_add]
  refine va_sld hx hb hX hbl (Nat.not_le.mpr hbl) hS (pd_in hij (by omega)) d4 ?_
  rw [pd_cl (by omega)]
  exact k
set_option maxHeartbeats 1000000 in
theorem lw_callX (C : CL p s m meth c b L xs D dX dM) (hW : PW D s aX dX aM dM S T H locs) (hls : ls.size = 4) {y : MethodName} {d2 : MD} {post2 : Int32 → SX → Prop} {pc idx : Nat} {rest : List Value} {ty : FieldType} (vs : List Int32) (hC : CX y d2 vs S post2) (hw : GoodIn lw_all (wsV R_law idx RX0 y (ws_ y d2.1 d2.2.1 d2.2.2.1))) (hn : y.cls = RX0 ∧ y.cls ≠ "java/lang/invoke/MethodHandle" ∧ y.cls ≠ "java/lang/invoke/VarHandle" ∧ (parseMethodDescriptor y.desc).map (fun d => d.parameters.length) = some vs.length) (hd : decode code pc = .ok (.invokevirtual idx, 3)) (hR : d2.2.2.2.1 + 1 ≤ 8 ∧ 8 + (d2.2.1 + 11) + d2.2.2.2.2 ≤ 298) (hty : d2.2.2.1 = some ty) (hrest : (rest.map fun v => v.category).sum ≤ 8)
    (k : ∀ r S1 H1 locs1, post2 r S1 → PW D s aX dX aM dM S1 T H1 locs1 → WL p l e s m below meth c b H1 locs1 (pc + 3) ls (.int r :: rest)) : WL p l e s m below meth c b H locs pc ls ((vs.map Value.int).reverse ++ .ref (aX 0) :: rest) := by
  obtain ⟨hx, hb, hr, hml, hown, hts, hX, hbl, hlocks, hK⟩ := C
  obtain ⟨hP, hD, hS⟩ := hW
  have hA : ∀ q : Nat, s.heap.size ≤ q → AL s q := fun _ h => h
  have hPc := hP.sub (ws' := pX aX dX S) [0, 1, 2, 3, 4, 5, 6] rfl
  have hDc := hD.sub (ws' := pX aX dX S) [0, 1, 2, 3, 4, 5, 6] (by decide) rfl
  have hKc := hK.sub (tys' := tX dX) [0, 1, 2, 3, 4, 5] rfl
  have hFc := va_free (wc := pX aX dX S) hD hS hA [0, 1, 2, 3, 4, 5, 6] rfl
  refine qq_call (va_runV (As := vs.map Value.int) (rest := rest) ⟨hx, hb, hml, hown, hts⟩ (hC l D dX aX H.size) (cwV vs.length hts hw rfl rfl rfl hn hR) ⟨fun a U g mk q => by obtain ⟨q0, q1, qP, qK, qD⟩ := q; exact ⟨q0, q1, qP, va_K.moved (u := U) (U := U.calling g mk a) (Vm.Alike.refl U.vm) qK, qD⟩, va_recv hKc hPc (ci := 0) (q0 := 0) rfl rfl, fun U hU hW => ⟨rfl, by rw [hU], by rw [hU]; exact hPc, va_K.moved hW.alike hKc, hDc.weaken (fun _ _ _ _ => trivial)⟩⟩ rfl (List.length_map ..) hls rfl (lv_room hrest) hd ⟨Nat.le_refl 600000, Nat.le_refl 7290000⟩) hS (fun q _ h => hFc q h) hFc (fun r u t H1 locs1 ht hvm hpo hB hz1 hk1 hS1 => ?_)
  obtain ⟨hP1, hK1, hD1⟩ := hB
  rw [ht] at hP1
  obtain ⟨hP2, hD2⟩ := va_join (wr := pM aM dM T) (w1 := pX aX dX u) hP hD [0, 1, 2, 3, 4, 5, 6] [7, 8, 9] rfl rfl (by decide) (by decide) hk1 hFc hP1 hD1
  have hq := k r u H1 locs1 hpo ⟨hP2.sub [3, 4, 5, 6, 7, 8, 9, 0, 1, 2] rfl, hD2.sub [3, 4, 5, 6, 7, 8, 9, 0, 1, 2] (by decide) rfl, hS1⟩
  rw [hty]
  exact hq
set_option maxHeartbeats 1000000 in
theorem lw_callM (C : CL p s m meth c b L xs D dX dM) (hW : PW D s aX dX aM dM S T H locs) (hls : ls.size = 4) {y : MethodName} {d2 : MD} {post2 : Int32 → SM → Prop} {pc idx : Nat} {rest : List Value} {ty : FieldType} (vs : List Int32) (hC : CM y d2 vs T post2) (hw : GoodIn lw_all (wsV R_law idx RX1 y (ws_ y d2.1 d2.2.1 d2.2.2.1))) (hn : y.cls = RX1 ∧ y.cls ≠ "java/lang/invoke/MethodHandle" ∧ y.cls ≠ "java/lang/invoke/VarHandle" ∧ (parseMethodDescriptor y.desc).map (fun d => d.parameters.length) = some vs.length) (hd : decode code pc = .ok (.invokevirtual idx, 3)) (hR : d2.2.2.2.1 + 1 ≤ 8 ∧ 8 + (d2.2.1 + 11) + d2.2.2.2.2 ≤ 298) (hty : d2.2.2.1 = some ty) (hrest : (rest.map fun v => v.category).sum ≤ 8)
    (k : ∀ r T1 H1 locs1, post2 r T1 → PW D s aX dX aM dM S T1 H1 locs1 → WL p l e s m below meth c b H1 locs1 (pc + 3) ls (.int r :: rest)) : WL p l e s m below meth c b H locs pc ls ((vs.map Value.int).reverse ++ .ref (aM 0) :: rest) := by
  obtain ⟨hx, hb, hr, hml, hown, hts, hX, hbl, hlocks, hK⟩ := C
  obtain ⟨hP, hD, hS⟩ := hW
  have hA : ∀ q : Nat, s.heap.size ≤ q → AL s q := fun _ h => h
  have hPc := hP.sub (ws' := pM aM dM T) [7, 8, 9] rfl
  have hDc := hD.sub (ws' := pM aM dM T) [7, 8, 9] (by decide) rfl
  have hKc := hK.sub (tys' := tM dM) [6, 7] rfl
  have hFc := va_free (wc := pM aM dM T) hD hS hA [7, 8, 9] rfl
  refine qq_call (va_runV (As := vs.map Value.int) (rest := rest) ⟨hx, hb, hml, hown, hts⟩ (hC l D dM aM H.size) (cwV vs.length hts hw rfl rfl rfl hn hR) ⟨fun a U g mk q => by obtain ⟨q0, q1, qP, qK, qD⟩ := q; exact ⟨q0, q1, qP, va_K.moved (u := U) (U := U.calling g mk a) (Vm.Alike.refl U.vm) qK, qD⟩, va_recv hKc hPc (ci := 1) (q0 := 0) rfl rfl, fun U hU hW => ⟨rfl, by rw [hU], by rw [hU]; exact hPc, va_K.moved hW.alike hKc, hDc.weaken (fun _ _ _ _ => trivial)⟩⟩ rfl (List.length_map ..) hls rfl (lv_room hrest) hd ⟨Nat.le_refl 600000, Nat.le_refl 7290000⟩) hS (fun q _ h => hFc q h) hFc (fun r u t H1 locs1 ht hvm hpo hB hz1 hk1 hS1 => ?_)
  obtain ⟨hP1, hK1, hD1⟩ := hB
  rw [ht] at hP1
  obtain ⟨hP2, hD2⟩ := va_join (wr := pX aX dX S) (w1 := pM aM dM u) hP hD [7, 8, 9] [0, 1, 2, 3, 4, 5, 6] rfl rfl (by decide) (by decide) hk1 hFc hP1 hD1
  have hq := k r u H1 locs1 hpo ⟨hP2, hD2, hS1⟩
  rw [hty]
  exact hq
end LW
end
section
set_option maxRecDepth 100000
section LC
variable {p : Program} {l : Launch} {e : Env} {s : State} {m : MethodId} {below : List Frame} {meth : Method} {c : Code} {b L : Nat} {xs : Nat → Int32} {D : va_G} {aX aM : Nat → Nat} {dX dM : Nat → ClassId} {S : SX} {T : SM} {H : Heap} {locs : List Loc} {ls : Array Slot}
theorem lcX_append : GoodIn lw_all (wsV R_law 13 RX0 yX0_append (ws_ yX0_append dX_append.1 dX_append.2.1 dX_append.2.2.1)) := lw_V q66 q67 q68 q30 q69
theorem lnX_append : yX0_append.cls = RX0 ∧ yX0_append.cls ≠ "java/lang/invoke/MethodHandle" ∧ yX0_append.cls ≠ "java/lang/invoke/VarHandle" ∧ (parseMethodDescriptor yX0_append.desc).map (fun d => d.parameters.length) = some 2 := by decide +kernel
theorem lcM_append : GoodIn lw_all (wsV R_law 17 RX1 yX1_append (ws_ yX1_append dM_append.1 dM_append.2.1 dM_append.2.2.1)) := lw_V q229 q230 q231 q31 q232
theorem lnM_append : yX1_append.cls = RX1 ∧ yX1_append.cls ≠ "java/lang/invoke/MethodHandle" ∧ yX1_append.cls ≠ "java/lang/invoke/VarHandle" ∧ (parseMethodDescriptor yX1_append.desc).map (fun d => d.parameters.length) = some 2 := by decide +kernel
set_option maxHeartbeats 1000000 in
theorem lwc_append (C : CL p s m meth c b L xs D dX dM) (hW : PW D s aX dX aM dM S T H locs) {i : Nat} (hl : lv_has ls 4 (lcl b (aX 0) (aM 0) (nI i))) (hL : L ≤ 256) (hi : i + 3 < L) {a : AS} (HX : QX a S) (HM : QM a T) (K : ∀ (a1 : AS) S1 T1 H1 locs1, QX a1 S1 → QM a1 T1 → PW D s aX dX aM dM S1 T1 H1 locs1 → WL p l e s m below meth c b H1 locs1 607 ls []) : WL p l e s m below meth c b H locs 116 ls [] := by
  obtain ⟨hx, hb, hr, hml, hown, hts, hX, hbl, hlocks, hK⟩ := id C
  refine lv_aload_n hx hb (dL (pc := 116) rfl) rfl (lv_at hl 1 rfl) ?_
  refine lw_arg (j := 1) C hW.2.2 hl hL (by omega) (by decide +kernel) (dL (pc := 117) rfl) (dL (pc := 118) rfl) (dL (pc := 119) rfl) (dL (pc := 120) rfl) (dL (pc := 121) rfl) ?_
  refine lw_arg (j := 2) C hW.2.2 hl hL (by omega) (by decide +kernel) (dL (pc := 122) rfl) (dL (pc := 123) rfl) (dL (pc := 124) rfl) (dL (pc := 125) rfl) (dL (pc := 126) rfl) ?_
  refine lw_callX (rest := []) C hW hl.1 [xs (i + 1), xs (i + 2)] (X_append HX) lcX_append lnX_append (dL (pc := 127) rfl) ⟨by decide, by decide⟩ rfl (Nat.le_of_ble_eq_true rfl) ?_
  rintro r S1 H1 locs1 ⟨rfl, HX1⟩ hW1
  refine lv_aload_n hx hb (dL (pc := 130) rfl) rfl (lv_at hl 2 rfl) ?_
  refine lw_arg (j := 1) C hW1.2.2 hl hL (by omega) (by decide +kernel) (dL (pc := 131) rfl) (dL (pc := 132) rfl) (dL (pc := 133) rfl) (dL (pc := 134) rfl) (dL (pc := 135) rfl) ?_
  refine lw_arg (j := 2) C hW1.2.2 hl hL (by omega) (by decide +kernel) (dL (pc := 136) rfl) (dL (pc := 137) rfl) (dL (pc := 138) rfl) (dL (pc := 139) rfl) (dL (pc := 140) rfl) ?_
  refine lw_callM (rest := [.int (a_append a (xs (i + 1)) (xs (i + 2)))]) C hW1 hl.1 [xs (i + 1), xs (i + 2)] (M_append HM) lcM_append lnM_append (dL (pc := 141) rfl) ⟨by decide, by decide⟩ rfl (Nat.le_of_ble_eq_true rfl) ?_
  rintro r T1 H2 locs2 ⟨rfl, HM1⟩ hW2
  exact lv_icmp_eq (tgt := 607) hx hb (dL (pc := 144) rfl) (by decide) (fun _ => K _ _ _ _ _ HX1 HM1 hW2) (fun z => absurd rfl z)
theorem lcX_run : GoodIn lw_all (wsV R_law 18 RX0 yX0_run (ws_ yX0_run dX_run.1 dX_run.2.1 dX_run.2.2.1)) := lw_V q123 q124 q125 q30 q126
theorem lnX_run : yX0_run.cls = RX0 ∧ yX0_run.cls ≠ "java/lang/invoke/MethodHandle" ∧ yX0_run.cls ≠ "java/lang/invoke/VarHandle" ∧ (parseMethodDescriptor yX0_run.desc).map (fun d => d.parameters.length) = some 3 := by decide +kernel
theorem lcM_run : GoodIn lw_all (wsV R_law 22 RX1 yX1_run (ws_ yX1_run dM_run.1 dM_run.2.1 dM_run.2.2.1)) := lw_V q250 q251 q252 q31 q253
theorem lnM_run : yX1_run.cls = RX1 ∧ yX1_run.cls ≠ "java/lang/invoke/MethodHandle" ∧ yX1_run.cls ≠ "java/lang/invoke/VarHandle" ∧ (parseMethodDescriptor yX1_run.desc).map (fun d => d.parameters.length) = some 3 := by decide +kernel
set_option maxHeartbeats 1000000 in
theorem lwc_run (C : CL p s m meth c b L xs D dX dM) (hW : PW D s aX dX aM dM S T H locs) {i : Nat} (hl : lv_has ls 4 (lcl b (aX 0) (aM 0) (nI i))) (hL : L ≤ 256) (hi : i + 3 < L) {a : AS} (HX : QX a S) (HM : QM a T) (K : ∀ (a1 : AS) S1 T1 H1 locs1, QX a1 S1 → QM a1 T1 → PW D s aX dX aM dM S1 T1 H1 locs1 → WL p l e s m below meth c b H1 locs1 607 ls []) : WL p l e s m below meth c b H locs 149 ls [] := by
  obtain ⟨hx, hb, hr, hml, hown, hts, hX, hbl, hlocks, hK⟩ := id C
  refine lv_aload_n hx hb (dL (pc := 149) rfl) rfl (lv_at hl 1 rfl) ?_
  refine lw_arg (j := 1) C hW.2.2 hl hL (by omega) (by decide +kernel) (dL (pc := 150) rfl) (dL (pc := 151) rfl) (dL (pc := 152) rfl) (dL (pc := 153) rfl) (dL (pc := 154) rfl) ?_
  refine lw_arg (j := 2) C hW.2.2 hl hL (by omega) (by decide +kernel) (dL (pc := 155) rfl) (dL (pc := 156) rfl) (dL (pc := 157) rfl) (dL (pc := 158) rfl) (dL (pc := 159) rfl) ?_
  refine lw_arg (j := 3) C hW.2.2 hl hL (by omega) (by decide +kernel) (dL (pc := 160) rfl) (dL (pc := 161) rfl) (dL (pc := 162) rfl) (dL (pc := 163) rfl) (dL (pc := 164) rfl) ?_
  refine lw_callX (rest := []) C hW hl.1 [xs (i + 1), xs (i + 2), xs (i + 3)] (X_run HX) lcX_run lnX_run (dL (pc := 165) rfl) ⟨by decide, by decide⟩ rfl (Nat.le_of_ble_eq_true rfl) ?_
  rintro r S1 H1 locs1 ⟨rfl, HX1⟩ hW1
  refine lv_aload_n hx hb (dL (pc := 168) rfl) rfl (lv_at hl 2 rfl) ?_
  refine lw_arg (j := 1) C hW1.2.2 hl hL (by omega) (by decide +kernel) (dL (pc := 169) rfl) (dL (pc := 170) rfl) (dL (pc := 171) rfl) (dL (pc := 172) rfl) (dL (pc := 173) rfl) ?_
  refine lw_arg (j := 2) C hW1.2.2 hl hL (by omega) (by decide +kernel) (dL (pc := 174) rfl) (dL (pc := 175) rfl) (dL (pc := 176) rfl) (dL (pc := 177) rfl) (dL (pc := 178) rfl) ?_
  refine lw_arg (j := 3) C hW1.2.2 hl hL (by omega) (by decide +kernel) (dL (pc := 179) rfl) (dL (pc := 180) rfl) (dL (pc := 181) rfl) (dL (pc := 182) rfl) (dL (pc := 183) rfl) ?_
  refine lw_callM (rest := [.int (a_run a (xs (i + 1)) (xs (i + 2)) (xs (i + 3)))]) C hW1 hl.1 [xs (i + 1), xs (i + 2), xs (i + 3)] (M_run HM) lcM_run lnM_run (dL (pc := 184) rfl) ⟨by decide, by decide⟩ rfl (Nat.le_of_ble_eq_true rfl) ?_
  rintro r T1 H2 locs2 ⟨rfl, HM1⟩ hW2
  exact lv_icmp_eq (tgt := 607) hx hb (dL (pc := 187) rfl) (by decide) (fun _ => K _ _ _ _ _ HX1 HM1 hW2) (fun z => absurd rfl z)
theorem lcX_insert : GoodIn lw_all (wsV R_law 23 RX0 yX0_insert (ws_ yX0_insert dX_insert.1 dX_insert.2.1 dX_insert.2.2.1)) := lw_V q127 q128 q129 q30 q130
theorem lnX_insert : yX0_insert.cls = RX0 ∧ yX0_insert.cls ≠ "java/lang/invoke/MethodHandle" ∧ yX0_insert.cls ≠ "java/lang/invoke/VarHandle" ∧ (parseMethodDescriptor yX0_insert.desc).map (fun d => d.parameters.length) = some 2 := by decide +kernel
theorem lcM_insert : GoodIn lw_all (wsV R_law 26 RX1 yX1_insert (ws_ yX1_insert dM_insert.1 dM_insert.2.1 dM_insert.2.2.1)) := lw_V q254 q255 q256 q31 q257
theorem lnM_insert : yX1_insert.cls = RX1 ∧ yX1_insert.cls ≠ "java/lang/invoke/MethodHandle" ∧ yX1_insert.cls ≠ "java/lang/invoke/VarHandle" ∧ (parseMethodDescriptor yX1_insert.desc).map (fun d => d.parameters.length) = some 2 := by decide +kernel
set_option maxHeartbeats 1000000 in
theorem lwc_insert (C : CL p s m meth c b L xs D dX dM) (hW : PW D s aX dX aM dM S T H locs) {i : Nat} (hl : lv_has ls 4 (lcl b (aX 0) (aM 0) (nI i))) (hL : L ≤ 256) (hi : i + 3 < L) {a : AS} (HX : QX a S) (HM : QM a T) (K : ∀ (a1 : AS) S1 T1 H1 locs1, QX a1 S1 → QM a1 T1 → PW D s aX dX aM dM S1 T1 H1 locs1 → WL p l e s m below meth c b H1 locs1 607 ls []) : WL p l e s m below meth c b H locs 192 ls [] := by
  obtain ⟨hx, hb, hr, hml, hown, hts, hX, hbl, hlocks, hK⟩ := id C
  refine lv_aload_n hx hb (dL (pc := 192) rfl) rfl (lv_at hl 1 rfl) ?_
  refine lw_arg (j := 1) C hW.2.2 hl hL (by omega) (by decide +kernel) (dL (pc := 193) rfl) (dL (pc := 194) rfl) (dL (pc := 195) rfl) (dL (pc := 196) rfl) (dL (pc := 197) rfl) ?_
  refine lw_arg (j := 2) C hW.2.2 hl hL (by omega) (by decide +kernel) (dL (pc := 198) rfl) (dL (pc := 199) rfl) (dL (pc := 200) rfl) (dL (pc := 201) rfl) (dL (pc := 202) rfl) ?_
  refine lw_callX (rest := []) C hW hl.1 [xs (i + 1), xs (i + 2)] (X_insert HX) lcX_insert lnX_insert (dL (pc := 203) rfl) ⟨by decide, by decide⟩ rfl (Nat.le_of_ble_eq_true rfl) ?_
  rintro r S1 H1 locs1 ⟨rfl, HX1⟩ hW1
  refine lv_aload_n hx hb (dL (pc := 206) rfl) rfl (lv_at hl 2 rfl) ?_
  refine lw_arg (j := 1) C hW1.2.2 hl hL (by omega) (by decide +kernel) (dL (pc := 207) rfl) (dL (pc := 208) rfl) (dL (pc := 209) rfl) (dL (pc := 210) rfl) (dL (pc := 211) rfl) ?_
  refine lw_arg (j := 2) C hW1.2.2 hl hL (by omega) (by decide +kernel) (dL (pc := 212) rfl) (dL (pc := 213) rfl) (dL (pc := 214) rfl) (dL (pc := 215) rfl) (dL (pc := 216) rfl) ?_
  refine lw_callM (rest := [.int (a_insert a (xs (i + 1)) (xs (i + 2)))]) C hW1 hl.1 [xs (i + 1), xs (i + 2)] (M_insert HM) lcM_insert lnM_insert (dL (pc := 217) rfl) ⟨by decide, by decide⟩ rfl (Nat.le_of_ble_eq_true rfl) ?_
  rintro r T1 H2 locs2 ⟨rfl, HM1⟩ hW2
  exact lv_icmp_eq (tgt := 607) hx hb (dL (pc := 220) rfl) (by decide) (fun _ => K _ _ _ _ _ HX1 HM1 hW2) (fun z => absurd rfl z)
theorem lcX_remove : GoodIn lw_all (wsV R_law 27 RX0 yX0_remove (ws_ yX0_remove dX_remove.1 dX_remove.2.1 dX_remove.2.2.1)) := lw_V q151 q152 q153 q30 q154
theorem lnX_remove : yX0_remove.cls = RX0 ∧ yX0_remove.cls ≠ "java/lang/invoke/MethodHandle" ∧ yX0_remove.cls ≠ "java/lang/invoke/VarHandle" ∧ (parseMethodDescriptor yX0_remove.desc).map (fun d => d.parameters.length) = some 2 := by decide +kernel
theorem lcM_remove : GoodIn lw_all (wsV R_law 30 RX1 yX1_remove (ws_ yX1_remove dM_remove.1 dM_remove.2.1 dM_remove.2.2.1)) := lw_V q262 q263 q264 q31 q265
theorem lnM_remove : yX1_remove.cls = RX1 ∧ yX1_remove.cls ≠ "java/lang/invoke/MethodHandle" ∧ yX1_remove.cls ≠ "java/lang/invoke/VarHandle" ∧ (parseMethodDescriptor yX1_remove.desc).map (fun d => d.parameters.length) = some 2 := by decide +kernel
set_option maxHeartbeats 1000000 in
theorem lwc_remove (C : CL p s m meth c b L xs D dX dM) (hW : PW D s aX dX aM dM S T H locs) {i : Nat} (hl : lv_has ls 4 (lcl b (aX 0) (aM 0) (nI i))) (hL : L ≤ 256) (hi : i + 3 < L) {a : AS} (HX : QX a S) (HM : QM a T) (K : ∀ (a1 : AS) S1 T1 H1 locs1, QX a1 S1 → QM a1 T1 → PW D s aX dX aM dM S1 T1 H1 locs1 → WL p l e s m below meth c b H1 locs1 607 ls []) : WL p l e s m below meth c b H locs 225 ls [] := by
  obtain ⟨hx, hb, hr, hml, hown, hts, hX, hbl, hlocks, hK⟩ := id C
  refine lv_aload_n hx hb (dL (pc := 225) rfl) rfl (lv_at hl 1 rfl) ?_
  refine lw_arg (j := 1) C hW.2.2 hl hL (by omega) (by decide +kernel) (dL (pc := 226) rfl) (dL (pc := 227) rfl) (dL (pc := 228) rfl) (dL (pc := 229) rfl) (dL (pc := 230) rfl) ?_
  refine lw_arg (j := 2) C hW.2.2 hl hL (by omega) (by decide +kernel) (dL (pc := 231) rfl) (dL (pc := 232) rfl) (dL (pc := 233) rfl) (dL (pc := 234) rfl) (dL (pc := 235) rfl) ?_
  refine lw_callX (rest := []) C hW hl.1 [xs (i + 1), xs (i + 2)] (X_remove HX) lcX_remove lnX_remove (dL (pc := 236) rfl) ⟨by decide, by decide⟩ rfl (Nat.le_of_ble_eq_true rfl) ?_
  rintro r S1 H1 locs1 ⟨rfl, HX1⟩ hW1
  refine lv_aload_n hx hb (dL (pc := 239) rfl) rfl (lv_at hl 2 rfl) ?_
  refine lw_arg (j := 1) C hW1.2.2 hl hL (by omega) (by decide +kernel) (dL (pc := 240) rfl) (dL (pc := 241) rfl) (dL (pc := 242) rfl) (dL (pc := 243) rfl) (dL (pc := 244) rfl) ?_
  refine lw_arg (j := 2) C hW1.2.2 hl hL (by omega) (by decide +kernel) (dL (pc := 245) rfl) (dL (pc := 246) rfl) (dL (pc := 247) rfl) (dL (pc := 248) rfl) (dL (pc := 249) rfl) ?_
  refine lw_callM (rest := [.int (a_remove a (xs (i + 1)) (xs (i + 2)))]) C hW1 hl.1 [xs (i + 1), xs (i + 2)] (M_remove HM) lcM_remove lnM_remove (dL (pc := 250) rfl) ⟨by decide, by decide⟩ rfl (Nat.le_of_ble_eq_true rfl) ?_
  rintro r T1 H2 locs2 ⟨rfl, HM1⟩ hW2
  exact lv_icmp_eq (tgt := 607) hx hb (dL (pc := 253) rfl) (by decide) (fun _ => K _ _ _ _ _ HX1 HM1 hW2) (fun z => absurd rfl z)
theorem lcX_clear : GoodIn lw_all (wsV R_law 31 RX0 yX0_clear (ws_ yX0_clear dX_clear.1 dX_clear.2.1 dX_clear.2.2.1)) := lw_V q155 q156 q157 q30 q158
theorem lnX_clear : yX0_clear.cls = RX0 ∧ yX0_clear.cls ≠ "java/lang/invoke/MethodHandle" ∧ yX0_clear.cls ≠ "java/lang/invoke/VarHandle" ∧ (parseMethodDescriptor yX0_clear.desc).map (fun d => d.parameters.length) = some 1 := by decide +kernel
theorem lcM_clear : GoodIn lw_all (wsV R_law 35 RX1 yX1_clear (ws_ yX1_clear dM_clear.1 dM_clear.2.1 dM_clear.2.2.1)) := lw_V q270 q271 q272 q31 q273
theorem lnM_clear : yX1_clear.cls = RX1 ∧ yX1_clear.cls ≠ "java/lang/invoke/MethodHandle" ∧ yX1_clear.cls ≠ "java/lang/invoke/VarHandle" ∧ (parseMethodDescriptor yX1_clear.desc).map (fun d => d.parameters.length) = some 1 := by decide +kernel
set_option maxHeartbeats 1000000 in
theorem lwc_clear (C : CL p s m meth c b L xs D dX dM) (hW : PW D s aX dX aM dM S T H locs) {i : Nat} (hl : lv_has ls 4 (lcl b (aX 0) (aM 0) (nI i))) (hL : L ≤ 256) (hi : i + 3 < L) {a : AS} (HX : QX a S) (HM : QM a T) (K : ∀ (a1 : AS) S1 T1 H1 locs1, QX a1 S1 → QM a1 T1 → PW D s aX dX aM dM S1 T1 H1 locs1 → WL p l e s m below meth c b H1 locs1 607 ls []) : WL p l e s m below meth c b H locs 258 ls [] := by
  obtain ⟨hx, hb, hr, hml, hown, hts, hX, hbl, hlocks, hK⟩ := id C
  refine lv_aload_n hx hb (dL (pc := 258) rfl) rfl (lv_at hl 1 rfl) ?_
  refine lw_arg (j := 1) C hW.2.2 hl hL (by omega) (by decide +kernel) (dL (pc := 259) rfl) (dL (pc := 260) rfl) (dL (pc := 261) rfl) (dL (pc := 262) rfl) (dL (pc := 263) rfl) ?_
  refine lw_callX (rest := []) C hW hl.1 [xs (i + 1)] (X_clear HX) lcX_clear lnX_clear (dL (pc := 264) rfl) ⟨by decide, by decide⟩ rfl (Nat.le_of_ble_eq_true rfl) ?_
  rintro r S1 H1 locs1 ⟨rfl, HX1⟩ hW1
  refine lv_aload_n hx hb (dL (pc := 267) rfl) rfl (lv_at hl 2 rfl) ?_
  refine lw_arg (j := 1) C hW1.2.2 hl hL (by omega) (by decide +kernel) (dL (pc := 268) rfl) (dL (pc := 269) rfl) (dL (pc := 270) rfl) (dL (pc := 271) rfl) (dL (pc := 272) rfl) ?_
  refine lw_callM (rest := [.int (a_size a (xs (i + 1)))]) C hW1 hl.1 [xs (i + 1)] (M_clear HM) lcM_clear lnM_clear (dL (pc := 273) rfl) ⟨by decide, by decide⟩ rfl (Nat.le_of_ble_eq_true rfl) ?_
  rintro r T1 H2 locs2 ⟨rfl, HM1⟩ hW2
  exact lv_icmp_eq (tgt := 607) hx hb (dL (pc := 276) rfl) (by decide) (fun _ => K _ _ _ _ _ HX1 HM1 hW2) (fun z => absurd rfl z)
theorem lcX_size : GoodIn lw_all (wsV R_law 36 RX0 yX0_size (ws_ yX0_size dX_size.1 dX_size.2.1 dX_size.2.2.1)) := lw_V q159 q160 q161 q30 q162
theorem lnX_size : yX0_size.cls = RX0 ∧ yX0_size.cls ≠ "java/lang/invoke/MethodHandle" ∧ yX0_size.cls ≠ "java/lang/invoke/VarHandle" ∧ (parseMethodDescriptor yX0_size.desc).map (fun d => d.parameters.length) = some 1 := by decide +kernel
theorem lcM_size : GoodIn lw_all (wsV R_law 39 RX1 yX1_size (ws_ yX1_size dM_size.1 dM_size.2.1 dM_size.2.2.1)) := lw_V q274 q275 q276 q31 q277
theorem lnM_size : yX1_size.cls = RX1 ∧ yX1_size.cls ≠ "java/lang/invoke/MethodHandle" ∧ yX1_size.cls ≠ "java/lang/invoke/VarHandle" ∧ (parseMethodDescriptor yX1_size.desc).map (fun d => d.parameters.length) = some 1 := by decide +kernel
set_option maxHeartbeats 1000000 in
theorem lwc_size (C : CL p s m meth c b L xs D dX dM) (hW : PW D s aX dX aM dM S T H locs) {i : Nat} (hl : lv_has ls 4 (lcl b (aX 0) (aM 0) (nI i))) (hL : L ≤ 256) (hi : i + 3 < L) {a : AS} (HX : QX a S) (HM : QM a T) (K : ∀ (a1 : AS) S1 T1 H1 locs1, QX a1 S1 → QM a1 T1 → PW D s aX dX aM dM S1 T1 H1 locs1 → WL p l e s m below meth c b H1 locs1 607 ls []) : WL p l e s m below meth c b H locs 281 ls [] := by
  obtain ⟨hx, hb, hr, hml, hown, hts, hX, hbl, hlocks, hK⟩ := id C
  refine lv_aload_n hx hb (dL (pc := 281) rfl) rfl (lv_at hl 1 rfl) ?_
  refine lw_arg (j := 1) C hW.2.2 hl hL (by omega) (by decide +kernel) (dL (pc := 282) rfl) (dL (pc := 283) rfl) (dL (pc := 284) rfl) (dL (pc := 285) rfl) (dL (pc := 286) rfl) ?_
  refine lw_callX (rest := []) C hW hl.1 [xs (i + 1)] (X_size HX) lcX_size lnX_size (dL (pc := 287) rfl) ⟨by decide, by decide⟩ rfl (Nat.le_of_ble_eq_true rfl) ?_
  rintro r S1 H1 locs1 ⟨rfl, HX1⟩ hW1
  refine lv_aload_n hx hb (dL (pc := 290) rfl) rfl (lv_at hl 2 rfl) ?_
  refine lw_arg (j := 1) C hW1.2.2 hl hL (by omega) (by decide +kernel) (dL (pc := 291) rfl) (dL (pc := 292) rfl) (dL (pc := 293) rfl) (dL (pc := 294) rfl) (dL (pc := 295) rfl) ?_
  refine lw_callM (rest := [.int (a_size a (xs (i + 1)))]) C hW1 hl.1 [xs (i + 1)] (M_size HM) lcM_size lnM_size (dL (pc := 296) rfl) ⟨by decide, by decide⟩ rfl (Nat.le_of_ble_eq_true rfl) ?_
  rintro r T1 H2 locs2 ⟨rfl, HM1⟩ hW2
  exact lv_icmp_eq (tgt := 607) hx hb (dL (pc := 299) rfl) (by decide) (fun _ => K _ _ _ _ _ HX1 HM1 hW2) (fun z => absurd rfl z)
theorem lcX_at : GoodIn lw_all (wsV R_law 40 RX0 yX0_at (ws_ yX0_at dX_at.1 dX_at.2.1 dX_at.2.2.1)) := lw_V q163 q164 q165 q30 q166
theorem lnX_at : yX0_at.cls = RX0 ∧ yX0_at.cls ≠ "java/lang/invoke/MethodHandle" ∧ yX0_at.cls ≠ "java/lang/invoke/VarHandle" ∧ (parseMethodDescriptor yX0_at.desc).map (fun d => d.parameters.length) = some 2 := by decide +kernel
theorem lcM_at : GoodIn lw_all (wsV R_law 43 RX1 yX1_at (ws_ yX1_at dM_at.1 dM_at.2.1 dM_at.2.2.1)) := lw_V q278 q279 q280 q31 q281
theorem lnM_at : yX1_at.cls = RX1 ∧ yX1_at.cls ≠ "java/lang/invoke/MethodHandle" ∧ yX1_at.cls ≠ "java/lang/invoke/VarHandle" ∧ (parseMethodDescriptor yX1_at.desc).map (fun d => d.parameters.length) = some 2 := by decide +kernel
set_option maxHeartbeats 1000000 in
theorem lwc_at (C : CL p s m meth c b L xs D dX dM) (hW : PW D s aX dX aM dM S T H locs) {i : Nat} (hl : lv_has ls 4 (lcl b (aX 0) (aM 0) (nI i))) (hL : L ≤ 256) (hi : i + 3 < L) {a : AS} (HX : QX a S) (HM : QM a T) (K : ∀ (a1 : AS) S1 T1 H1 locs1, QX a1 S1 → QM a1 T1 → PW D s aX dX aM dM S1 T1 H1 locs1 → WL p l e s m below meth c b H1 locs1 607 ls []) : WL p l e s m below meth c b H locs 304 ls [] := by
  obtain ⟨hx, hb, hr, hml, hown, hts, hX, hbl, hlocks, hK⟩ := id C
  refine lv_aload_n hx hb (dL (pc := 304) rfl) rfl (lv_at hl 1 rfl) ?_
  refine lw_arg (j := 1) C hW.2.2 hl hL (by omega) (by decide +kernel) (dL (pc := 305) rfl) (dL (pc := 306) rfl) (dL (pc := 307) rfl) (dL (pc := 308) rfl) (dL (pc := 309) rfl) ?_
  refine lw_arg (j := 2) C hW.2.2 hl hL (by omega) (by decide +kernel) (dL (pc := 310) rfl) (dL (pc := 311) rfl) (dL (pc := 312) rfl) (dL (pc := 313) rfl) (dL (pc := 314) rfl) ?_
  refine lw_callX (rest := []) C hW hl.1 [xs (i + 1), xs (i + 2)] (X_at HX) lcX_at lnX_at (dL (pc := 315) rfl) ⟨by decide, by decide⟩ rfl (Nat.le_of_ble_eq_true rfl) ?_
  rintro r S1 H1 locs1 ⟨rfl, HX1⟩ hW1
  refine lv_aload_n hx hb (dL (pc := 318) rfl) rfl (lv_at hl 2 rfl) ?_
  refine lw_arg (j := 1) C hW1.2.2 hl hL (by omega) (by decide +kernel) (dL (pc := 319) rfl) (dL (pc := 320) rfl) (dL (pc := 321) rfl) (dL (pc := 322) rfl) (dL (pc := 323) rfl) ?_
  refine lw_arg (j := 2) C hW1.2.2 hl hL (by omega) (by decide +kernel) (dL (pc := 324) rfl) (dL (pc := 325) rfl) (dL (pc := 326) rfl) (dL (pc := 327) rfl) (dL (pc := 328) rfl) ?_
  refine lw_callM (rest := [.int (a_at a (xs (i + 1)) (xs (i + 2)))]) C hW1 hl.1 [xs (i + 1), xs (i + 2)] (M_at HM) lcM_at lnM_at (dL (pc := 329) rfl) ⟨by decide, by decide⟩ rfl (Nat.le_of_ble_eq_true rfl) ?_
  rintro r T1 H2 locs2 ⟨rfl, HM1⟩ hW2
  exact lv_icmp_eq (tgt := 607) hx hb (dL (pc := 332) rfl) (by decide) (fun _ => K _ _ _ _ _ HX1 HM1 hW2) (fun z => absurd rfl z)
theorem lcX_seek : GoodIn lw_all (wsV R_law 44 RX0 yX0_seek (ws_ yX0_seek dX_seek.1 dX_seek.2.1 dX_seek.2.2.1)) := lw_V q167 q168 q169 q30 q170
theorem lnX_seek : yX0_seek.cls = RX0 ∧ yX0_seek.cls ≠ "java/lang/invoke/MethodHandle" ∧ yX0_seek.cls ≠ "java/lang/invoke/VarHandle" ∧ (parseMethodDescriptor yX0_seek.desc).map (fun d => d.parameters.length) = some 2 := by decide +kernel
theorem lcM_seek : GoodIn lw_all (wsV R_law 47 RX1 yX1_seek (ws_ yX1_seek dM_seek.1 dM_seek.2.1 dM_seek.2.2.1)) := lw_V q282 q267 q268 q31 q269
theorem lnM_seek : yX1_seek.cls = RX1 ∧ yX1_seek.cls ≠ "java/lang/invoke/MethodHandle" ∧ yX1_seek.cls ≠ "java/lang/invoke/VarHandle" ∧ (parseMethodDescriptor yX1_seek.desc).map (fun d => d.parameters.length) = some 2 := by decide +kernel
set_option maxHeartbeats 1000000 in
theorem lwc_seek (C : CL p s m meth c b L xs D dX dM) (hW : PW D s aX dX aM dM S T H locs) {i : Nat} (hl : lv_has ls 4 (lcl b (aX 0) (aM 0) (nI i))) (hL : L ≤ 256) (hi : i + 3 < L) {a : AS} (HX : QX a S) (HM : QM a T) (K : ∀ (a1 : AS) S1 T1 H1 locs1, QX a1 S1 → QM a1 T1 → PW D s aX dX aM dM S1 T1 H1 locs1 → WL p l e s m below meth c b H1 locs1 607 ls []) : WL p l e s m below meth c b H locs 337 ls [] := by
  obtain ⟨hx, hb, hr, hml, hown, hts, hX, hbl, hlocks, hK⟩ := id C
  refine lv_aload_n hx hb (dL (pc := 337) rfl) rfl (lv_at hl 1 rfl) ?_
  refine lw_arg (j := 1) C hW.2.2 hl hL (by omega) (by decide +kernel) (dL (pc := 338) rfl) (dL (pc := 339) rfl) (dL (pc := 340) rfl) (dL (pc := 341) rfl) (dL (pc := 342) rfl) ?_
  refine lw_arg (j := 2) C hW.2.2 hl hL (by omega) (by decide +kernel) (dL (pc := 343) rfl) (dL (pc := 344) rfl) (dL (pc := 345) rfl) (dL (pc := 346) rfl) (dL (pc := 347) rfl) ?_
  refine lw_callX (rest := []) C hW hl.1 [xs (i + 1), xs (i + 2)] (X_seek HX) lcX_seek lnX_seek (dL (pc := 348) rfl) ⟨by decide, by decide⟩ rfl (Nat.le_of_ble_eq_true rfl) ?_
  rintro r S1 H1 locs1 ⟨rfl, HX1⟩ hW1
  refine lv_aload_n hx hb (dL (pc := 351) rfl) rfl (lv_at hl 2 rfl) ?_
  refine lw_arg (j := 1) C hW1.2.2 hl hL (by omega) (by decide +kernel) (dL (pc := 352) rfl) (dL (pc := 353) rfl) (dL (pc := 354) rfl) (dL (pc := 355) rfl) (dL (pc := 356) rfl) ?_
  refine lw_arg (j := 2) C hW1.2.2 hl hL (by omega) (by decide +kernel) (dL (pc := 357) rfl) (dL (pc := 358) rfl) (dL (pc := 359) rfl) (dL (pc := 360) rfl) (dL (pc := 361) rfl) ?_
  refine lw_callM (rest := [.int (a_seek a (xs (i + 1)) (xs (i + 2)))]) C hW1 hl.1 [xs (i + 1), xs (i + 2)] (M_seek HM) lcM_seek lnM_seek (dL (pc := 362) rfl) ⟨by decide, by decide⟩ rfl (Nat.le_of_ble_eq_true rfl) ?_
  rintro r T1 H2 locs2 ⟨rfl, rfl⟩ hW2
  exact lv_icmp_eq (tgt := 607) hx hb (dL (pc := 365) rfl) (by decide) (fun _ => K _ _ _ _ _ HX1 HM hW2) (fun z => absurd rfl z)
theorem lcX_has : GoodIn lw_all (wsV R_law 48 RX0 yX0_has (ws_ yX0_has dX_has.1 dX_has.2.1 dX_has.2.2.1)) := lw_V q171 q172 q173 q30 q174
theorem lnX_has : yX0_has.cls = RX0 ∧ yX0_has.cls ≠ "java/lang/invoke/MethodHandle" ∧ yX0_has.cls ≠ "java/lang/invoke/VarHandle" ∧ (parseMethodDescriptor yX0_has.desc).map (fun d => d.parameters.length) = some 2 := by decide +kernel
theorem lcM_has : GoodIn lw_all (wsV R_law 52 RX1 yX1_has (ws_ yX1_has dM_has.1 dM_has.2.1 dM_has.2.2.1)) := lw_V q283 q259 q260 q31 q261
theorem lnM_has : yX1_has.cls = RX1 ∧ yX1_has.cls ≠ "java/lang/invoke/MethodHandle" ∧ yX1_has.cls ≠ "java/lang/invoke/VarHandle" ∧ (parseMethodDescriptor yX1_has.desc).map (fun d => d.parameters.length) = some 2 := by decide +kernel
set_option maxHeartbeats 1000000 in
theorem lwc_has (C : CL p s m meth c b L xs D dX dM) (hW : PW D s aX dX aM dM S T H locs) {i : Nat} (hl : lv_has ls 4 (lcl b (aX 0) (aM 0) (nI i))) (hL : L ≤ 256) (hi : i + 3 < L) {a : AS} (HX : QX a S) (HM : QM a T) (K : ∀ (a1 : AS) S1 T1 H1 locs1, QX a1 S1 → QM a1 T1 → PW D s aX dX aM dM S1 T1 H1 locs1 → WL p l e s m below meth c b H1 locs1 607 ls []) : WL p l e s m below meth c b H locs 370 ls [] := by
  obtain ⟨hx, hb, hr, hml, hown, hts, hX, hbl, hlocks, hK⟩ := id C
  refine lv_aload_n hx hb (dL (pc := 370) rfl) rfl (lv_at hl 1 rfl) ?_
  refine lw_arg (j := 1) C hW.2.2 hl hL (by omega) (by decide +kernel) (dL (pc := 371) rfl) (dL (pc := 372) rfl) (dL (pc := 373) rfl) (dL (pc := 374) rfl) (dL (pc := 375) rfl) ?_
  refine lw_arg (j := 2) C hW.2.2 hl hL (by omega) (by decide +kernel) (dL (pc := 376) rfl) (dL (pc := 377) rfl) (dL (pc := 378) rfl) (dL (pc := 379) rfl) (dL (pc := 380) rfl) ?_
  refine lw_callX (rest := []) C hW hl.1 [xs (i + 1), xs (i + 2)] (X_has HX) lcX_has lnX_has (dL (pc := 381) rfl) ⟨by decide, by decide⟩ rfl (Nat.le_of_ble_eq_true rfl) ?_
  rintro r S1 H1 locs1 ⟨rfl, hd1, cd1, nb1, cu1, rfl⟩ hW1
  have HX1 : QX a (S.1, S.2.1, S.2.2.1, hd1, cd1, nb1, S.2.2.2.2.2.2.1, cu1) := HX
  refine lv_aload_n hx hb (dL (pc := 384) rfl) rfl (lv_at hl 2 rfl) ?_
  refine lw_arg (j := 1) C hW1.2.2 hl hL (by omega) (by decide +kernel) (dL (pc := 385) rfl) (dL (pc := 386) rfl) (dL (pc := 387) rfl) (dL (pc := 388) rfl) (dL (pc := 389) rfl) ?_
  refine lw_arg (j := 2) C hW1.2.2 hl hL (by omega) (by decide +kernel) (dL (pc := 390) rfl) (dL (pc := 391) rfl) (dL (pc := 392) rfl) (dL (pc := 393) rfl) (dL (pc := 394) rfl) ?_
  refine lw_callM (rest := [.int (a_has a (xs (i + 1)) (xs (i + 2)))]) C hW1 hl.1 [xs (i + 1), xs (i + 2)] (M_has HM) lcM_has lnM_has (dL (pc := 395) rfl) ⟨by decide, by decide⟩ rfl (Nat.le_of_ble_eq_true rfl) ?_
  rintro r T1 H2 locs2 ⟨rfl, rfl⟩ hW2
  exact lv_icmp_eq (tgt := 607) hx hb (dL (pc := 398) rfl) (by decide) (fun _ => K _ _ _ _ _ HX1 HM hW2) (fun z => absurd rfl z)
theorem lcX_sum : GoodIn lw_all (wsV R_law 53 RX0 yX0_sum (ws_ yX0_sum dX_sum.1 dX_sum.2.1 dX_sum.2.2.1)) := lw_V q175 q176 q177 q30 q178
theorem lnX_sum : yX0_sum.cls = RX0 ∧ yX0_sum.cls ≠ "java/lang/invoke/MethodHandle" ∧ yX0_sum.cls ≠ "java/lang/invoke/VarHandle" ∧ (parseMethodDescriptor yX0_sum.desc).map (fun d => d.parameters.length) = some 3 := by decide +kernel
theorem lcM_sum : GoodIn lw_all (wsV R_law 56 RX1 yX1_sum (ws_ yX1_sum dM_sum.1 dM_sum.2.1 dM_sum.2.2.1)) := lw_V q284 q285 q286 q31 q287
theorem lnM_sum : yX1_sum.cls = RX1 ∧ yX1_sum.cls ≠ "java/lang/invoke/MethodHandle" ∧ yX1_sum.cls ≠ "java/lang/invoke/VarHandle" ∧ (parseMethodDescriptor yX1_sum.desc).map (fun d => d.parameters.length) = some 3 := by decide +kernel
set_option maxHeartbeats 1000000 in
theorem lwc_sum (C : CL p s m meth c b L xs D dX dM) (hW : PW D s aX dX aM dM S T H locs) {i : Nat} (hl : lv_has ls 4 (lcl b (aX 0) (aM 0) (nI i))) (hL : L ≤ 256) (hi : i + 3 < L) {a : AS} (HX : QX a S) (HM : QM a T) (K : ∀ (a1 : AS) S1 T1 H1 locs1, QX a1 S1 → QM a1 T1 → PW D s aX dX aM dM S1 T1 H1 locs1 → WL p l e s m below meth c b H1 locs1 607 ls []) : WL p l e s m below meth c b H locs 403 ls [] := by
  obtain ⟨hx, hb, hr, hml, hown, hts, hX, hbl, hlocks, hK⟩ := id C
  refine lv_aload_n hx hb (dL (pc := 403) rfl) rfl (lv_at hl 1 rfl) ?_
  refine lw_arg (j := 1) C hW.2.2 hl hL (by omega) (by decide +kernel) (dL (pc := 404) rfl) (dL (pc := 405) rfl) (dL (pc := 406) rfl) (dL (pc := 407) rfl) (dL (pc := 408) rfl) ?_
  refine lw_arg (j := 2) C hW.2.2 hl hL (by omega) (by decide +kernel) (dL (pc := 409) rfl) (dL (pc := 410) rfl) (dL (pc := 411) rfl) (dL (pc := 412) rfl) (dL (pc := 413) rfl) ?_
  refine lw_arg (j := 3) C hW.2.2 hl hL (by omega) (by decide +kernel) (dL (pc := 414) rfl) (dL (pc := 415) rfl) (dL (pc := 416) rfl) (dL (pc := 417) rfl) (dL (pc := 418) rfl) ?_
  refine lw_callX (rest := []) C hW hl.1 [xs (i + 1), xs (i + 2), xs (i + 3)] (X_sum HX) lcX_sum lnX_sum (dL (pc := 419) rfl) ⟨by decide, by decide⟩ rfl (Nat.le_of_ble_eq_true rfl) ?_
  rintro r S1 H1 locs1 ⟨rfl, HX1⟩ hW1
  refine lv_aload_n hx hb (dL (pc := 422) rfl) rfl (lv_at hl 2 rfl) ?_
  refine lw_arg (j := 1) C hW1.2.2 hl hL (by omega) (by decide +kernel) (dL (pc := 423) rfl) (dL (pc := 424) rfl) (dL (pc := 425) rfl) (dL (pc := 426) rfl) (dL (pc := 427) rfl) ?_
  refine lw_arg (j := 2) C hW1.2.2 hl hL (by omega) (by decide +kernel) (dL (pc := 428) rfl) (dL (pc := 429) rfl) (dL (pc := 430) rfl) (dL (pc := 431) rfl) (dL (pc := 432) rfl) ?_
  refine lw_arg (j := 3) C hW1.2.2 hl hL (by omega) (by decide +kernel) (dL (pc := 433) rfl) (dL (pc := 434) rfl) (dL (pc := 435) rfl) (dL (pc := 436) rfl) (dL (pc := 437) rfl) ?_
  refine lw_callM (rest := [.int (a_sum a (xs (i + 1)) (xs (i + 2)) (xs (i + 3)))]) C hW1 hl.1 [xs (i + 1), xs (i + 2), xs (i + 3)] (M_sum HM) lcM_sum lnM_sum (dL (pc := 438) rfl) ⟨by decide, by decide⟩ rfl (Nat.le_of_ble_eq_true rfl) ?_
  rintro r T1 H2 locs2 ⟨rfl, HM1⟩ hW2
  exact lv_icmp_eq (tgt := 607) hx hb (dL (pc := 441) rfl) (by decide) (fun _ => K _ _ _ _ _ HX1 HM1 hW2) (fun z => absurd rfl z)
theorem lcX_blocks : GoodIn lw_all (wsV R_law 57 RX0 yX0_blocks (ws_ yX0_blocks dX_blocks.1 dX_blocks.2.1 dX_blocks.2.2.1)) := lw_V q179 q180 q181 q30 q182
theorem lnX_blocks : yX0_blocks.cls = RX0 ∧ yX0_blocks.cls ≠ "java/lang/invoke/MethodHandle" ∧ yX0_blocks.cls ≠ "java/lang/invoke/VarHandle" ∧ (parseMethodDescriptor yX0_blocks.desc).map (fun d => d.parameters.length) = some 1 := by decide +kernel
theorem lcM_blocks : GoodIn lw_all (wsV R_law 60 RX1 yX1_blocks (ws_ yX1_blocks dM_blocks.1 dM_blocks.2.1 dM_blocks.2.2.1)) := lw_V q288 q289 q290 q31 q291
theorem lnM_blocks : yX1_blocks.cls = RX1 ∧ yX1_blocks.cls ≠ "java/lang/invoke/MethodHandle" ∧ yX1_blocks.cls ≠ "java/lang/invoke/VarHandle" ∧ (parseMethodDescriptor yX1_blocks.desc).map (fun d => d.parameters.length) = some 1 := by decide +kernel
set_option maxHeartbeats 1000000 in
theorem lwc_blocks (C : CL p s m meth c b L xs D dX dM) (hW : PW D s aX dX aM dM S T H locs) {i : Nat} (hl : lv_has ls 4 (lcl b (aX 0) (aM 0) (nI i))) (hL : L ≤ 256) (hi : i + 3 < L) {a : AS} (HX : QX a S) (HM : QM a T) (K : ∀ (a1 : AS) S1 T1 H1 locs1, QX a1 S1 → QM a1 T1 → PW D s aX dX aM dM S1 T1 H1 locs1 → WL p l e s m below meth c b H1 locs1 607 ls []) : WL p l e s m below meth c b H locs 446 ls [] := by
  obtain ⟨hx, hb, hr, hml, hown, hts, hX, hbl, hlocks, hK⟩ := id C
  refine lv_aload_n hx hb (dL (pc := 446) rfl) rfl (lv_at hl 1 rfl) ?_
  refine lw_arg (j := 1) C hW.2.2 hl hL (by omega) (by decide +kernel) (dL (pc := 447) rfl) (dL (pc := 448) rfl) (dL (pc := 449) rfl) (dL (pc := 450) rfl) (dL (pc := 451) rfl) ?_
  refine lw_callX (rest := []) C hW hl.1 [xs (i + 1)] (X_blocks HX) lcX_blocks lnX_blocks (dL (pc := 452) rfl) ⟨by decide, by decide⟩ rfl (Nat.le_of_ble_eq_true rfl) ?_
  rintro r S1 H1 locs1 ⟨rfl, HX1⟩ hW1
  refine lv_aload_n hx hb (dL (pc := 455) rfl) rfl (lv_at hl 2 rfl) ?_
  refine lw_arg (j := 1) C hW1.2.2 hl hL (by omega) (by decide +kernel) (dL (pc := 456) rfl) (dL (pc := 457) rfl) (dL (pc := 458) rfl) (dL (pc := 459) rfl) (dL (pc := 460) rfl) ?_
  refine lw_callM (rest := [.int (a_blocks a (xs (i + 1)))]) C hW1 hl.1 [xs (i + 1)] (M_blocks HM) lcM_blocks lnM_blocks (dL (pc := 461) rfl) ⟨by decide, by decide⟩ rfl (Nat.le_of_ble_eq_true rfl) ?_
  rintro r T1 H2 locs2 ⟨rfl, HM1⟩ hW2
  exact lv_icmp_eq (tgt := 607) hx hb (dL (pc := 464) rfl) (by decide) (fun _ => K _ _ _ _ _ HX1 HM1 hW2) (fun z => absurd rfl z)
theorem lcX_base : GoodIn lw_all (wsV R_law 61 RX0 yX0_base (ws_ yX0_base dX_base.1 dX_base.2.1 dX_base.2.2.1)) := lw_V q183 q184 q185 q30 q186
theorem lnX_base : yX0_base.cls = RX0 ∧ yX0_base.cls ≠ "java/lang/invoke/MethodHandle" ∧ yX0_base.cls ≠ "java/lang/invoke/VarHandle" ∧ (parseMethodDescriptor yX0_base.desc).map (fun d => d.parameters.length) = some 2 := by decide +kernel
theorem lcM_base : GoodIn lw_all (wsV R_law 64 RX1 yX1_base (ws_ yX1_base dM_base.1 dM_base.2.1 dM_base.2.2.1)) := lw_V q292 q293 q294 q31 q295
theorem lnM_base : yX1_base.cls = RX1 ∧ yX1_base.cls ≠ "java/lang/invoke/MethodHandle" ∧ yX1_base.cls ≠ "java/lang/invoke/VarHandle" ∧ (parseMethodDescriptor yX1_base.desc).map (fun d => d.parameters.length) = some 2 := by decide +kernel
set_option maxHeartbeats 1000000 in
theorem lwc_base (C : CL p s m meth c b L xs D dX dM) (hW : PW D s aX dX aM dM S T H locs) {i : Nat} (hl : lv_has ls 4 (lcl b (aX 0) (aM 0) (nI i))) (hL : L ≤ 256) (hi : i + 3 < L) {a : AS} (HX : QX a S) (HM : QM a T) (K : ∀ (a1 : AS) S1 T1 H1 locs1, QX a1 S1 → QM a1 T1 → PW D s aX dX aM dM S1 T1 H1 locs1 → WL p l e s m below meth c b H1 locs1 607 ls []) : WL p l e s m below meth c b H locs 469 ls [] := by
  obtain ⟨hx, hb, hr, hml, hown, hts, hX, hbl, hlocks, hK⟩ := id C
  refine lv_aload_n hx hb (dL (pc := 469) rfl) rfl (lv_at hl 1 rfl) ?_
  refine lw_arg (j := 1) C hW.2.2 hl hL (by omega) (by decide +kernel) (dL (pc := 470) rfl) (dL (pc := 471) rfl) (dL (pc := 472) rfl) (dL (pc := 473) rfl) (dL (pc := 474) rfl) ?_
  refine lw_arg (j := 2) C hW.2.2 hl hL (by omega) (by decide +kernel) (dL (pc := 475) rfl) (dL (pc := 476) rfl) (dL (pc := 477) rfl) (dL (pc := 478) rfl) (dL (pc := 479) rfl) ?_
  refine lw_callX (rest := []) C hW hl.1 [xs (i + 1), xs (i + 2)] (X_base HX) lcX_base lnX_base (dL (pc := 480) rfl) ⟨by decide, by decide⟩ rfl (Nat.le_of_ble_eq_true rfl) ?_
  rintro r S1 H1 locs1 ⟨rfl, HX1⟩ hW1
  refine lv_aload_n hx hb (dL (pc := 483) rfl) rfl (lv_at hl 2 rfl) ?_
  refine lw_arg (j := 1) C hW1.2.2 hl hL (by omega) (by decide +kernel) (dL (pc := 484) rfl) (dL (pc := 485) rfl) (dL (pc := 486) rfl) (dL (pc := 487) rfl) (dL (pc := 488) rfl) ?_
  refine lw_arg (j := 2) C hW1.2.2 hl hL (by omega) (by decide +kernel) (dL (pc := 489) rfl) (dL (pc := 490) rfl) (dL (pc := 491) rfl) (dL (pc := 492) rfl) (dL (pc := 493) rfl) ?_
  refine lw_callM (rest := [.int (a_base a (xs (i + 1)) (xs (i + 2)))]) C hW1 hl.1 [xs (i + 1), xs (i + 2)] (M_base HM) lcM_base lnM_base (dL (pc := 494) rfl) ⟨by decide, by decide⟩ rfl (Nat.le_of_ble_eq_true rfl) ?_
  rintro r T1 H2 locs2 ⟨rfl, HM1⟩ hW2
  exact lv_icmp_eq (tgt := 607) hx hb (dL (pc := 497) rfl) (by decide) (fun _ => K _ _ _ _ _ HX1 HM1 hW2) (fun z => absurd rfl z)
theorem lcX_blockSize : GoodIn lw_all (wsV R_law 65 RX0 yX0_blockSize (ws_ yX0_blockSize dX_blockSize.1 dX_blockSize.2.1 dX_blockSize.2.2.1)) := lw_V q191 q192 q193 q30 q194
theorem lnX_blockSize : yX0_blockSize.cls = RX0 ∧ yX0_blockSize.cls ≠ "java/lang/invoke/MethodHandle" ∧ yX0_blockSize.cls ≠ "java/lang/invoke/VarHandle" ∧ (parseMethodDescriptor yX0_blockSize.desc).map (fun d => d.parameters.length) = some 2 := by decide +kernel
theorem lcM_blockSize : GoodIn lw_all (wsV R_law 68 RX1 yX1_blockSize (ws_ yX1_blockSize dM_blockSize.1 dM_blockSize.2.1 dM_blockSize.2.2.1)) := lw_V q316 q317 q318 q31 q319
theorem lnM_blockSize : yX1_blockSize.cls = RX1 ∧ yX1_blockSize.cls ≠ "java/lang/invoke/MethodHandle" ∧ yX1_blockSize.cls ≠ "java/lang/invoke/VarHandle" ∧ (parseMethodDescriptor yX1_blockSize.desc).map (fun d => d.parameters.length) = some 2 := by decide +kernel
set_option maxHeartbeats 1000000 in
theorem lwc_blockSize (C : CL p s m meth c b L xs D dX dM) (hW : PW D s aX dX aM dM S T H locs) {i : Nat} (hl : lv_has ls 4 (lcl b (aX 0) (aM 0) (nI i))) (hL : L ≤ 256) (hi : i + 3 < L) {a : AS} (HX : QX a S) (HM : QM a T) (K : ∀ (a1 : AS) S1 T1 H1 locs1, QX a1 S1 → QM a1 T1 → PW D s aX dX aM dM S1 T1 H1 locs1 → WL p l e s m below meth c b H1 locs1 607 ls []) : WL p l e s m below meth c b H locs 502 ls [] := by
  obtain ⟨hx, hb, hr, hml, hown, hts, hX, hbl, hlocks, hK⟩ := id C
  refine lv_aload_n hx hb (dL (pc := 502) rfl) rfl (lv_at hl 1 rfl) ?_
  refine lw_arg (j := 1) C hW.2.2 hl hL (by omega) (by decide +kernel) (dL (pc := 503) rfl) (dL (pc := 504) rfl) (dL (pc := 505) rfl) (dL (pc := 506) rfl) (dL (pc := 507) rfl) ?_
  refine lw_arg (j := 2) C hW.2.2 hl hL (by omega) (by decide +kernel) (dL (pc := 508) rfl) (dL (pc := 509) rfl) (dL (pc := 510) rfl) (dL (pc := 511) rfl) (dL (pc := 512) rfl) ?_
  refine lw_callX (rest := []) C hW hl.1 [xs (i + 1), xs (i + 2)] (X_blockSize HX) lcX_blockSize lnX_blockSize (dL (pc := 513) rfl) ⟨by decide, by decide⟩ rfl (Nat.le_of_ble_eq_true rfl) ?_
  rintro r S1 H1 locs1 ⟨rfl, HX1⟩ hW1
  refine lv_aload_n hx hb (dL (pc := 516) rfl) rfl (lv_at hl 2 rfl) ?_
  refine lw_arg (j := 1) C hW1.2.2 hl hL (by omega) (by decide +kernel) (dL (pc := 517) rfl) (dL (pc := 518) rfl) (dL (pc := 519) rfl) (dL (pc := 520) rfl) (dL (pc := 521) rfl) ?_
  refine lw_arg (j := 2) C hW1.2.2 hl hL (by omega) (by decide +kernel) (dL (pc := 522) rfl) (dL (pc := 523) rfl) (dL (pc := 524) rfl) (dL (pc := 525) rfl) (dL (pc := 526) rfl) ?_
  refine lw_callM (rest := [.int (a_blockSize a (xs (i + 1)) (xs (i + 2)))]) C hW1 hl.1 [xs (i + 1), xs (i + 2)] (M_blockSize HM) lcM_blockSize lnM_blockSize (dL (pc := 527) rfl) ⟨by decide, by decide⟩ rfl (Nat.le_of_ble_eq_true rfl) ?_
  rintro r T1 H2 locs2 ⟨rfl, rfl⟩ hW2
  exact lv_icmp_eq (tgt := 607) hx hb (dL (pc := 530) rfl) (by decide) (fun _ => K _ _ _ _ _ HX1 HM hW2) (fun z => absurd rfl z)
theorem lcX_packed : GoodIn lw_all (wsV R_law 69 RX0 yX0_packed (ws_ yX0_packed dX_packed.1 dX_packed.2.1 dX_packed.2.2.1)) := lw_V q195 q196 q197 q30 q198
theorem lnX_packed : yX0_packed.cls = RX0 ∧ yX0_packed.cls ≠ "java/lang/invoke/MethodHandle" ∧ yX0_packed.cls ≠ "java/lang/invoke/VarHandle" ∧ (parseMethodDescriptor yX0_packed.desc).map (fun d => d.parameters.length) = some 0 := by decide +kernel
theorem lcM_packed : GoodIn lw_all (wsV R_law 73 RX1 yX1_packed (ws_ yX1_packed dM_packed.1 dM_packed.2.1 dM_packed.2.2.1)) := lw_V q320 q321 q322 q31 q323
theorem lnM_packed : yX1_packed.cls = RX1 ∧ yX1_packed.cls ≠ "java/lang/invoke/MethodHandle" ∧ yX1_packed.cls ≠ "java/lang/invoke/VarHandle" ∧ (parseMethodDescriptor yX1_packed.desc).map (fun d => d.parameters.length) = some 0 := by decide +kernel
set_option maxHeartbeats 1000000 in
theorem lwc_packed (C : CL p s m meth c b L xs D dX dM) (hW : PW D s aX dX aM dM S T H locs) {i : Nat} (hl : lv_has ls 4 (lcl b (aX 0) (aM 0) (nI i))) (hL : L ≤ 256) (hi : i + 3 < L) {a : AS} (HX : QX a S) (HM : QM a T) (K : ∀ (a1 : AS) S1 T1 H1 locs1, QX a1 S1 → QM a1 T1 → PW D s aX dX aM dM S1 T1 H1 locs1 → WL p l e s m below meth c b H1 locs1 607 ls []) : WL p l e s m below meth c b H locs 535 ls [] := by
  obtain ⟨hx, hb, hr, hml, hown, hts, hX, hbl, hlocks, hK⟩ := id C
  refine lv_aload_n hx hb (dL (pc := 535) rfl) rfl (lv_at hl 1 rfl) ?_
  refine lw_callX (rest := []) C hW hl.1 [] (X_packed HX) lcX_packed lnX_packed (dL (pc := 536) rfl) ⟨by decide, by decide⟩ rfl (Nat.le_of_ble_eq_true rfl) ?_
  rintro r S1 H1 locs1 ⟨rfl, HX1⟩ hW1
  refine lv_aload_n hx hb (dL (pc := 539) rfl) rfl (lv_at hl 2 rfl) ?_
  refine lw_callM (rest := [.int (a_packed a)]) C hW1 hl.1 [] (M_packed HM) lcM_packed lnM_packed (dL (pc := 540) rfl) ⟨by decide, by decide⟩ rfl (Nat.le_of_ble_eq_true rfl) ?_
  rintro r T1 H2 locs2 ⟨rfl, HM1⟩ hW2
  exact lv_icmp_eq (tgt := 607) hx hb (dL (pc := 543) rfl) (by decide) (fun _ => K _ _ _ _ _ HX1 HM1 hW2) (fun z => absurd rfl z)
theorem lcX_common : GoodIn lw_all (wsV R_law 74 RX0 yX0_common (ws_ yX0_common dX_common.1 dX_common.2.1 dX_common.2.2.1)) := lw_V q199 q200 q201 q30 q202
theorem lnX_common : yX0_common.cls = RX0 ∧ yX0_common.cls ≠ "java/lang/invoke/MethodHandle" ∧ yX0_common.cls ≠ "java/lang/invoke/VarHandle" ∧ (parseMethodDescriptor yX0_common.desc).map (fun d => d.parameters.length) = some 0 := by decide +kernel
theorem lcM_common : GoodIn lw_all (wsV R_law 77 RX1 yX1_common (ws_ yX1_common dM_common.1 dM_common.2.1 dM_common.2.2.1)) := lw_V q325 q326 q327 q31 q328
theorem lnM_common : yX1_common.cls = RX1 ∧ yX1_common.cls ≠ "java/lang/invoke/MethodHandle" ∧ yX1_common.cls ≠ "java/lang/invoke/VarHandle" ∧ (parseMethodDescriptor yX1_common.desc).map (fun d => d.parameters.length) = some 0 := by decide +kernel
set_option maxHeartbeats 1000000 in
theorem lwc_common (C : CL p s m meth c b L xs D dX dM) (hW : PW D s aX dX aM dM S T H locs) {i : Nat} (hl : lv_has ls 4 (lcl b (aX 0) (aM 0) (nI i))) (hL : L ≤ 256) (hi : i + 3 < L) {a : AS} (HX : QX a S) (HM : QM a T) (K : ∀ (a1 : AS) S1 T1 H1 locs1, QX a1 S1 → QM a1 T1 → PW D s aX dX aM dM S1 T1 H1 locs1 → WL p l e s m below meth c b H1 locs1 607 ls []) : WL p l e s m below meth c b H locs 548 ls [] := by
  obtain ⟨hx, hb, hr, hml, hown, hts, hX, hbl, hlocks, hK⟩ := id C
  refine lv_aload_n hx hb (dL (pc := 548) rfl) rfl (lv_at hl 1 rfl) ?_
  refine lw_callX (rest := []) C hW hl.1 [] (X_common HX) lcX_common lnX_common (dL (pc := 549) rfl) ⟨by decide, by decide⟩ rfl (Nat.le_of_ble_eq_true rfl) ?_
  rintro r S1 H1 locs1 ⟨rfl, HX1⟩ hW1
  refine lv_aload_n hx hb (dL (pc := 552) rfl) rfl (lv_at hl 2 rfl) ?_
  refine lw_callM (rest := [.int (a_common a)]) C hW1 hl.1 [] (M_common HM) lcM_common lnM_common (dL (pc := 553) rfl) ⟨by decide, by decide⟩ rfl (Nat.le_of_ble_eq_true rfl) ?_
  rintro r T1 H2 locs2 ⟨rfl, HM1⟩ hW2
  exact lv_icmp_eq (tgt := 607) hx hb (dL (pc := 556) rfl) (by decide) (fun _ => K _ _ _ _ _ HX1 HM1 hW2) (fun z => absurd rfl z)
theorem lcX_commonAt : GoodIn lw_all (wsV R_law 78 RX0 yX0_commonAt (ws_ yX0_commonAt dX_commonAt.1 dX_commonAt.2.1 dX_commonAt.2.2.1)) := lw_V q207 q208 q209 q30 q210
theorem lnX_commonAt : yX0_commonAt.cls = RX0 ∧ yX0_commonAt.cls ≠ "java/lang/invoke/MethodHandle" ∧ yX0_commonAt.cls ≠ "java/lang/invoke/VarHandle" ∧ (parseMethodDescriptor yX0_commonAt.desc).map (fun d => d.parameters.length) = some 1 := by decide +kernel
theorem lcM_commonAt : GoodIn lw_all (wsV R_law 81 RX1 yX1_commonAt (ws_ yX1_commonAt dM_commonAt.1 dM_commonAt.2.1 dM_commonAt.2.2.1)) := lw_V q329 q330 q331 q31 q332
theorem lnM_commonAt : yX1_commonAt.cls = RX1 ∧ yX1_commonAt.cls ≠ "java/lang/invoke/MethodHandle" ∧ yX1_commonAt.cls ≠ "java/lang/invoke/VarHandle" ∧ (parseMethodDescriptor yX1_commonAt.desc).map (fun d => d.parameters.length) = some 1 := by decide +kernel
set_option maxHeartbeats 1000000 in
theorem lwc_commonAt (C : CL p s m meth c b L xs D dX dM) (hW : PW D s aX dX aM dM S T H locs) {i : Nat} (hl : lv_has ls 4 (lcl b (aX 0) (aM 0) (nI i))) (hL : L ≤ 256) (hi : i + 3 < L) {a : AS} (HX : QX a S) (HM : QM a T) (K : ∀ (a1 : AS) S1 T1 H1 locs1, QX a1 S1 → QM a1 T1 → PW D s aX dX aM dM S1 T1 H1 locs1 → WL p l e s m below meth c b H1 locs1 607 ls []) : WL p l e s m below meth c b H locs 561 ls [] := by
  obtain ⟨hx, hb, hr, hml, hown, hts, hX, hbl, hlocks, hK⟩ := id C
  refine lv_aload_n hx hb (dL (pc := 561) rfl) rfl (lv_at hl 1 rfl) ?_
  refine lw_arg (j := 1) C hW.2.2 hl hL (by omega) (by decide +kernel) (dL (pc := 562) rfl) (dL (pc := 563) rfl) (dL (pc := 564) rfl) (dL (pc := 565) rfl) (dL (pc := 566) rfl) ?_
  refine lw_callX (rest := []) C hW hl.1 [xs (i + 1)] (X_commonAt HX) lcX_commonAt lnX_commonAt (dL (pc := 567) rfl) ⟨by decide, by decide⟩ rfl (Nat.le_of_ble_eq_true rfl) ?_
  rintro r S1 H1 locs1 ⟨rfl, HX1⟩ hW1
  refine lv_aload_n hx hb (dL (pc := 570) rfl) rfl (lv_at hl 2 rfl) ?_
  refine lw_arg (j := 1) C hW1.2.2 hl hL (by omega) (by decide +kernel) (dL (pc := 571) rfl) (dL (pc := 572) rfl) (dL (pc := 573) rfl) (dL (pc := 574) rfl) (dL (pc := 575) rfl) ?_
  refine lw_callM (rest := [.int (a_commonAt a (xs (i + 1)))]) C hW1 hl.1 [xs (i + 1)] (M_commonAt HM) lcM_commonAt lnM_commonAt (dL (pc := 576) rfl) ⟨by decide, by decide⟩ rfl (Nat.le_of_ble_eq_true rfl) ?_
  rintro r T1 H2 locs2 ⟨rfl, HM1⟩ hW2
  exact lv_icmp_eq (tgt := 607) hx hb (dL (pc := 579) rfl) (by decide) (fun _ => K _ _ _ _ _ HX1 HM1 hW2) (fun z => absurd rfl z)
theorem lcX_tail : GoodIn lw_all (wsV R_law 82 RX0 yX0_tail (ws_ yX0_tail dX_tail.1 dX_tail.2.1 dX_tail.2.2.1)) := lw_V q211 q212 q213 q30 q214
theorem lnX_tail : yX0_tail.cls = RX0 ∧ yX0_tail.cls ≠ "java/lang/invoke/MethodHandle" ∧ yX0_tail.cls ≠ "java/lang/invoke/VarHandle" ∧ (parseMethodDescriptor yX0_tail.desc).map (fun d => d.parameters.length) = some 1 := by decide +kernel
theorem lcM_tail : GoodIn lw_all (wsV R_law 85 RX1 yX1_tail (ws_ yX1_tail dM_tail.1 dM_tail.2.1 dM_tail.2.2.1)) := lw_V q333 q334 q335 q31 q336
theorem lnM_tail : yX1_tail.cls = RX1 ∧ yX1_tail.cls ≠ "java/lang/invoke/MethodHandle" ∧ yX1_tail.cls ≠ "java/lang/invoke/VarHandle" ∧ (parseMethodDescriptor yX1_tail.desc).map (fun d => d.parameters.length) = some 1 := by decide +kernel
set_option maxHeartbeats 1000000 in
theorem lwc_tail (C : CL p s m meth c b L xs D dX dM) (hW : PW D s aX dX aM dM S T H locs) {i : Nat} (hl : lv_has ls 4 (lcl b (aX 0) (aM 0) (nI i))) (hL : L ≤ 256) (hi : i + 3 < L) {a : AS} (HX : QX a S) (HM : QM a T) (K : ∀ (a1 : AS) S1 T1 H1 locs1, QX a1 S1 → QM a1 T1 → PW D s aX dX aM dM S1 T1 H1 locs1 → WL p l e s m below meth c b H1 locs1 607 ls []) : WL p l e s m below meth c b H locs 584 ls [] := by
  obtain ⟨hx, hb, hr, hml, hown, hts, hX, hbl, hlocks, hK⟩ := id C
  refine lv_aload_n hx hb (dL (pc := 584) rfl) rfl (lv_at hl 1 rfl) ?_
  refine lw_arg (j := 1) C hW.2.2 hl hL (by omega) (by decide +kernel) (dL (pc := 585) rfl) (dL (pc := 586) rfl) (dL (pc := 587) rfl) (dL (pc := 588) rfl) (dL (pc := 589) rfl) ?_
  refine lw_callX (rest := []) C hW hl.1 [xs (i + 1)] (X_tail HX) lcX_tail lnX_tail (dL (pc := 590) rfl) ⟨by decide, by decide⟩ rfl (Nat.le_of_ble_eq_true rfl) ?_
  rintro r S1 H1 locs1 ⟨rfl, HX1⟩ hW1
  refine lv_aload_n hx hb (dL (pc := 593) rfl) rfl (lv_at hl 2 rfl) ?_
  refine lw_arg (j := 1) C hW1.2.2 hl hL (by omega) (by decide +kernel) (dL (pc := 594) rfl) (dL (pc := 595) rfl) (dL (pc := 596) rfl) (dL (pc := 597) rfl) (dL (pc := 598) rfl) ?_
  refine lw_callM (rest := [.int (a_tail a (xs (i + 1)))]) C hW1 hl.1 [xs (i + 1)] (M_tail HM) lcM_tail lnM_tail (dL (pc := 599) rfl) ⟨by decide, by decide⟩ rfl (Nat.le_of_ble_eq_true rfl) ?_
  rintro r T1 H2 locs2 ⟨rfl, HM1⟩ hW2
  exact lv_icmp_eq (tgt := 607) hx hb (dL (pc := 602) rfl) (by decide) (fun _ => K _ _ _ _ _ HX1 HM1 hW2) (fun z => absurd rfl z)
end LC
end
section
set_option maxRecDepth 100000
set_option maxHeartbeats 4000000 in
/-- the law's loop: i ints of the script done, both objects hold the same two lists -/
theorem lw_loop {p : Program} {l : Launch} {e : Env} {s : State} {m : MethodId} {below : List Frame} {meth : Method} {c : Code} {b L : Nat} {xs : Nat → Int32} {D : va_G} {aX aM : Nat → Nat} {dX dM : Nat → ClassId} (C : CL p s m meth c b L xs D dX dM) (hL : L ≤ 256) : ∀ (n i : Nat) (a : AS) (S : SX) (T : SM) (H : Heap) (locs : List Loc) (ls : Array Slot), L < i + n → i ≤ 256 → QX a S → QM a T → PW D s aX dX aM dM S T H locs → lv_has ls 4 (lcl b (aX 0) (aM 0) (nI i)) → WL p l e s m below meth c b H locs 18 ls [] := by
  obtain ⟨hx, hb, hr, hml, hown, hts, hX, hbl, hlocks, hK⟩ := id C
  have hbA : ¬ AL s b := Nat.not_le.mpr hbl
  have e4 : (nI L - 4).toInt = (L : Int) - 4 := by
    have e1 := pd_ti (a := L) (by omega)
    have e2 : (4 : Int32).toInt = 4 := rfl
    rw [fb_subI (by rw [e1, e2]; omega) (by rw [e1, e2]; omega), e1, e2]
  intro n
  induction n with
  | zero =>
    intro i a S T H locs ls h1 h2 HX HM hW hl
    refine lv_iload_n hx hb (dL (pc := 18) rfl) rfl (lv_at hl 3 rfl) ?_
    refine lv_aload_n hx hb (dL (pc := 19) rfl) rfl (lv_at hl 0 rfl) ?_
    refine va_slen hx hb hX hbl hbA hW.2.2 (dL (pc := 20) rfl) ?_
    refine lv_iconst (v := 4) hx hb (dL (pc := 21) rfl) (by decide +kernel) ?_
    refine lv_isub hx hb (dL (pc := 22) rfl) ?_
    refine lv_icmp_gt (tgt := 613) hx hb (dL (pc := 23) rfl) (by decide) (fun _ => ?_) (fun z => absurd ?_ z)
    · refine lv_iconst (v := 1) hx hb (dL (pc := 613) rfl) (by decide +kernel) ?_
      exact va_forget (fun q hq => hW.2.2.2.2 q hq) (lw_ret hx hb hr hlocks (dL (pc := 614) rfl))
    · show nI L - 4 < nI i
      rw [Int32.lt_iff_toInt_lt, e4, pd_ti (by omega)]
      omega
  | succ n ih =>
    intro i a S T H locs ls h1 h2 HX HM hW hl
    refine lv_iload_n hx hb (dL (pc := 18) rfl) rfl (lv_at hl 3 rfl) ?_
    refine lv_aload_n hx hb (dL (pc := 19) rfl) rfl (lv_at hl 0 rfl) ?_
    refine va_slen hx hb hX hbl hbA hW.2.2 (dL (pc := 20) rfl) ?_
    refine lv_iconst (v := 4) hx hb (dL (pc := 21) rfl) (by decide +kernel) ?_
    refine lv_isub hx hb (dL (pc := 22) rfl) ?_
    refine lv_icmp_gt (tgt := 613) hx hb (dL (pc := 23) rfl) (by decide) (fun _ => ?_) (fun z => ?_)
    · refine lv_iconst (v := 1) hx hb (dL (pc := 613) rfl) (by decide +kernel) ?_
      exact va_forget (fun q hq => hW.2.2.2.2 q hq) (lw_ret hx hb hr hlocks (dL (pc := 614) rfl))
    · have z : ¬ nI L - 4 < nI i := z
      rw [Int32.lt_iff_toInt_lt, e4, pd_ti (by omega)] at z
      have hi : i + 3 < L := by omega
      have K : ∀ (a1 : AS) S1 T1 H1 locs1, QX a1 S1 → QM a1 T1 → PW D s aX dX aM dM S1 T1 H1 locs1 → WL p l e s m below meth c b H1 locs1 607 ls [] := by
        intro a1 S1 T1 H1 locs1 HX1 HM1 hW1
        refine lv_iinc (v := nI (i + 4)) (lv' := [(3, .int (nI (i + 4))), (0, .ref b), (1, .ref (aX 0)), (2, .ref (aM 0))]) hx hb (dL (pc := 607) rfl) hl (k := 3) rfl (by rw [← nI_add]; rfl) (by decide) rfl (fun ls hl => ?_)
        refine lv_goto (tgt := 18) hx hb (dL (pc := 610) rfl) (by decide) ?_
        exact ih (i + 4) a1 S1 T1 H1 locs1 ls (by omega) (by omega) HX1 HM1 hW1 (lv_sub hl [1, 2, 3, 0] rfl)
      refine lv_aload_n hx hb (dL (pc := 26) rfl) rfl (lv_at hl 0 rfl) ?_
      refine lv_iload_n hx hb (dL (pc := 27) rfl) rfl (lv_at hl 3 rfl) ?_
      refine va_sld hx hb hX hbl hbA hW.2.2 (pd_in (show i < L by omega) (by omega)) (dL (pc := 28) rfl) ?_
      refine lv_bipush (v := 31) hx hb (dL (pc := 29) rfl) (by decide +kernel) ?_
      refine lv_iand hx hb (dL (pc := 31) rfl) ?_
      obtain ⟨o, ho, eo⟩ := pk_andE (xs (nI i).toNatClampNeg) (m := 31) 5 (by decide +kernel)
      rw [eo]
      have to := pd_ti (a := o) (by omega)
      by_cases h16 : 16 < o
      · refine lv_tableOut (tgt := 607) hx hb (dL (pc := 32) rfl) (Or.inr (by rw [to]; omega)) (by decide) ?_
        exact K a S T H locs HX HM hW
      · have hsw : ∀ (off : Int) (tgt : Nat), (#[84, 117, 160, 193, 226, 249, 272, 305, 338, 371, 414, 437, 470, 503, 516, 529, 552] : Array Int)[o]? = some off → (32 : Int) + off = (tgt : Int) → WL p l e s m below meth c b H locs tgt ls [] → WL p l e s m below meth c b H locs 32 ls [.int (nI o)] := by
          intro off tgt h3 h4 h5
          refine lv_tableIn hx hb (dL (pc := 32) rfl) (by rw [to]; omega) (by rw [to]; omega) ?_ h4 h5
          rw [to, show ((o : Int) - 0).toNat = o by omega]
          exact h3
        rcases (show o = 0 ∨ o = 1 ∨ o = 2 ∨ o = 3 ∨ o = 4 ∨ o = 5 ∨ o = 6 ∨ o = 7 ∨ o = 8 ∨ o = 9 ∨ o = 10 ∨ o = 11 ∨ o = 12 ∨ o = 13 ∨ o = 14 ∨ o = 15 ∨ o = 16 by omega) with rfl | rfl | rfl | rfl | rfl | rfl | rfl | rfl | rfl | rfl | rfl | rfl | rfl | rfl | rfl | rfl | rfl
        · exact hsw 84 116 rfl (by decide) (lwc_append C hW hl hL hi HX HM K)
        · exact hsw 117 149 rfl (by decide) (lwc_run C hW hl hL hi HX HM K)
        · exact hsw 160 192 rfl (by decide) (lwc_insert C hW hl hL hi HX HM K)
        · exact hsw 193 225 rfl (by decide) (lwc_remove C hW hl hL hi HX HM K)
        · exact hsw 226 258 rfl (by decide) (lwc_clear C hW hl hL hi HX HM K)
        · exact hsw 249 281 rfl (by decide) (lwc_size C hW hl hL hi HX HM K)
        · exact hsw 272 304 rfl (by decide) (lwc_at C hW hl hL hi HX HM K)
        · exact hsw 305 337 rfl (by decide) (lwc_seek C hW hl hL hi HX HM K)
        · exact hsw 338 370 rfl (by decide) (lwc_has C hW hl hL hi HX HM K)
        · exact hsw 371 403 rfl (by decide) (lwc_sum C hW hl hL hi HX HM K)
        · exact hsw 414 446 rfl (by decide) (lwc_blocks C hW hl hL hi HX HM K)
        · exact hsw 437 469 rfl (by decide) (lwc_base C hW hl hL hi HX HM K)
        · exact hsw 470 502 rfl (by decide) (lwc_blockSize C hW hl hL hi HX HM K)
        · exact hsw 503 535 rfl (by decide) (lwc_packed C hW hl hL hi HX HM K)
        · exact hsw 516 548 rfl (by decide) (lwc_common C hW hl hL hi HX HM K)
        · exact hsw 529 561 rfl (by decide) (lwc_commonAt C hW hl hL hi HX HM K)
        · exact hsw 552 584 rfl (by decide) (lwc_tail C hW hl hL hi HX HM K)
set_option maxHeartbeats 4000000 in
/-- from the entry, for every script of at most 256 ints, the law comes to its end with true -/
theorem whole_start {p : Program} {e : Env} {s : State} {m : MethodId} {below : List Frame} {meth : Method} {c : Code} (l : Launch) {b L : Nat} {xs : Nat → Int32} (hL : L ≤ 256) (C0 : lw_At p s m meth c b L xs) : W p l e room_1 s m #[Value.ref b] below meth c s.heap [] 0 0 (lw_Z below #[Value.ref b] s) (entryFrame m ([Value.ref b] : List Value).toArray 4) := by
  obtain ⟨hx, hb, hr, hml, hown, hts0, hX, hbl, hlocks, hgv⟩ := id C0
  have hts : ∀ w ∈ lw_all, w.before #[Value.ref b] s = true := fun w h => hts0 w (lw_all_tbl h)
  have hA : ∀ q : Nat, s.heap.size ≤ q → AL s q := fun _ h => h
  obtain ⟨c0, iS0, hKn0⟩ := u_known (C := RX0) (T := TX0) (N := 8) (n := 8) hts in_X0 (hts _ q33)
  obtain ⟨c1, iS1, hKn1⟩ := u_known (C := RX1) (T := TX1) (N := 2) (n := 2) hts in_X1 (hts _ q217)
  obtain ⟨D, hKc⟩ : ∃ (D : va_G), ∀ (k : Nat) (q : vw_C), vwCl[k]? = some q → u_Kn s q.1 q.2.1 q.2.2 (D.1 k) (D.2 k) := by
    refine ⟨(fun k => if k = 0 then c0 else c1, fun k => if k = 0 then iS0 else iS1), ?_⟩
    intro k q hq
    match k, hq with
    | 0, hq => cases hq; exact hKn0
    | 1, hq => cases hq; exact hKn1
    | k + 2, hq => simp [vwCl] at hq
  have hS : va_S (AL s) s.heap s.heap [] := va_S.rf
  have hK : va_K D vwCl [] s := ⟨hKc, fun k q h => by simp at h⟩
  have hP : va_P D vwCl [] s.heap := fun k q h => by simp at h
  have hD : va_D (AL s) [] := ⟨fun i j p q h => by simp at h, fun k q h => by simp at h⟩
  have hl := lv_entry ([.ref b]) (n := 4) (Nat.le_of_ble_eq_true rfl)
  rw [lg_entry_eq]
  generalize (lg_sl ([.ref b]) ++ List.replicate (4 - (lg_sl ([.ref b])).length) Slot.unset).toArray = ls at hl ⊢
  have hl : lv_has ls 4 [(0, .ref b)] := hl
  refine va_new (D := D) (ci := 0) (fs := [.null, .null, .null, .int 0, .null, .null, .null, .int 0]) (C := RX0) (T := TX0) (N := 8) hx hb hts in_X0 tyX0 tyX0_ok hown (hts _ q32) (hts _ q33) (hts _ q30) hK hP hD hS hA rfl (fun j hj => by rcases (show j = 0 ∨ j = 1 ∨ j = 2 ∨ j = 3 ∨ j = 4 ∨ j = 5 ∨ j = 6 ∨ j = 7 by omega) with rfl | rfl | rfl | rfl | rfl | rfl | rfl | rfl <;> rfl) (Nat.le_of_ble_eq_true rfl) (Nat.le_of_ble_eq_true rfl) (dL (pc := 0) rfl) (fun qx H hP hD hS => ?_)
  have hP : va_P D vwCl [(qx, .inr (0, [.null, .null, .null, .int 0, .null, .null, .null, .int 0]))] H := hP
  have hD : va_D (AL s) [(qx, .inr (0, [.null, .null, .null, .int 0, .null, .null, .null, .int 0]))] := hD
  refine lv_dup hx hb (dL (pc := 3) rfl) rfl ?_
  have hFc := va_free (wc := [(qx, .inr (0, [.null, .null, .null, .int 0, .null, .null, .null, .int 0]))]) hD hS hA [0] rfl
  refine qq_call (va_runI (As := []) (rest := [.ref qx]) ⟨hx, hb, hml, hown, hts⟩ (initX l D qx H.size) (cwI 0 hts (lw_meth q36) rfl rfl rfl (hts _ q30) (hts _ q34) (hts _ q35) rfl (by decide +kernel) ⟨Nat.le_of_ble_eq_true rfl, Nat.le_of_ble_eq_true rfl⟩) ⟨fun a U g mk q => by obtain ⟨q0, q1, qP, qK, qD⟩ := q; exact ⟨q0, q1, qP, va_K.moved (u := U) (U := U.calling g mk a) (Vm.Alike.refl U.vm) qK, qD⟩, fun U hU hW => ⟨rfl, by rw [hU], by rw [hU]; exact hP, va_K.moved hW.alike hK, hD.weaken (fun _ _ _ _ => trivial)⟩⟩ rfl rfl hl.1 rfl (lv_room (Nat.le_of_ble_eq_true rfl)) (dL (pc := 4) rfl) ⟨Nat.le_of_ble_eq_true rfl, Nat.le_of_ble_eq_true rfl⟩) hS (fun q _ h => hFc q h) hFc (fun r u t H1 locs ht hvm hw hB hz1 hk1 hS => ?_)
  obtain ⟨aX, dX⟩ := u
  have hw : aX 0 = qx := hw
  obtain ⟨hP1, hK1, hD1⟩ := hB
  rw [ht] at hP1
  have hKX := va_K.moved hvm.symm hK1
  have hDX := hD1.weaken (fun _ q _ h => hFc q.1 h)
  subst hw
  refine lv_astore_n (lv' := [(1, .ref (aX 0)), (0, .ref b)]) hx hb (dL (pc := 7) rfl) rfl hl (by decide) rfl (fun ls hl => ?_)
  refine va_new (D := D) (ci := 1) (fs := [.null, .null]) (C := RX1) (T := TX1) (N := 2) hx hb hts in_X1 tyX1 tyX1_ok hown (hts _ q216) (hts _ q217) (hts _ q31) hKX hP1 hDX hS hA rfl (fun j hj => by rcases (show j = 0 ∨ j = 1 by omega) with rfl | rfl <;> rfl) (Nat.le_of_ble_eq_true rfl) (Nat.le_of_ble_eq_true rfl) (dL (pc := 8) rfl) (fun qm H2 hP hD hS => ?_)
  refine lv_dup hx hb (dL (pc := 11) rfl) rfl ?_
  have hPc := hP.sub (ws' := [(qm, .inr (1, [.null, .null]))]) [7] rfl
  have hDc := hD.sub (ws' := [(qm, .inr (1, [.null, .null]))]) [7] (by decide) rfl
  have hFm := va_free (wc := [(qm, .inr (1, [.null, .null]))]) hD hS hA [7] rfl
  refine qq_call (va_runI (As := []) (rest := [.ref qm]) ⟨hx, hb, hml, hown, hts⟩ (initM l D qm H2.size) (cwI 0 hts (lw_meth q220) rfl rfl rfl (hts _ q31) (hts _ q218) (hts _ q219) rfl (by decide +kernel) ⟨Nat.le_of_ble_eq_true rfl, Nat.le_of_ble_eq_true rfl⟩) ⟨fun a U g mk q => by obtain ⟨q0, q1, qP, qK, qD⟩ := q; exact ⟨q0, q1, qP, va_K.moved (u := U) (U := U.calling g mk a) (Vm.Alike.refl U.vm) qK, qD⟩, fun U hU hW => ⟨rfl, by rw [hU], by rw [hU]; exact hPc, va_K.moved hW.alike hK, hDc.weaken (fun _ _ _ _ => trivial)⟩⟩ rfl rfl hl.1 rfl (lv_room (Nat.le_of_ble_eq_true rfl)) (dL (pc := 12) rfl) ⟨Nat.le_of_ble_eq_true rfl, Nat.le_of_ble_eq_true rfl⟩) hS (fun q _ h => hFm q h) hFm (fun r u t H3 locs ht hvm hw hB hz2 hk2 hS => ?_)
  obtain ⟨aM, dM⟩ := u
  have hw : aM 0 = qm := hw
  obtain ⟨hP2, hK2, hD2⟩ := hB
  rw [ht] at hP2
  have hKM := va_K.moved hvm.symm hK2
  obtain ⟨hP3, hD3⟩ := va_join (wr := pX aX dX ZX) (w1 := pM aM dM ZM) hP hD [7] [0, 1, 2, 3, 4, 5, 6] rfl rfl (by decide) (by decide) hk2 hFm hP2 hD2
  subst hw
  refine lv_astore_n (lv' := [(2, .ref (aM 0)), (1, .ref (aX 0)), (0, .ref b)]) hx hb (dL (pc := 15) rfl) rfl hl (by decide) rfl (fun ls hl => ?_)
  refine lv_iconst (v := 0) hx hb (dL (pc := 16) rfl) (by decide +kernel) ?_
  refine lv_istore_n (lv' := [(3, .int 0), (2, .ref (aM 0)), (1, .ref (aX 0)), (0, .ref b)]) hx hb (dL (pc := 17) rfl) rfl hl (by decide) rfl (fun ls hl => ?_)
  refine W.widen (k := 600000) (n := 7290000) (Nat.le_of_ble_eq_true rfl) (Nat.le_of_ble_eq_true rfl) ?_
  exact lw_loop (D := D) ⟨hx, hb, hr, hml, hown, hts, hX, hbl, hlocks, hKX.app hKM⟩ hL (L + 1) 0 A0 ZX ZM H3 _ ls (by omega) (by omega) QX_0 QM_0 ⟨hP3, hD3, hS⟩ (lv_sub hl [3, 2, 1, 0] rfl)
set_option maxHeartbeats 4000000 in
theorem lw_walk (l : Launch) (b : Addr) (xs : List Int32) : MetFree l x (headSpec (Jvm.Cond.code x code maxLocals ret :: tables_1) room_1) (lw_P b xs) (fun _ _ _ _ _ => True) lw_Q := by
  refine MetFree.of_bodyS (code := code) (maxLocals := maxLocals) (ret := ret) (by decide) ?_ ?_
  · intro args s m h hn
    obtain ⟨meth, c, h1, h2, h3, h4, h5, h6, -, -⟩ := Cond.code_spec hn (atoms_spec (ws := Jvm.Cond.code x code maxLocals ret :: tables_1) h _ List.mem_cons_self)
    exact ⟨meth, c, h1, h2, h3, h4, h5, h6⟩
  · intro p e s m args below meth c s₁ B hml0 hP _
    obtain ⟨rfl, hx, hbd, hgv⟩ := hP
    obtain ⟨scr, harrAt, hlist, hof, hsmall⟩ := hx
    obtain ⟨hcb, hkn, -, -⟩ := State.arrayAt?_spec harrAt
    have hown : s.vm.findClass R_law = some m.cls := findClass_of_methodNamed B.named
    have hts0 : ∀ c ∈ (Jvm.Cond.code x code maxLocals ret :: tables_1), c.before #[Value.ref b] s = true := atoms_spec (ws := Jvm.Cond.code x code maxLocals ret :: tables_1) B.pre
    have hts : ∀ w ∈ lw_tbl, w.before #[Value.ref b] s = true := k2_hts_sels lw_privs (fun w hw => hts0 w (List.mem_cons_of_mem _ hw)) lw_privs_ok
    have hml : c.maxLocals = 4 := B.maxLocals_eq (hts0 _ List.mem_cons_self)
    have X₀ : Stand p l e room_1 s m #[Value.ref b] below meth c s₁ [] 0 0 := Stand.of_body B
    have hh0 : s₁.heap = s.heap := by rw [B.state]; rfl
    have hsz : scr.slots.size = xs.length := by rw [← Array.length_toList, hlist, List.length_map]
    have hval : ∀ j : Nat, j < xs.length → scr.slots[j]? = some (.int (xs.getD j 0)) := fun j hj => by
      rw [← Array.getElem?_toList, hlist]
      simp [hj]
    have hbl : b < s.heap.size := (Array.getElem?_eq_some_iff.mp hcb).1
    have hX : va_X b xs.length (fun j => xs.getD j 0) s s.heap := ⟨scr, hcb, hof, hkn, hsz, hval⟩
    have K : W p l e room_1 s m #[Value.ref b] below meth c s₁.heap [] 0 0 (lw_Z below #[Value.ref b] s) (entryFrame m ([Value.ref b] : List Value).toArray 4) := by
      rw [hh0]
      exact whole_start l hbd ⟨B.exec, B.bytes, B.returns, hml, hown, hts, hX, hbl, B.notSynchronized, hgv⟩
    obtain ⟨t, a1, o, b1, b2, b3⟩ := K s₁ rfl X₀
    exact ⟨t, o, a1, b1, b2, b3⟩
theorem lw_pre_spec {args : Array Value} {s : State} (h : (Jvm.Cond.and given_1 narrow_1).before args s = true) (hr : rest_1_c.before args s = true) : ∃ (b : Addr) (xs : List Int32), lw_P b xs args s := by
  have hs := flat_of_before _ h
  have hq := flat_of_before _ hr
  have hc : (Cond.count 1).before args s = true := hs _ (by decide +kernel)
  have harr : (Cond.arrayOf (.arg 0) .int).before args s = true := hs _ (by decide +kernel)
  have hle : (Cond.le (.length (.arg 0)) (.int 256)).before args s = true := hs _ (by decide +kernel)
  have hlen : (Cond.isInt (.length (.arg 0))).before args s = true := hq _ (by decide +kernel)
  have hall : (Cond.all (.arg 0) (.isInt (.elem (.arg 0) (.index 0)))).before args s = true := hq _ (by decide +kernel)
  obtain ⟨b, xs, hb, hx⟩ := State.ints_of_pre rfl harr hlen hall
  have hsm : xs.length < 2 ^ 31 := hx.choose_spec.2.2.2
  have hev : (Term.length (.arg 0)).eval args s none [] s = some (.int xs.length.toInt32) := hx.length_eval hb
  have hv := Cond.le_ints hev (show (Term.int 256).eval args s none [] s = some (.int 256) from rfl)
  have hd : xs.length.toInt32 ≤ 256 := by
    simpa [Cond.before, Cond.holds, hv] using hle
  have hN : xs.length ≤ 256 := (Int32.ofNat_le_ofNat hsm (by decide)).mp (show Int32.ofNat xs.length ≤ Int32.ofNat 256 from hd)
  exact ⟨b, xs, Cond.one_arg hc (show args[0]? = some (.ref b) from hb), hx, hN, h⟩
theorem lw_comes (l : Launch) : Comes l x (Jvm.Cond.code x code maxLocals ret :: tables_1) room_1 (fun tb e args s => Calls_1 tb e args s ∧ rest_1 tb e args s ∧ Pre_1 tb e args s)
    (fun _ _ args s o t => lw_Q args s o t) := by
  intro p e ha hc hk s m args below hf hfit hheap happ hpre
  obtain ⟨b, xs, hP⟩ := lw_pre_spec hpre.2.2 hpre.2.1
  obtain ⟨k, o, h1, h2, h3, hQ⟩ := lw_walk l b xs p e ha hc hk s m args below hf ((Spec.applies_iff_loose hf).mp happ).1 hP trivial
  exact ⟨k, o, h1, h2, h3, hQ⟩
theorem lw_frame {s t : State} {o : Outcome} {args : Array Value} (h : Framed s o t [] 600000 7290000) :
    Framed s o t (fieldLocs frame_1_writes args s ++ arrayLocs frame_1_arrays args s ++ staticLocs frame_1_statics s) 600000 7290000 := h
theorem lw_limb (L : Cond) (hL : ∀ (args : Array Value) (s t : State), L.after args s (.returned (some (.int 1))) t = true) :
    ArmFor flags0 classFile x code maxLocals ret World_1 tables_1 room_1 Calls_1 rest_1 Pre_1
      (fun tb e a s o t => postC L tb e a s o t ∧ Framed s o t (fieldLocs frame_1_writes a s ++ arrayLocs frame_1_arrays a s ++ staticLocs frame_1_statics s) 600000 7290000) := by
  intro l _ _ _ p e ha hc hk s m args below hf hfit hheap happ hpre
  obtain ⟨k, o, h1, h2, h3, rfl, hF⟩ := lw_comes l p e ha hc hk s m args below hf hfit hheap happ hpre
  exact ⟨k, _, h1, h2, h3, hL args s _, lw_frame hF⟩
theorem i_vc : Claimed_1_1 ∧ Claimed_1_2 := ⟨lw_limb limb_1_1 (fun args s t => by simp [limb_1_1, Cond.after, Cond.holds, Cond.value]), lw_limb limb_1_2 (fun args s t => Cond.after_iff.mpr (by
  first | (rw [show limb_1_2 = Cond.eq .result (.int 1) from rfl, Cond.eq_ints (x := 1) (y := 1) rfl rfl]; simp; done) | (simp [limb_1_2, Cond.value, Term.eval]; done)))⟩
end
