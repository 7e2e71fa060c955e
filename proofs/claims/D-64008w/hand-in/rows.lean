section
-- ===== PART A: goes FIRST, ahead of the names: the tables' words, and 'selects' of the private methods out of them =====
/-- a private method of a class that the tables say can be made, by its rows of tables_1 -/
def lw_okq (q : MethodName × Nat) : Prop := (q.1.cls ≠ "java/lang/invoke/MethodHandle" ∧ q.1.cls ≠ "java/lang/invoke/VarHandle") ∧ Cond.instantiable q.1.cls q.2 ∈ tables_1 ∧ Cond.privateMethod q.1 ∈ tables_1 ∧ Cond.instanceMethod q.1 ∈ tables_1
set_option maxRecDepth 100000
theorem lw_t1 {w : Cond} (h : w ∈ tables_1_1) : w ∈ tables_1 := List.mem_append_left _ h
theorem lw_t2 {w : Cond} (h : w ∈ tables_1_2) : w ∈ tables_1 := List.mem_append_right _ h
theorem lw_p0 : lw_okq (⟨"TinyFloats", "bad", "(I)Z"⟩, 6) := ⟨⟨by decide +kernel, by decide +kernel⟩, lw_t1 (List.mem_of_getElem? (i := 4) rfl), lw_t1 (List.mem_of_getElem? (i := 47) rfl), lw_t1 (List.mem_of_getElem? (i := 48) rfl)⟩
theorem lw_p1 : lw_okq (⟨"TinyFloats", "sum", "(II)I"⟩, 6) := ⟨⟨by decide +kernel, by decide +kernel⟩, lw_t1 (List.mem_of_getElem? (i := 4) rfl), lw_t1 (List.mem_of_getElem? (i := 51) rfl), lw_t1 (List.mem_of_getElem? (i := 52) rfl)⟩
theorem lw_p2 : lw_okq (⟨"TinyFloats", "isNone", "(I)Z"⟩, 6) := ⟨⟨by decide +kernel, by decide +kernel⟩, lw_t1 (List.mem_of_getElem? (i := 4) rfl), lw_t1 (List.mem_of_getElem? (i := 55) rfl), lw_t1 (List.mem_of_getElem? (i := 56) rfl)⟩
theorem lw_p3 : lw_okq (⟨"TinyFloats", "isInfinite", "(I)Z"⟩, 6) := ⟨⟨by decide +kernel, by decide +kernel⟩, lw_t1 (List.mem_of_getElem? (i := 4) rfl), lw_t1 (List.mem_of_getElem? (i := 59) rfl), lw_t1 (List.mem_of_getElem? (i := 60) rfl)⟩
theorem lw_p4 : lw_okq (⟨"TinyFloats", "senseless", "()I"⟩, 6) := ⟨⟨by decide +kernel, by decide +kernel⟩, lw_t1 (List.mem_of_getElem? (i := 4) rfl), lw_t1 (List.mem_of_getElem? (i := 63) rfl), lw_t1 (List.mem_of_getElem? (i := 64) rfl)⟩
theorem lw_p5 : lw_okq (⟨"TinyFloats", "unpack", "(I)V"⟩, 6) := ⟨⟨by decide +kernel, by decide +kernel⟩, lw_t1 (List.mem_of_getElem? (i := 4) rfl), lw_t1 (List.mem_of_getElem? (i := 67) rfl), lw_t1 (List.mem_of_getElem? (i := 68) rfl)⟩
theorem lw_p6 : lw_okq (⟨"TinyFloats", "zeroSum", "(II)I"⟩, 6) := ⟨⟨by decide +kernel, by decide +kernel⟩, lw_t1 (List.mem_of_getElem? (i := 4) rfl), lw_t1 (List.mem_of_getElem? (i := 71) rfl), lw_t1 (List.mem_of_getElem? (i := 72) rfl)⟩
theorem lw_p7 : lw_okq (⟨"TinyFloats", "addUp", "(IJI)I"⟩, 6) := ⟨⟨by decide +kernel, by decide +kernel⟩, lw_t1 (List.mem_of_getElem? (i := 4) rfl), lw_t1 (List.mem_of_getElem? (i := 75) rfl), lw_t1 (List.mem_of_getElem? (i := 76) rfl)⟩
theorem lw_p8 : lw_okq (⟨"TinyFloats", "round", "(IJIZ)I"⟩, 6) := ⟨⟨by decide +kernel, by decide +kernel⟩, lw_t1 (List.mem_of_getElem? (i := 4) rfl), lw_t1 (List.mem_of_getElem? (i := 79) rfl), lw_t1 (List.mem_of_getElem? (i := 80) rfl)⟩
theorem lw_p9 : lw_okq (⟨"TinyFloats", "upward", "(IJZZ)Z"⟩, 6) := ⟨⟨by decide +kernel, by decide +kernel⟩, lw_t1 (List.mem_of_getElem? (i := 4) rfl), lw_t1 (List.mem_of_getElem? (i := 85) rfl), lw_t1 (List.mem_of_getElem? (i := 86) rfl)⟩
theorem lw_p10 : lw_okq (⟨"TinyFloats", "pack", "(IJI)I"⟩, 6) := ⟨⟨by decide +kernel, by decide +kernel⟩, lw_t1 (List.mem_of_getElem? (i := 4) rfl), lw_t1 (List.mem_of_getElem? (i := 89) rfl), lw_t1 (List.mem_of_getElem? (i := 90) rfl)⟩
theorem lw_p11 : lw_okq (⟨"TinyFloats", "sumOf", "(IJIIJI)I"⟩, 6) := ⟨⟨by decide +kernel, by decide +kernel⟩, lw_t1 (List.mem_of_getElem? (i := 4) rfl), lw_t1 (List.mem_of_getElem? (i := 93) rfl), lw_t1 (List.mem_of_getElem? (i := 94) rfl)⟩
theorem lw_p12 : lw_okq (⟨"TinyFloats", "isZero", "(I)Z"⟩, 6) := ⟨⟨by decide +kernel, by decide +kernel⟩, lw_t1 (List.mem_of_getElem? (i := 4) rfl), lw_t1 (List.mem_of_getElem? (i := 105) rfl), lw_t1 (List.mem_of_getElem? (i := 106) rfl)⟩
theorem lw_p13 : lw_okq (⟨"TinyFloats", "productSum", "(III)I"⟩, 6) := ⟨⟨by decide +kernel, by decide +kernel⟩, lw_t1 (List.mem_of_getElem? (i := 4) rfl), lw_t1 (List.mem_of_getElem? (i := 121) rfl), lw_t1 (List.mem_of_getElem? (i := 122) rfl)⟩
theorem lw_p14 : lw_okq (⟨"TinyFloats", "rank", "(I)I"⟩, 6) := ⟨⟨by decide +kernel, by decide +kernel⟩, lw_t1 (List.mem_of_getElem? (i := 4) rfl), lw_t1 (List.mem_of_getElem? (i := 129) rfl), lw_t1 (List.mem_of_getElem? (i := 130) rfl)⟩
theorem lw_p15 : lw_okq (⟨"TinyFloatsModel", "isCode", "(I)Z"⟩, 4) := ⟨⟨by decide +kernel, by decide +kernel⟩, lw_t1 (List.mem_of_getElem? (i := 156) rfl), lw_t1 (List.mem_of_getElem? (i := 192) rfl), lw_t1 (List.mem_of_getElem? (i := 193) rfl)⟩
def lw_privs_1 : List (MethodName × Nat) := [(⟨"TinyFloats", "bad", "(I)Z"⟩, 6), (⟨"TinyFloats", "sum", "(II)I"⟩, 6), (⟨"TinyFloats", "isNone", "(I)Z"⟩, 6), (⟨"TinyFloats", "isInfinite", "(I)Z"⟩, 6), (⟨"TinyFloats", "senseless", "()I"⟩, 6), (⟨"TinyFloats", "unpack", "(I)V"⟩, 6), (⟨"TinyFloats", "zeroSum", "(II)I"⟩, 6), (⟨"TinyFloats", "addUp", "(IJI)I"⟩, 6), (⟨"TinyFloats", "round", "(IJIZ)I"⟩, 6), (⟨"TinyFloats", "upward", "(IJZZ)Z"⟩, 6), (⟨"TinyFloats", "pack", "(IJI)I"⟩, 6), (⟨"TinyFloats", "sumOf", "(IJIIJI)I"⟩, 6), (⟨"TinyFloats", "isZero", "(I)Z"⟩, 6), (⟨"TinyFloats", "productSum", "(III)I"⟩, 6), (⟨"TinyFloats", "rank", "(I)I"⟩, 6), (⟨"TinyFloatsModel", "isCode", "(I)Z"⟩, 4)]
theorem lw_r1 : ∀ q ∈ lw_privs_1, lw_okq q := List.forall_mem_cons.mpr ⟨lw_p0, List.forall_mem_cons.mpr ⟨lw_p1, List.forall_mem_cons.mpr ⟨lw_p2, List.forall_mem_cons.mpr ⟨lw_p3, List.forall_mem_cons.mpr ⟨lw_p4, List.forall_mem_cons.mpr ⟨lw_p5, List.forall_mem_cons.mpr ⟨lw_p6, List.forall_mem_cons.mpr ⟨lw_p7, List.forall_mem_cons.mpr ⟨lw_p8, List.forall_mem_cons.mpr ⟨lw_p9, List.forall_mem_cons.mpr ⟨lw_p10, List.forall_mem_cons.mpr ⟨lw_p11, List.forall_mem_cons.mpr ⟨lw_p12, List.forall_mem_cons.mpr ⟨lw_p13, List.forall_mem_cons.mpr ⟨lw_p14, List.forall_mem_cons.mpr ⟨lw_p15, fun _ h => absurd h List.not_mem_nil⟩⟩⟩⟩⟩⟩⟩⟩⟩⟩⟩⟩⟩⟩⟩⟩
theorem lw_p16 : lw_okq (⟨"TinyFloatsModel", "isNone", "(I)Z"⟩, 4) := ⟨⟨by decide +kernel, by decide +kernel⟩, lw_t1 (List.mem_of_getElem? (i := 156) rfl), lw_t1 (List.mem_of_getElem? (i := 196) rfl), lw_t1 (List.mem_of_getElem? (i := 197) rfl)⟩
theorem lw_p17 : lw_okq (⟨"TinyFloatsModel", "isInfinite", "(I)Z"⟩, 4) := ⟨⟨by decide +kernel, by decide +kernel⟩, lw_t1 (List.mem_of_getElem? (i := 156) rfl), lw_t1 (List.mem_of_getElem? (i := 200) rfl), lw_t1 (List.mem_of_getElem? (i := 201) rfl)⟩
theorem lw_p18 : lw_okq (⟨"TinyFloatsModel", "senseless", "()I"⟩, 4) := ⟨⟨by decide +kernel, by decide +kernel⟩, lw_t1 (List.mem_of_getElem? (i := 156) rfl), lw_t1 (List.mem_of_getElem? (i := 204) rfl), lw_t1 (List.mem_of_getElem? (i := 205) rfl)⟩
theorem lw_p19 : lw_okq (⟨"TinyFloatsModel", "valueOf", "(I)I"⟩, 4) := ⟨⟨by decide +kernel, by decide +kernel⟩, lw_t1 (List.mem_of_getElem? (i := 156) rfl), lw_t1 (List.mem_of_getElem? (i := 208) rfl), lw_t1 (List.mem_of_getElem? (i := 209) rfl)⟩
theorem lw_p20 : lw_okq (⟨"TinyFloatsModel", "isNegative", "(I)Z"⟩, 4) := ⟨⟨by decide +kernel, by decide +kernel⟩, lw_t1 (List.mem_of_getElem? (i := 156) rfl), lw_t1 (List.mem_of_getElem? (i := 212) rfl), lw_t1 (List.mem_of_getElem? (i := 213) rfl)⟩
theorem lw_p21 : lw_okq (⟨"TinyFloatsModel", "finiteSum", "(JJZI)I"⟩, 4) := ⟨⟨by decide +kernel, by decide +kernel⟩, lw_t1 (List.mem_of_getElem? (i := 156) rfl), lw_t1 (List.mem_of_getElem? (i := 216) rfl), lw_t1 (List.mem_of_getElem? (i := 217) rfl)⟩
theorem lw_p22 : lw_okq (⟨"TinyFloatsModel", "isZero", "(I)Z"⟩, 4) := ⟨⟨by decide +kernel, by decide +kernel⟩, lw_t1 (List.mem_of_getElem? (i := 156) rfl), lw_t1 (List.mem_of_getElem? (i := 220) rfl), lw_t1 (List.mem_of_getElem? (i := 221) rfl)⟩
theorem lw_p23 : lw_okq (⟨"TinyFloatsModel", "zero", "(Z)I"⟩, 4) := ⟨⟨by decide +kernel, by decide +kernel⟩, lw_t1 (List.mem_of_getElem? (i := 156) rfl), lw_t1 (List.mem_of_getElem? (i := 224) rfl), lw_t1 (List.mem_of_getElem? (i := 225) rfl)⟩
theorem lw_p24 : lw_okq (⟨"TinyFloatsModel", "round", "(JJZ)I"⟩, 4) := ⟨⟨by decide +kernel, by decide +kernel⟩, lw_t1 (List.mem_of_getElem? (i := 156) rfl), lw_t1 (List.mem_of_getElem? (i := 228) rfl), lw_t1 (List.mem_of_getElem? (i := 229) rfl)⟩
theorem lw_p25 : lw_okq (⟨"TinyFloatsModel", "sign", "(J)I"⟩, 4) := ⟨⟨by decide +kernel, by decide +kernel⟩, lw_t1 (List.mem_of_getElem? (i := 156) rfl), lw_t1 (List.mem_of_getElem? (i := 233) rfl), lw_t1 (List.mem_of_getElem? (i := 234) rfl)⟩
theorem lw_p26 : lw_okq (⟨"TinyFloatsModel", "choose", "(IIZZZ)I"⟩, 4) := ⟨⟨by decide +kernel, by decide +kernel⟩, lw_t1 (List.mem_of_getElem? (i := 156) rfl), lw_t1 (List.mem_of_getElem? (i := 237) rfl), lw_t1 (List.mem_of_getElem? (i := 238) rfl)⟩
theorem lw_p27 : lw_okq (⟨"TinyFloatsModel", "goesUp", "(Z)Z"⟩, 4) := ⟨⟨by decide +kernel, by decide +kernel⟩, lw_t1 (List.mem_of_getElem? (i := 156) rfl), lw_t2 (List.mem_of_getElem? (i := 1) rfl), lw_t2 (List.mem_of_getElem? (i := 2) rfl)⟩
theorem lw_p28 : lw_okq (⟨"TinyFloatsModel", "signed", "(IZ)I"⟩, 4) := ⟨⟨by decide +kernel, by decide +kernel⟩, lw_t1 (List.mem_of_getElem? (i := 156) rfl), lw_t2 (List.mem_of_getElem? (i := 5) rfl), lw_t2 (List.mem_of_getElem? (i := 6) rfl)⟩
def lw_privs_2 : List (MethodName × Nat) := [(⟨"TinyFloatsModel", "isNone", "(I)Z"⟩, 4), (⟨"TinyFloatsModel", "isInfinite", "(I)Z"⟩, 4), (⟨"TinyFloatsModel", "senseless", "()I"⟩, 4), (⟨"TinyFloatsModel", "valueOf", "(I)I"⟩, 4), (⟨"TinyFloatsModel", "isNegative", "(I)Z"⟩, 4), (⟨"TinyFloatsModel", "finiteSum", "(JJZI)I"⟩, 4), (⟨"TinyFloatsModel", "isZero", "(I)Z"⟩, 4), (⟨"TinyFloatsModel", "zero", "(Z)I"⟩, 4), (⟨"TinyFloatsModel", "round", "(JJZ)I"⟩, 4), (⟨"TinyFloatsModel", "sign", "(J)I"⟩, 4), (⟨"TinyFloatsModel", "choose", "(IIZZZ)I"⟩, 4), (⟨"TinyFloatsModel", "goesUp", "(Z)Z"⟩, 4), (⟨"TinyFloatsModel", "signed", "(IZ)I"⟩, 4)]
theorem lw_r2 : ∀ q ∈ lw_privs_2, lw_okq q := List.forall_mem_cons.mpr ⟨lw_p16, List.forall_mem_cons.mpr ⟨lw_p17, List.forall_mem_cons.mpr ⟨lw_p18, List.forall_mem_cons.mpr ⟨lw_p19, List.forall_mem_cons.mpr ⟨lw_p20, List.forall_mem_cons.mpr ⟨lw_p21, List.forall_mem_cons.mpr ⟨lw_p22, List.forall_mem_cons.mpr ⟨lw_p23, List.forall_mem_cons.mpr ⟨lw_p24, List.forall_mem_cons.mpr ⟨lw_p25, List.forall_mem_cons.mpr ⟨lw_p26, List.forall_mem_cons.mpr ⟨lw_p27, List.forall_mem_cons.mpr ⟨lw_p28, fun _ h => absurd h List.not_mem_nil⟩⟩⟩⟩⟩⟩⟩⟩⟩⟩⟩⟩⟩
def lw_privs : List (MethodName × Nat) := lw_privs_1 ++ (lw_privs_2)
def lw_tbl : List Cond := k2_sels lw_privs ++ tables_1
theorem lw_privs_ok : ∀ q ∈ lw_privs, lw_okq q := by
  show ∀ q ∈ lw_privs_1 ++ (lw_privs_2), lw_okq q
  exact List.forall_mem_append.mpr ⟨lw_r1, lw_r2⟩
-- ===== ONE list of words for every method: the tables' words that hold all through a run =====
def lw_all : List Cond := lw_tbl.filter goodWord
/-- a word of the tables by its place: claim/WORDS.tsv -/
theorem lw_w {w : Cond} (i : Nat) (h : lw_tbl[i]? = some w) (g : goodWord w = true) : w ∈ lw_all := List.mem_filter.mpr ⟨List.mem_of_getElem? h, g⟩
theorem lw_all_tbl {w : Cond} (h : w ∈ lw_all) : w ∈ lw_tbl := (List.mem_filter.mp h).1
theorem lw_self : GoodIn lw_all lw_all := fun w h => ⟨h, good_of_word (List.mem_filter.mp h).2⟩
/-- a class's field words, by their places -/
theorem lw_in (ws : List Cond) (ps : List Nat) (hp : ws = ps.filterMap (fun i => lw_tbl[i]?)) (hg : ws.all goodWord = true) : ∀ w ∈ ws, w ∈ lw_all := by
  intro w h
  have h1 := List.all_eq_true.mp hg w h
  rw [hp] at h
  obtain ⟨i, -, hi⟩ := List.mem_filterMap.mp h
  exact lw_w i hi h1
/-- the words of a contract for the method y with code b, L locals, answer r -/
abbrev ws_ (y : MethodName) (b : ByteArray) (L : Nat) (r : Option FieldType) : List Cond := Cond.code y b L r :: lw_all
theorem lw_meth {y : MethodName} {b : ByteArray} {L : Nat} {r : Option FieldType} (h : Cond.code y b L r ∈ lw_all) : GoodIn lw_all (ws_ y b L r) := by
  intro w hw
  rcases List.mem_cons.mp hw with e | e
  · rw [e]
    exact lw_self _ h
  · exact lw_self _ e
theorem lw_app {a c : List Cond} (ha : ∀ w ∈ a, w ∈ lw_all) (hc : GoodIn lw_all c) : GoodIn lw_all (a ++ c) := by
  intro w hw
  rcases List.mem_append.mp hw with e | e
  · exact lw_self w (ha w e)
  · exact hc w e
/-- what a call through an object asks: cwV n hts (lw_V ..) -/
theorem lw_V {own : String} {idx : Nat} {C : String} {y : MethodName} {b : ByteArray} {L : Nat} {r : Option FieldType} (h1 : Cond.methodLink own idx y ∈ lw_all) (h2 : Cond.instanceMethod y ∈ lw_all) (h3 : Cond.selects C y y ∈ lw_all) (h4 : Cond.initialized C ∈ lw_all) (h5 : Cond.code y b L r ∈ lw_all) : GoodIn lw_all (wsV own idx C y (ws_ y b L r)) := by
  refine lw_app ?_ (lw_meth h5)
  intro w hw
  simp only [List.mem_cons, List.not_mem_nil, or_false] at hw
  rcases hw with e | e | e | e
  · rw [e]; exact h1
  · rw [e]; exact h2
  · rw [e]; exact h3
  · rw [e]; exact h4
/-- what a static call asks: va_cwS n hts (lw_S ..) -/
theorem lw_S {own : String} {idx : Nat} {y : MethodName} {b : ByteArray} {L : Nat} {r : Option FieldType} (h1 : Cond.methodLink own idx y ∈ lw_all) (h2 : Cond.static y ∈ lw_all) (h3 : Cond.initialized y.cls ∈ lw_all) (h4 : Cond.code y b L r ∈ lw_all) : GoodIn lw_all (va_wsS own idx y (ws_ y b L r)) := by
  refine lw_app ?_ (lw_meth h4)
  intro w hw
  simp only [List.mem_cons, List.not_mem_nil, or_false] at hw
  rcases hw with e | e | e
  · rw [e]; exact h1
  · rw [e]; exact h2
  · rw [e]; exact h3
/-- the words of a contract for a method WITH HANDLERS (hh: its table) -/
abbrev wsW_ (y : MethodName) (b : ByteArray) (L : Nat) (r : Option FieldType) (hh : List (Nat × Nat × Nat × Nat)) : List Cond := Cond.codeWith y b L r hh :: lw_all
theorem lw_methW {y : MethodName} {b : ByteArray} {L : Nat} {r : Option FieldType} {hh : List (Nat × Nat × Nat × Nat)} (h : Cond.codeWith y b L r hh ∈ lw_all) : GoodIn lw_all (wsW_ y b L r hh) := by
  intro w hw
  rcases List.mem_cons.mp hw with e | e
  · rw [e]
    exact lw_self _ h
  · exact lw_self _ e
/-- any list of words by their places (lw_in), good -/
theorem lw_good {ws : List Cond} (h : ∀ w ∈ ws, w ∈ lw_all) : GoodIn lw_all ws := fun w hw => lw_self w (h w hw)
/-- what a call of a method with handlers asks: vx_cwVW n hts (lw_VW ..), vx_cwSW n hts (lw_SW ..) -/
theorem lw_VW {own : String} {idx : Nat} {C : String} {y : MethodName} {b : ByteArray} {L : Nat} {r : Option FieldType} {hh : List (Nat × Nat × Nat × Nat)} (h1 : Cond.methodLink own idx y ∈ lw_all) (h2 : Cond.instanceMethod y ∈ lw_all) (h3 : Cond.selects C y y ∈ lw_all) (h4 : Cond.initialized C ∈ lw_all) (h5 : Cond.codeWith y b L r hh ∈ lw_all) : GoodIn lw_all (wsV own idx C y (wsW_ y b L r hh)) := by
  refine lw_app ?_ (lw_methW h5)
  intro w hw
  simp only [List.mem_cons, List.not_mem_nil, or_false] at hw
  rcases hw with e | e | e | e
  · rw [e]; exact h1
  · rw [e]; exact h2
  · rw [e]; exact h3
  · rw [e]; exact h4
theorem lw_SW {own : String} {idx : Nat} {y : MethodName} {b : ByteArray} {L : Nat} {r : Option FieldType} {hh : List (Nat × Nat × Nat × Nat)} (h1 : Cond.methodLink own idx y ∈ lw_all) (h2 : Cond.static y ∈ lw_all) (h3 : Cond.initialized y.cls ∈ lw_all) (h4 : Cond.codeWith y b L r hh ∈ lw_all) : GoodIn lw_all (va_wsS own idx y (wsW_ y b L r hh)) := by
  refine lw_app ?_ (lw_methW h4)
  intro w hw
  simp only [List.mem_cons, List.not_mem_nil, or_false] at hw
  rcases hw with e | e | e
  · rw [e]; exact h1
  · rw [e]; exact h2
  · rw [e]; exact h3
/-- a word by its place in its run of the tables -/
theorem lw_at {r : List Cond} (hr : ∀ w ∈ r, w ∈ lw_tbl) {w : Cond} (i : Nat) (h : r[i]? = some w) : w ∈ lw_tbl := hr w (List.mem_of_getElem? h)
theorem lw_g {w : Cond} (h : w ∈ lw_tbl) (g : goodWord w = true) : w ∈ lw_all := List.mem_filter.mpr ⟨h, g⟩
theorem lw_ms : ∀ w ∈ k2_sels lw_privs, w ∈ lw_tbl := fun w h => show w ∈ k2_sels lw_privs ++ tables_1 from List.mem_append_left _ h
theorem lw_m1 : ∀ w ∈ tables_1_1, w ∈ lw_tbl := fun w h => show w ∈ k2_sels lw_privs ++ tables_1 from List.mem_append_right (k2_sels lw_privs) (show w ∈ tables_1 from List.mem_append_left _ h)
theorem lw_m2 : ∀ w ∈ tables_1_2, w ∈ lw_tbl := fun w h => show w ∈ k2_sels lw_privs ++ tables_1 from List.mem_append_right (k2_sels lw_privs) (show w ∈ tables_1 from List.mem_append_right _ h)
theorem qs0 : (Cond.selects "TinyFloats" ⟨"TinyFloats", "bad", "(I)Z"⟩ ⟨"TinyFloats", "bad", "(I)Z"⟩) ∈ lw_all := lw_g (lw_at lw_ms 0 rfl) rfl
theorem qs1 : (Cond.selects "TinyFloats" ⟨"TinyFloats", "sum", "(II)I"⟩ ⟨"TinyFloats", "sum", "(II)I"⟩) ∈ lw_all := lw_g (lw_at lw_ms 1 rfl) rfl
theorem qs2 : (Cond.selects "TinyFloats" ⟨"TinyFloats", "isNone", "(I)Z"⟩ ⟨"TinyFloats", "isNone", "(I)Z"⟩) ∈ lw_all := lw_g (lw_at lw_ms 2 rfl) rfl
theorem qs3 : (Cond.selects "TinyFloats" ⟨"TinyFloats", "isInfinite", "(I)Z"⟩ ⟨"TinyFloats", "isInfinite", "(I)Z"⟩) ∈ lw_all := lw_g (lw_at lw_ms 3 rfl) rfl
theorem qs4 : (Cond.selects "TinyFloats" ⟨"TinyFloats", "senseless", "()I"⟩ ⟨"TinyFloats", "senseless", "()I"⟩) ∈ lw_all := lw_g (lw_at lw_ms 4 rfl) rfl
theorem qs5 : (Cond.selects "TinyFloats" ⟨"TinyFloats", "unpack", "(I)V"⟩ ⟨"TinyFloats", "unpack", "(I)V"⟩) ∈ lw_all := lw_g (lw_at lw_ms 5 rfl) rfl
theorem qs6 : (Cond.selects "TinyFloats" ⟨"TinyFloats", "zeroSum", "(II)I"⟩ ⟨"TinyFloats", "zeroSum", "(II)I"⟩) ∈ lw_all := lw_g (lw_at lw_ms 6 rfl) rfl
theorem qs7 : (Cond.selects "TinyFloats" ⟨"TinyFloats", "addUp", "(IJI)I"⟩ ⟨"TinyFloats", "addUp", "(IJI)I"⟩) ∈ lw_all := lw_g (lw_at lw_ms 7 rfl) rfl
theorem qs8 : (Cond.selects "TinyFloats" ⟨"TinyFloats", "round", "(IJIZ)I"⟩ ⟨"TinyFloats", "round", "(IJIZ)I"⟩) ∈ lw_all := lw_g (lw_at lw_ms 8 rfl) rfl
theorem qs9 : (Cond.selects "TinyFloats" ⟨"TinyFloats", "upward", "(IJZZ)Z"⟩ ⟨"TinyFloats", "upward", "(IJZZ)Z"⟩) ∈ lw_all := lw_g (lw_at lw_ms 9 rfl) rfl
theorem qs10 : (Cond.selects "TinyFloats" ⟨"TinyFloats", "pack", "(IJI)I"⟩ ⟨"TinyFloats", "pack", "(IJI)I"⟩) ∈ lw_all := lw_g (lw_at lw_ms 10 rfl) rfl
theorem qs11 : (Cond.selects "TinyFloats" ⟨"TinyFloats", "sumOf", "(IJIIJI)I"⟩ ⟨"TinyFloats", "sumOf", "(IJIIJI)I"⟩) ∈ lw_all := lw_g (lw_at lw_ms 11 rfl) rfl
theorem qs12 : (Cond.selects "TinyFloats" ⟨"TinyFloats", "isZero", "(I)Z"⟩ ⟨"TinyFloats", "isZero", "(I)Z"⟩) ∈ lw_all := lw_g (lw_at lw_ms 12 rfl) rfl
theorem qs13 : (Cond.selects "TinyFloats" ⟨"TinyFloats", "productSum", "(III)I"⟩ ⟨"TinyFloats", "productSum", "(III)I"⟩) ∈ lw_all := lw_g (lw_at lw_ms 13 rfl) rfl
theorem qs14 : (Cond.selects "TinyFloats" ⟨"TinyFloats", "rank", "(I)I"⟩ ⟨"TinyFloats", "rank", "(I)I"⟩) ∈ lw_all := lw_g (lw_at lw_ms 14 rfl) rfl
theorem qs15 : (Cond.selects "TinyFloatsModel" ⟨"TinyFloatsModel", "isCode", "(I)Z"⟩ ⟨"TinyFloatsModel", "isCode", "(I)Z"⟩) ∈ lw_all := lw_g (lw_at lw_ms 15 rfl) rfl
theorem qs16 : (Cond.selects "TinyFloatsModel" ⟨"TinyFloatsModel", "isNone", "(I)Z"⟩ ⟨"TinyFloatsModel", "isNone", "(I)Z"⟩) ∈ lw_all := lw_g (lw_at lw_ms 16 rfl) rfl
theorem qs17 : (Cond.selects "TinyFloatsModel" ⟨"TinyFloatsModel", "isInfinite", "(I)Z"⟩ ⟨"TinyFloatsModel", "isInfinite", "(I)Z"⟩) ∈ lw_all := lw_g (lw_at lw_ms 17 rfl) rfl
theorem qs18 : (Cond.selects "TinyFloatsModel" ⟨"TinyFloatsModel", "senseless", "()I"⟩ ⟨"TinyFloatsModel", "senseless", "()I"⟩) ∈ lw_all := lw_g (lw_at lw_ms 18 rfl) rfl
theorem qs19 : (Cond.selects "TinyFloatsModel" ⟨"TinyFloatsModel", "valueOf", "(I)I"⟩ ⟨"TinyFloatsModel", "valueOf", "(I)I"⟩) ∈ lw_all := lw_g (lw_at lw_ms 19 rfl) rfl
theorem qs20 : (Cond.selects "TinyFloatsModel" ⟨"TinyFloatsModel", "isNegative", "(I)Z"⟩ ⟨"TinyFloatsModel", "isNegative", "(I)Z"⟩) ∈ lw_all := lw_g (lw_at lw_ms 20 rfl) rfl
theorem qs21 : (Cond.selects "TinyFloatsModel" ⟨"TinyFloatsModel", "finiteSum", "(JJZI)I"⟩ ⟨"TinyFloatsModel", "finiteSum", "(JJZI)I"⟩) ∈ lw_all := lw_g (lw_at lw_ms 21 rfl) rfl
theorem qs22 : (Cond.selects "TinyFloatsModel" ⟨"TinyFloatsModel", "isZero", "(I)Z"⟩ ⟨"TinyFloatsModel", "isZero", "(I)Z"⟩) ∈ lw_all := lw_g (lw_at lw_ms 22 rfl) rfl
theorem qs23 : (Cond.selects "TinyFloatsModel" ⟨"TinyFloatsModel", "zero", "(Z)I"⟩ ⟨"TinyFloatsModel", "zero", "(Z)I"⟩) ∈ lw_all := lw_g (lw_at lw_ms 23 rfl) rfl
theorem qs24 : (Cond.selects "TinyFloatsModel" ⟨"TinyFloatsModel", "round", "(JJZ)I"⟩ ⟨"TinyFloatsModel", "round", "(JJZ)I"⟩) ∈ lw_all := lw_g (lw_at lw_ms 24 rfl) rfl
theorem qs25 : (Cond.selects "TinyFloatsModel" ⟨"TinyFloatsModel", "sign", "(J)I"⟩ ⟨"TinyFloatsModel", "sign", "(J)I"⟩) ∈ lw_all := lw_g (lw_at lw_ms 25 rfl) rfl
theorem qs26 : (Cond.selects "TinyFloatsModel" ⟨"TinyFloatsModel", "choose", "(IIZZZ)I"⟩ ⟨"TinyFloatsModel", "choose", "(IIZZZ)I"⟩) ∈ lw_all := lw_g (lw_at lw_ms 26 rfl) rfl
theorem qs27 : (Cond.selects "TinyFloatsModel" ⟨"TinyFloatsModel", "goesUp", "(Z)Z"⟩ ⟨"TinyFloatsModel", "goesUp", "(Z)Z"⟩) ∈ lw_all := lw_g (lw_at lw_ms 27 rfl) rfl
theorem qs28 : (Cond.selects "TinyFloatsModel" ⟨"TinyFloatsModel", "signed", "(IZ)I"⟩ ⟨"TinyFloatsModel", "signed", "(IZ)I"⟩) ∈ lw_all := lw_g (lw_at lw_ms 28 rfl) rfl
end
section
/-! java/lang/Object -/
set_option maxRecDepth 100000
def RJ0 : String := "java/lang/Object"
abbrev cJ0_init : ByteArray := object_method_1_code
def yJ0_init : MethodName := ⟨RJ0, "<init>", "()V"⟩
theorem q38 : (Jvm.Cond.instanceMethod ({ cls := "java/lang/Object", name := "<init>", desc := "()V" } : Jvm.MethodName)) ∈ lw_all := lw_g (lw_at lw_m1 9 rfl) rfl
theorem q39 : (Jvm.Cond.code ({ cls := "java/lang/Object", name := "<init>", desc := "()V" } : Jvm.MethodName) object_method_1_code (1 : Nat) (Option.none : Option Jvm.ClassFile.FieldType)) ∈ lw_all := lw_g (lw_at lw_m1 10 rfl) rfl
/-! TinyFloats -/
set_option maxRecDepth 100000
def RX0 : String := "TinyFloats"
def TX0 : u_T := fun k => match k with
  | 0 => ("TinyFloats", "mode", "I", false)
  | 1 => ("TinyFloats", "notes", "I", false)
  | 2 => ("TinyFloats", "store", "I", false)
  | 3 => ("TinyFloats", "sign", "I", false)
  | 4 => ("TinyFloats", "fraction", "J", false)
  | _ => ("TinyFloats", "exponent", "I", false)
def tyX0 : Nat → FieldType := fun k => match k with
  | 0 => .int
  | 1 => .int
  | 2 => .int
  | 3 => .int
  | 4 => .long
  | _ => .int
abbrev wsX00 : List Cond := u_ws RX0 TX0 6
theorem nmX0 : ∀ a, a < 6 → ∀ b, b < 6 → a ≠ b → (TX0 a).2.1 ≠ (TX0 b).2.1 := by decide +kernel
theorem tyX0_ok : ∀ k, k < 6 → parseFieldDescriptor (TX0 k).2.2.1 = some (tyX0 k) := by decide +kernel
abbrev cX0_init : ByteArray := prog_1_method_1_code
def yX0_init : MethodName := ⟨RX0, "<init>", "()V"⟩
abbrev cX0_mode : ByteArray := prog_1_method_8_code
def yX0_mode : MethodName := ⟨RX0, "mode", "(I)I"⟩
abbrev cX0_notes : ByteArray := prog_1_method_9_code
def yX0_notes : MethodName := ⟨RX0, "notes", "()I"⟩
abbrev cX0_clear : ByteArray := prog_1_method_10_code
def yX0_clear : MethodName := ⟨RX0, "clear", "()I"⟩
abbrev cX0_add : ByteArray := prog_1_method_18_code
def yX0_add : MethodName := ⟨RX0, "add", "(II)I"⟩
abbrev cX0_bad : ByteArray := prog_1_method_2_code
def yX0_bad : MethodName := ⟨RX0, "bad", "(I)Z"⟩
abbrev cX0_sum : ByteArray := prog_1_method_16_code
def yX0_sum : MethodName := ⟨RX0, "sum", "(II)I"⟩
abbrev cX0_isNone : ByteArray := prog_1_method_3_code
def yX0_isNone : MethodName := ⟨RX0, "isNone", "(I)Z"⟩
abbrev cX0_isInfinite : ByteArray := prog_1_method_4_code
def yX0_isInfinite : MethodName := ⟨RX0, "isInfinite", "(I)Z"⟩
abbrev cX0_senseless : ByteArray := prog_1_method_6_code
def yX0_senseless : MethodName := ⟨RX0, "senseless", "()I"⟩
abbrev cX0_unpack : ByteArray := prog_1_method_7_code
def yX0_unpack : MethodName := ⟨RX0, "unpack", "(I)V"⟩
abbrev cX0_zeroSum : ByteArray := prog_1_method_14_code
def yX0_zeroSum : MethodName := ⟨RX0, "zeroSum", "(II)I"⟩
abbrev cX0_addUp : ByteArray := prog_1_method_17_code
def yX0_addUp : MethodName := ⟨RX0, "addUp", "(IJI)I"⟩
abbrev cX0_round : ByteArray := prog_1_method_12_code
def yX0_round : MethodName := ⟨RX0, "round", "(IJIZ)I"⟩
abbrev cX0_upward : ByteArray := prog_1_method_11_code
def yX0_upward : MethodName := ⟨RX0, "upward", "(IJZZ)Z"⟩
abbrev cX0_pack : ByteArray := prog_1_method_13_code
def yX0_pack : MethodName := ⟨RX0, "pack", "(IJI)I"⟩
abbrev cX0_sumOf : ByteArray := prog_1_method_15_code
def yX0_sumOf : MethodName := ⟨RX0, "sumOf", "(IJIIJI)I"⟩
abbrev cX0_subtract : ByteArray := prog_1_method_19_code
def yX0_subtract : MethodName := ⟨RX0, "subtract", "(II)I"⟩
abbrev cX0_multiply : ByteArray := prog_1_method_20_code
def yX0_multiply : MethodName := ⟨RX0, "multiply", "(II)I"⟩
abbrev cX0_isZero : ByteArray := prog_1_method_5_code
def yX0_isZero : MethodName := ⟨RX0, "isZero", "(I)Z"⟩
abbrev cX0_divide : ByteArray := prog_1_method_21_code
def yX0_divide : MethodName := ⟨RX0, "divide", "(II)I"⟩
abbrev cX0_root : ByteArray := prog_1_method_22_code
def yX0_root : MethodName := ⟨RX0, "root", "(I)I"⟩
abbrev cX0_together : ByteArray := prog_1_method_24_code
def yX0_together : MethodName := ⟨RX0, "together", "(III)I"⟩
abbrev cX0_productSum : ByteArray := prog_1_method_23_code
def yX0_productSum : MethodName := ⟨RX0, "productSum", "(III)I"⟩
abbrev cX0_compare : ByteArray := prog_1_method_26_code
def yX0_compare : MethodName := ⟨RX0, "compare", "(II)I"⟩
abbrev cX0_rank : ByteArray := prog_1_method_25_code
def yX0_rank : MethodName := ⟨RX0, "rank", "(I)I"⟩
abbrev cX0_from : ByteArray := prog_1_method_27_code
def yX0_from : MethodName := ⟨RX0, "from", "(I)I"⟩
abbrev cX0_whole : ByteArray := prog_1_method_28_code
def yX0_whole : MethodName := ⟨RX0, "whole", "(I)I"⟩
abbrev cX0_pile : ByteArray := prog_1_method_29_code
def yX0_pile : MethodName := ⟨RX0, "pile", "(I)I"⟩
abbrev cX0_pileProduct : ByteArray := prog_1_method_30_code
def yX0_pileProduct : MethodName := ⟨RX0, "pileProduct", "(II)I"⟩
abbrev cX0_store : ByteArray := prog_1_method_31_code
def yX0_store : MethodName := ⟨RX0, "store", "(I)I"⟩
theorem q30 : (Jvm.Cond.initialized "TinyFloats") ∈ lw_all := lw_g (lw_at lw_m1 1 rfl) rfl
theorem q33 : (Jvm.Cond.instantiable "TinyFloats" (6 : Nat)) ∈ lw_all := lw_g (lw_at lw_m1 4 rfl) rfl
theorem q35 : (Jvm.Cond.instanceMethod ({ cls := "TinyFloats", name := "<init>", desc := "()V" } : Jvm.MethodName)) ∈ lw_all := lw_g (lw_at lw_m1 6 rfl) rfl
theorem q36 : (Jvm.Cond.code ({ cls := "TinyFloats", name := "<init>", desc := "()V" } : Jvm.MethodName) prog_1_method_1_code (1 : Nat) (Option.none : Option Jvm.ClassFile.FieldType)) ∈ lw_all := lw_g (lw_at lw_m1 7 rfl) rfl
theorem q37 : (Jvm.Cond.methodLink "TinyFloats" (1 : Nat) ({ cls := "java/lang/Object", name := "<init>", desc := "()V" } : Jvm.MethodName)) ∈ lw_all := lw_g (lw_at lw_m1 8 rfl) rfl
theorem q40 : (Jvm.Cond.fieldLink "TinyFloats" (23 : Nat) "TinyFloats" "mode" "I") ∈ lw_all := lw_g (lw_at lw_m1 11 rfl) rfl
theorem q41 : (Jvm.Cond.fieldLink "TinyFloats" (9 : Nat) "TinyFloats" "notes" "I") ∈ lw_all := lw_g (lw_at lw_m1 12 rfl) rfl
theorem q42 : (Jvm.Cond.fieldLink "TinyFloats" (89 : Nat) "TinyFloats" "store" "I") ∈ lw_all := lw_g (lw_at lw_m1 13 rfl) rfl
theorem q43 : (Jvm.Cond.fieldLink "TinyFloats" (13 : Nat) "TinyFloats" "sign" "I") ∈ lw_all := lw_g (lw_at lw_m1 14 rfl) rfl
theorem q44 : (Jvm.Cond.fieldLink "TinyFloats" (16 : Nat) "TinyFloats" "fraction" "J") ∈ lw_all := lw_g (lw_at lw_m1 15 rfl) rfl
theorem q45 : (Jvm.Cond.fieldLink "TinyFloats" (20 : Nat) "TinyFloats" "exponent" "I") ∈ lw_all := lw_g (lw_at lw_m1 16 rfl) rfl
theorem q46 : (Jvm.Cond.lays "TinyFloats" "TinyFloats" "mode" "I") ∈ lw_all := lw_g (lw_at lw_m1 17 rfl) rfl
theorem q47 : (Jvm.Cond.soleField "TinyFloats" "mode") ∈ lw_all := lw_g (lw_at lw_m1 18 rfl) rfl
theorem q48 : (Jvm.Cond.lays "TinyFloats" "TinyFloats" "notes" "I") ∈ lw_all := lw_g (lw_at lw_m1 19 rfl) rfl
theorem q49 : (Jvm.Cond.soleField "TinyFloats" "notes") ∈ lw_all := lw_g (lw_at lw_m1 20 rfl) rfl
theorem q50 : (Jvm.Cond.lays "TinyFloats" "TinyFloats" "store" "I") ∈ lw_all := lw_g (lw_at lw_m1 21 rfl) rfl
theorem q51 : (Jvm.Cond.soleField "TinyFloats" "store") ∈ lw_all := lw_g (lw_at lw_m1 22 rfl) rfl
theorem q52 : (Jvm.Cond.lays "TinyFloats" "TinyFloats" "sign" "I") ∈ lw_all := lw_g (lw_at lw_m1 23 rfl) rfl
theorem q53 : (Jvm.Cond.soleField "TinyFloats" "sign") ∈ lw_all := lw_g (lw_at lw_m1 24 rfl) rfl
theorem q54 : (Jvm.Cond.lays "TinyFloats" "TinyFloats" "fraction" "J") ∈ lw_all := lw_g (lw_at lw_m1 25 rfl) rfl
theorem q55 : (Jvm.Cond.soleField "TinyFloats" "fraction") ∈ lw_all := lw_g (lw_at lw_m1 26 rfl) rfl
theorem q56 : (Jvm.Cond.lays "TinyFloats" "TinyFloats" "exponent" "I") ∈ lw_all := lw_g (lw_at lw_m1 27 rfl) rfl
theorem q57 : (Jvm.Cond.soleField "TinyFloats" "exponent") ∈ lw_all := lw_g (lw_at lw_m1 28 rfl) rfl
theorem q58 : (Jvm.Cond.superclass "TinyFloats" "java/lang/Object") ∈ lw_all := lw_g (lw_at lw_m1 29 rfl) rfl
theorem q60 : (Jvm.Cond.instanceMethod ({ cls := "TinyFloats", name := "mode", desc := "(I)I" } : Jvm.MethodName)) ∈ lw_all := lw_g (lw_at lw_m1 31 rfl) rfl
theorem q61 : (Jvm.Cond.selects "TinyFloats" ({ cls := "TinyFloats", name := "mode", desc := "(I)I" } : Jvm.MethodName) ({ cls := "TinyFloats", name := "mode", desc := "(I)I" } : Jvm.MethodName)) ∈ lw_all := lw_g (lw_at lw_m1 32 rfl) rfl
theorem q62 : (Jvm.Cond.code ({ cls := "TinyFloats", name := "mode", desc := "(I)I" } : Jvm.MethodName) prog_1_method_8_code (3 : Nat) (Option.some Jvm.ClassFile.FieldType.int)) ∈ lw_all := lw_g (lw_at lw_m1 33 rfl) rfl
theorem q64 : (Jvm.Cond.instanceMethod ({ cls := "TinyFloats", name := "notes", desc := "()I" } : Jvm.MethodName)) ∈ lw_all := lw_g (lw_at lw_m1 35 rfl) rfl
theorem q65 : (Jvm.Cond.selects "TinyFloats" ({ cls := "TinyFloats", name := "notes", desc := "()I" } : Jvm.MethodName) ({ cls := "TinyFloats", name := "notes", desc := "()I" } : Jvm.MethodName)) ∈ lw_all := lw_g (lw_at lw_m1 36 rfl) rfl
theorem q66 : (Jvm.Cond.code ({ cls := "TinyFloats", name := "notes", desc := "()I" } : Jvm.MethodName) prog_1_method_9_code (1 : Nat) (Option.some Jvm.ClassFile.FieldType.int)) ∈ lw_all := lw_g (lw_at lw_m1 37 rfl) rfl
theorem q68 : (Jvm.Cond.instanceMethod ({ cls := "TinyFloats", name := "clear", desc := "()I" } : Jvm.MethodName)) ∈ lw_all := lw_g (lw_at lw_m1 39 rfl) rfl
theorem q69 : (Jvm.Cond.selects "TinyFloats" ({ cls := "TinyFloats", name := "clear", desc := "()I" } : Jvm.MethodName) ({ cls := "TinyFloats", name := "clear", desc := "()I" } : Jvm.MethodName)) ∈ lw_all := lw_g (lw_at lw_m1 40 rfl) rfl
theorem q70 : (Jvm.Cond.code ({ cls := "TinyFloats", name := "clear", desc := "()I" } : Jvm.MethodName) prog_1_method_10_code (2 : Nat) (Option.some Jvm.ClassFile.FieldType.int)) ∈ lw_all := lw_g (lw_at lw_m1 41 rfl) rfl
theorem q72 : (Jvm.Cond.instanceMethod ({ cls := "TinyFloats", name := "add", desc := "(II)I" } : Jvm.MethodName)) ∈ lw_all := lw_g (lw_at lw_m1 43 rfl) rfl
theorem q73 : (Jvm.Cond.selects "TinyFloats" ({ cls := "TinyFloats", name := "add", desc := "(II)I" } : Jvm.MethodName) ({ cls := "TinyFloats", name := "add", desc := "(II)I" } : Jvm.MethodName)) ∈ lw_all := lw_g (lw_at lw_m1 44 rfl) rfl
theorem q74 : (Jvm.Cond.code ({ cls := "TinyFloats", name := "add", desc := "(II)I" } : Jvm.MethodName) prog_1_method_18_code (3 : Nat) (Option.some Jvm.ClassFile.FieldType.int)) ∈ lw_all := lw_g (lw_at lw_m1 45 rfl) rfl
theorem q75 : (Jvm.Cond.methodLink "TinyFloats" (68 : Nat) ({ cls := "TinyFloats", name := "bad", desc := "(I)Z" } : Jvm.MethodName)) ∈ lw_all := lw_g (lw_at lw_m1 46 rfl) rfl
theorem q76 : (Jvm.Cond.privateMethod ({ cls := "TinyFloats", name := "bad", desc := "(I)Z" } : Jvm.MethodName)) ∈ lw_tbl := lw_at lw_m1 47 rfl
theorem q77 : (Jvm.Cond.instanceMethod ({ cls := "TinyFloats", name := "bad", desc := "(I)Z" } : Jvm.MethodName)) ∈ lw_all := lw_g (lw_at lw_m1 48 rfl) rfl
theorem q78 : (Jvm.Cond.code ({ cls := "TinyFloats", name := "bad", desc := "(I)Z" } : Jvm.MethodName) prog_1_method_2_code (2 : Nat) (Option.some Jvm.ClassFile.FieldType.boolean)) ∈ lw_all := lw_g (lw_at lw_m1 49 rfl) rfl
theorem q79 : (Jvm.Cond.methodLink "TinyFloats" (71 : Nat) ({ cls := "TinyFloats", name := "sum", desc := "(II)I" } : Jvm.MethodName)) ∈ lw_all := lw_g (lw_at lw_m1 50 rfl) rfl
theorem q80 : (Jvm.Cond.privateMethod ({ cls := "TinyFloats", name := "sum", desc := "(II)I" } : Jvm.MethodName)) ∈ lw_tbl := lw_at lw_m1 51 rfl
theorem q81 : (Jvm.Cond.instanceMethod ({ cls := "TinyFloats", name := "sum", desc := "(II)I" } : Jvm.MethodName)) ∈ lw_all := lw_g (lw_at lw_m1 52 rfl) rfl
theorem q82 : (Jvm.Cond.code ({ cls := "TinyFloats", name := "sum", desc := "(II)I" } : Jvm.MethodName) prog_1_method_16_code (7 : Nat) (Option.some Jvm.ClassFile.FieldType.int)) ∈ lw_all := lw_g (lw_at lw_m1 53 rfl) rfl
theorem q83 : (Jvm.Cond.methodLink "TinyFloats" (46 : Nat) ({ cls := "TinyFloats", name := "isNone", desc := "(I)Z" } : Jvm.MethodName)) ∈ lw_all := lw_g (lw_at lw_m1 54 rfl) rfl
theorem q84 : (Jvm.Cond.privateMethod ({ cls := "TinyFloats", name := "isNone", desc := "(I)Z" } : Jvm.MethodName)) ∈ lw_tbl := lw_at lw_m1 55 rfl
theorem q85 : (Jvm.Cond.instanceMethod ({ cls := "TinyFloats", name := "isNone", desc := "(I)Z" } : Jvm.MethodName)) ∈ lw_all := lw_g (lw_at lw_m1 56 rfl) rfl
theorem q86 : (Jvm.Cond.code ({ cls := "TinyFloats", name := "isNone", desc := "(I)Z" } : Jvm.MethodName) prog_1_method_3_code (2 : Nat) (Option.some Jvm.ClassFile.FieldType.boolean)) ∈ lw_all := lw_g (lw_at lw_m1 57 rfl) rfl
theorem q87 : (Jvm.Cond.methodLink "TinyFloats" (50 : Nat) ({ cls := "TinyFloats", name := "isInfinite", desc := "(I)Z" } : Jvm.MethodName)) ∈ lw_all := lw_g (lw_at lw_m1 58 rfl) rfl
theorem q88 : (Jvm.Cond.privateMethod ({ cls := "TinyFloats", name := "isInfinite", desc := "(I)Z" } : Jvm.MethodName)) ∈ lw_tbl := lw_at lw_m1 59 rfl
theorem q89 : (Jvm.Cond.instanceMethod ({ cls := "TinyFloats", name := "isInfinite", desc := "(I)Z" } : Jvm.MethodName)) ∈ lw_all := lw_g (lw_at lw_m1 60 rfl) rfl
theorem q90 : (Jvm.Cond.code ({ cls := "TinyFloats", name := "isInfinite", desc := "(I)Z" } : Jvm.MethodName) prog_1_method_4_code (2 : Nat) (Option.some Jvm.ClassFile.FieldType.boolean)) ∈ lw_all := lw_g (lw_at lw_m1 61 rfl) rfl
theorem q91 : (Jvm.Cond.methodLink "TinyFloats" (53 : Nat) ({ cls := "TinyFloats", name := "senseless", desc := "()I" } : Jvm.MethodName)) ∈ lw_all := lw_g (lw_at lw_m1 62 rfl) rfl
theorem q92 : (Jvm.Cond.privateMethod ({ cls := "TinyFloats", name := "senseless", desc := "()I" } : Jvm.MethodName)) ∈ lw_tbl := lw_at lw_m1 63 rfl
theorem q93 : (Jvm.Cond.instanceMethod ({ cls := "TinyFloats", name := "senseless", desc := "()I" } : Jvm.MethodName)) ∈ lw_all := lw_g (lw_at lw_m1 64 rfl) rfl
theorem q94 : (Jvm.Cond.code ({ cls := "TinyFloats", name := "senseless", desc := "()I" } : Jvm.MethodName) prog_1_method_6_code (1 : Nat) (Option.some Jvm.ClassFile.FieldType.int)) ∈ lw_all := lw_g (lw_at lw_m1 65 rfl) rfl
theorem q95 : (Jvm.Cond.methodLink "TinyFloats" (57 : Nat) ({ cls := "TinyFloats", name := "unpack", desc := "(I)V" } : Jvm.MethodName)) ∈ lw_all := lw_g (lw_at lw_m1 66 rfl) rfl
theorem q96 : (Jvm.Cond.privateMethod ({ cls := "TinyFloats", name := "unpack", desc := "(I)V" } : Jvm.MethodName)) ∈ lw_tbl := lw_at lw_m1 67 rfl
theorem q97 : (Jvm.Cond.instanceMethod ({ cls := "TinyFloats", name := "unpack", desc := "(I)V" } : Jvm.MethodName)) ∈ lw_all := lw_g (lw_at lw_m1 68 rfl) rfl
theorem q98 : (Jvm.Cond.code ({ cls := "TinyFloats", name := "unpack", desc := "(I)V" } : Jvm.MethodName) prog_1_method_7_code (4 : Nat) (Option.none : Option Jvm.ClassFile.FieldType)) ∈ lw_all := lw_g (lw_at lw_m1 69 rfl) rfl
theorem q99 : (Jvm.Cond.methodLink "TinyFloats" (38 : Nat) ({ cls := "TinyFloats", name := "zeroSum", desc := "(II)I" } : Jvm.MethodName)) ∈ lw_all := lw_g (lw_at lw_m1 70 rfl) rfl
theorem q100 : (Jvm.Cond.privateMethod ({ cls := "TinyFloats", name := "zeroSum", desc := "(II)I" } : Jvm.MethodName)) ∈ lw_tbl := lw_at lw_m1 71 rfl
theorem q101 : (Jvm.Cond.instanceMethod ({ cls := "TinyFloats", name := "zeroSum", desc := "(II)I" } : Jvm.MethodName)) ∈ lw_all := lw_g (lw_at lw_m1 72 rfl) rfl
theorem q102 : (Jvm.Cond.code ({ cls := "TinyFloats", name := "zeroSum", desc := "(II)I" } : Jvm.MethodName) prog_1_method_14_code (3 : Nat) (Option.some Jvm.ClassFile.FieldType.int)) ∈ lw_all := lw_g (lw_at lw_m1 73 rfl) rfl
theorem q103 : (Jvm.Cond.methodLink "TinyFloats" (61 : Nat) ({ cls := "TinyFloats", name := "addUp", desc := "(IJI)I" } : Jvm.MethodName)) ∈ lw_all := lw_g (lw_at lw_m1 74 rfl) rfl
theorem q104 : (Jvm.Cond.privateMethod ({ cls := "TinyFloats", name := "addUp", desc := "(IJI)I" } : Jvm.MethodName)) ∈ lw_tbl := lw_at lw_m1 75 rfl
theorem q105 : (Jvm.Cond.instanceMethod ({ cls := "TinyFloats", name := "addUp", desc := "(IJI)I" } : Jvm.MethodName)) ∈ lw_all := lw_g (lw_at lw_m1 76 rfl) rfl
theorem q106 : (Jvm.Cond.code ({ cls := "TinyFloats", name := "addUp", desc := "(IJI)I" } : Jvm.MethodName) prog_1_method_17_code (9 : Nat) (Option.some Jvm.ClassFile.FieldType.int)) ∈ lw_all := lw_g (lw_at lw_m1 77 rfl) rfl
theorem q107 : (Jvm.Cond.methodLink "TinyFloats" (42 : Nat) ({ cls := "TinyFloats", name := "round", desc := "(IJIZ)I" } : Jvm.MethodName)) ∈ lw_all := lw_g (lw_at lw_m1 78 rfl) rfl
theorem q108 : (Jvm.Cond.privateMethod ({ cls := "TinyFloats", name := "round", desc := "(IJIZ)I" } : Jvm.MethodName)) ∈ lw_tbl := lw_at lw_m1 79 rfl
theorem q109 : (Jvm.Cond.instanceMethod ({ cls := "TinyFloats", name := "round", desc := "(IJIZ)I" } : Jvm.MethodName)) ∈ lw_all := lw_g (lw_at lw_m1 80 rfl) rfl
theorem q110 : (Jvm.Cond.code ({ cls := "TinyFloats", name := "round", desc := "(IJIZ)I" } : Jvm.MethodName) prog_1_method_12_code (12 : Nat) (Option.some Jvm.ClassFile.FieldType.int)) ∈ lw_all := lw_g (lw_at lw_m1 81 rfl) rfl
theorem q111 : (Jvm.Cond.constantLong "TinyFloats" (26 : Nat) (15 : Int64)) ∈ lw_all := lw_g (lw_at lw_m1 82 rfl) rfl
theorem q112 : (Jvm.Cond.constantLong "TinyFloats" (28 : Nat) (8 : Int64)) ∈ lw_all := lw_g (lw_at lw_m1 83 rfl) rfl
theorem q113 : (Jvm.Cond.methodLink "TinyFloats" (30 : Nat) ({ cls := "TinyFloats", name := "upward", desc := "(IJZZ)Z" } : Jvm.MethodName)) ∈ lw_all := lw_g (lw_at lw_m1 84 rfl) rfl
theorem q114 : (Jvm.Cond.privateMethod ({ cls := "TinyFloats", name := "upward", desc := "(IJZZ)Z" } : Jvm.MethodName)) ∈ lw_tbl := lw_at lw_m1 85 rfl
theorem q115 : (Jvm.Cond.instanceMethod ({ cls := "TinyFloats", name := "upward", desc := "(IJZZ)Z" } : Jvm.MethodName)) ∈ lw_all := lw_g (lw_at lw_m1 86 rfl) rfl
theorem q116 : (Jvm.Cond.code ({ cls := "TinyFloats", name := "upward", desc := "(IJZZ)Z" } : Jvm.MethodName) prog_1_method_11_code (7 : Nat) (Option.some Jvm.ClassFile.FieldType.boolean)) ∈ lw_all := lw_g (lw_at lw_m1 87 rfl) rfl
theorem q117 : (Jvm.Cond.methodLink "TinyFloats" (34 : Nat) ({ cls := "TinyFloats", name := "pack", desc := "(IJI)I" } : Jvm.MethodName)) ∈ lw_all := lw_g (lw_at lw_m1 88 rfl) rfl
theorem q118 : (Jvm.Cond.privateMethod ({ cls := "TinyFloats", name := "pack", desc := "(IJI)I" } : Jvm.MethodName)) ∈ lw_tbl := lw_at lw_m1 89 rfl
theorem q119 : (Jvm.Cond.instanceMethod ({ cls := "TinyFloats", name := "pack", desc := "(IJI)I" } : Jvm.MethodName)) ∈ lw_all := lw_g (lw_at lw_m1 90 rfl) rfl
theorem q120 : (Jvm.Cond.code ({ cls := "TinyFloats", name := "pack", desc := "(IJI)I" } : Jvm.MethodName) prog_1_method_13_code (6 : Nat) (Option.some Jvm.ClassFile.FieldType.int)) ∈ lw_all := lw_g (lw_at lw_m1 91 rfl) rfl
theorem q121 : (Jvm.Cond.methodLink "TinyFloats" (64 : Nat) ({ cls := "TinyFloats", name := "sumOf", desc := "(IJIIJI)I" } : Jvm.MethodName)) ∈ lw_all := lw_g (lw_at lw_m1 92 rfl) rfl
theorem q122 : (Jvm.Cond.privateMethod ({ cls := "TinyFloats", name := "sumOf", desc := "(IJIIJI)I" } : Jvm.MethodName)) ∈ lw_tbl := lw_at lw_m1 93 rfl
theorem q123 : (Jvm.Cond.instanceMethod ({ cls := "TinyFloats", name := "sumOf", desc := "(IJIIJI)I" } : Jvm.MethodName)) ∈ lw_all := lw_g (lw_at lw_m1 94 rfl) rfl
theorem q124 : (Jvm.Cond.code ({ cls := "TinyFloats", name := "sumOf", desc := "(IJIIJI)I" } : Jvm.MethodName) prog_1_method_15_code (16 : Nat) (Option.some Jvm.ClassFile.FieldType.int)) ∈ lw_all := lw_g (lw_at lw_m1 95 rfl) rfl
theorem q126 : (Jvm.Cond.instanceMethod ({ cls := "TinyFloats", name := "subtract", desc := "(II)I" } : Jvm.MethodName)) ∈ lw_all := lw_g (lw_at lw_m1 97 rfl) rfl
theorem q127 : (Jvm.Cond.selects "TinyFloats" ({ cls := "TinyFloats", name := "subtract", desc := "(II)I" } : Jvm.MethodName) ({ cls := "TinyFloats", name := "subtract", desc := "(II)I" } : Jvm.MethodName)) ∈ lw_all := lw_g (lw_at lw_m1 98 rfl) rfl
theorem q128 : (Jvm.Cond.code ({ cls := "TinyFloats", name := "subtract", desc := "(II)I" } : Jvm.MethodName) prog_1_method_19_code (4 : Nat) (Option.some Jvm.ClassFile.FieldType.int)) ∈ lw_all := lw_g (lw_at lw_m1 99 rfl) rfl
theorem q130 : (Jvm.Cond.instanceMethod ({ cls := "TinyFloats", name := "multiply", desc := "(II)I" } : Jvm.MethodName)) ∈ lw_all := lw_g (lw_at lw_m1 101 rfl) rfl
theorem q131 : (Jvm.Cond.selects "TinyFloats" ({ cls := "TinyFloats", name := "multiply", desc := "(II)I" } : Jvm.MethodName) ({ cls := "TinyFloats", name := "multiply", desc := "(II)I" } : Jvm.MethodName)) ∈ lw_all := lw_g (lw_at lw_m1 102 rfl) rfl
theorem q132 : (Jvm.Cond.code ({ cls := "TinyFloats", name := "multiply", desc := "(II)I" } : Jvm.MethodName) prog_1_method_20_code (7 : Nat) (Option.some Jvm.ClassFile.FieldType.int)) ∈ lw_all := lw_g (lw_at lw_m1 103 rfl) rfl
theorem q133 : (Jvm.Cond.methodLink "TinyFloats" (74 : Nat) ({ cls := "TinyFloats", name := "isZero", desc := "(I)Z" } : Jvm.MethodName)) ∈ lw_all := lw_g (lw_at lw_m1 104 rfl) rfl
theorem q134 : (Jvm.Cond.privateMethod ({ cls := "TinyFloats", name := "isZero", desc := "(I)Z" } : Jvm.MethodName)) ∈ lw_tbl := lw_at lw_m1 105 rfl
theorem q135 : (Jvm.Cond.instanceMethod ({ cls := "TinyFloats", name := "isZero", desc := "(I)Z" } : Jvm.MethodName)) ∈ lw_all := lw_g (lw_at lw_m1 106 rfl) rfl
theorem q136 : (Jvm.Cond.code ({ cls := "TinyFloats", name := "isZero", desc := "(I)Z" } : Jvm.MethodName) prog_1_method_5_code (2 : Nat) (Option.some Jvm.ClassFile.FieldType.boolean)) ∈ lw_all := lw_g (lw_at lw_m1 107 rfl) rfl
theorem q138 : (Jvm.Cond.instanceMethod ({ cls := "TinyFloats", name := "divide", desc := "(II)I" } : Jvm.MethodName)) ∈ lw_all := lw_g (lw_at lw_m1 109 rfl) rfl
theorem q139 : (Jvm.Cond.selects "TinyFloats" ({ cls := "TinyFloats", name := "divide", desc := "(II)I" } : Jvm.MethodName) ({ cls := "TinyFloats", name := "divide", desc := "(II)I" } : Jvm.MethodName)) ∈ lw_all := lw_g (lw_at lw_m1 110 rfl) rfl
theorem q140 : (Jvm.Cond.code ({ cls := "TinyFloats", name := "divide", desc := "(II)I" } : Jvm.MethodName) prog_1_method_21_code (10 : Nat) (Option.some Jvm.ClassFile.FieldType.int)) ∈ lw_all := lw_g (lw_at lw_m1 111 rfl) rfl
theorem q142 : (Jvm.Cond.instanceMethod ({ cls := "TinyFloats", name := "root", desc := "(I)I" } : Jvm.MethodName)) ∈ lw_all := lw_g (lw_at lw_m1 113 rfl) rfl
theorem q143 : (Jvm.Cond.selects "TinyFloats" ({ cls := "TinyFloats", name := "root", desc := "(I)I" } : Jvm.MethodName) ({ cls := "TinyFloats", name := "root", desc := "(I)I" } : Jvm.MethodName)) ∈ lw_all := lw_g (lw_at lw_m1 114 rfl) rfl
theorem q144 : (Jvm.Cond.code ({ cls := "TinyFloats", name := "root", desc := "(I)I" } : Jvm.MethodName) prog_1_method_22_code (10 : Nat) (Option.some Jvm.ClassFile.FieldType.int)) ∈ lw_all := lw_g (lw_at lw_m1 115 rfl) rfl
theorem q146 : (Jvm.Cond.instanceMethod ({ cls := "TinyFloats", name := "together", desc := "(III)I" } : Jvm.MethodName)) ∈ lw_all := lw_g (lw_at lw_m1 117 rfl) rfl
theorem q147 : (Jvm.Cond.selects "TinyFloats" ({ cls := "TinyFloats", name := "together", desc := "(III)I" } : Jvm.MethodName) ({ cls := "TinyFloats", name := "together", desc := "(III)I" } : Jvm.MethodName)) ∈ lw_all := lw_g (lw_at lw_m1 118 rfl) rfl
theorem q148 : (Jvm.Cond.code ({ cls := "TinyFloats", name := "together", desc := "(III)I" } : Jvm.MethodName) prog_1_method_24_code (4 : Nat) (Option.some Jvm.ClassFile.FieldType.int)) ∈ lw_all := lw_g (lw_at lw_m1 119 rfl) rfl
theorem q149 : (Jvm.Cond.methodLink "TinyFloats" (77 : Nat) ({ cls := "TinyFloats", name := "productSum", desc := "(III)I" } : Jvm.MethodName)) ∈ lw_all := lw_g (lw_at lw_m1 120 rfl) rfl
theorem q150 : (Jvm.Cond.privateMethod ({ cls := "TinyFloats", name := "productSum", desc := "(III)I" } : Jvm.MethodName)) ∈ lw_tbl := lw_at lw_m1 121 rfl
theorem q151 : (Jvm.Cond.instanceMethod ({ cls := "TinyFloats", name := "productSum", desc := "(III)I" } : Jvm.MethodName)) ∈ lw_all := lw_g (lw_at lw_m1 122 rfl) rfl
theorem q152 : (Jvm.Cond.code ({ cls := "TinyFloats", name := "productSum", desc := "(III)I" } : Jvm.MethodName) prog_1_method_23_code (8 : Nat) (Option.some Jvm.ClassFile.FieldType.int)) ∈ lw_all := lw_g (lw_at lw_m1 123 rfl) rfl
theorem q154 : (Jvm.Cond.instanceMethod ({ cls := "TinyFloats", name := "compare", desc := "(II)I" } : Jvm.MethodName)) ∈ lw_all := lw_g (lw_at lw_m1 125 rfl) rfl
theorem q155 : (Jvm.Cond.selects "TinyFloats" ({ cls := "TinyFloats", name := "compare", desc := "(II)I" } : Jvm.MethodName) ({ cls := "TinyFloats", name := "compare", desc := "(II)I" } : Jvm.MethodName)) ∈ lw_all := lw_g (lw_at lw_m1 126 rfl) rfl
theorem q156 : (Jvm.Cond.code ({ cls := "TinyFloats", name := "compare", desc := "(II)I" } : Jvm.MethodName) prog_1_method_26_code (5 : Nat) (Option.some Jvm.ClassFile.FieldType.int)) ∈ lw_all := lw_g (lw_at lw_m1 127 rfl) rfl
theorem q157 : (Jvm.Cond.methodLink "TinyFloats" (81 : Nat) ({ cls := "TinyFloats", name := "rank", desc := "(I)I" } : Jvm.MethodName)) ∈ lw_all := lw_g (lw_at lw_m1 128 rfl) rfl
theorem q158 : (Jvm.Cond.privateMethod ({ cls := "TinyFloats", name := "rank", desc := "(I)I" } : Jvm.MethodName)) ∈ lw_tbl := lw_at lw_m1 129 rfl
theorem q159 : (Jvm.Cond.instanceMethod ({ cls := "TinyFloats", name := "rank", desc := "(I)I" } : Jvm.MethodName)) ∈ lw_all := lw_g (lw_at lw_m1 130 rfl) rfl
theorem q160 : (Jvm.Cond.code ({ cls := "TinyFloats", name := "rank", desc := "(I)I" } : Jvm.MethodName) prog_1_method_25_code (3 : Nat) (Option.some Jvm.ClassFile.FieldType.int)) ∈ lw_all := lw_g (lw_at lw_m1 131 rfl) rfl
theorem q162 : (Jvm.Cond.instanceMethod ({ cls := "TinyFloats", name := "from", desc := "(I)I" } : Jvm.MethodName)) ∈ lw_all := lw_g (lw_at lw_m1 133 rfl) rfl
theorem q163 : (Jvm.Cond.selects "TinyFloats" ({ cls := "TinyFloats", name := "from", desc := "(I)I" } : Jvm.MethodName) ({ cls := "TinyFloats", name := "from", desc := "(I)I" } : Jvm.MethodName)) ∈ lw_all := lw_g (lw_at lw_m1 134 rfl) rfl
theorem q164 : (Jvm.Cond.code ({ cls := "TinyFloats", name := "from", desc := "(I)I" } : Jvm.MethodName) prog_1_method_27_code (2 : Nat) (Option.some Jvm.ClassFile.FieldType.int)) ∈ lw_all := lw_g (lw_at lw_m1 135 rfl) rfl
theorem q165 : (Jvm.Cond.constant "TinyFloats" (85 : Nat) (-1000000 : Int32)) ∈ lw_all := lw_g (lw_at lw_m1 136 rfl) rfl
theorem q166 : (Jvm.Cond.constant "TinyFloats" (86 : Nat) (1000000 : Int32)) ∈ lw_all := lw_g (lw_at lw_m1 137 rfl) rfl
theorem q168 : (Jvm.Cond.instanceMethod ({ cls := "TinyFloats", name := "whole", desc := "(I)I" } : Jvm.MethodName)) ∈ lw_all := lw_g (lw_at lw_m1 139 rfl) rfl
theorem q169 : (Jvm.Cond.selects "TinyFloats" ({ cls := "TinyFloats", name := "whole", desc := "(I)I" } : Jvm.MethodName) ({ cls := "TinyFloats", name := "whole", desc := "(I)I" } : Jvm.MethodName)) ∈ lw_all := lw_g (lw_at lw_m1 140 rfl) rfl
theorem q170 : (Jvm.Cond.code ({ cls := "TinyFloats", name := "whole", desc := "(I)I" } : Jvm.MethodName) prog_1_method_28_code (10 : Nat) (Option.some Jvm.ClassFile.FieldType.int)) ∈ lw_all := lw_g (lw_at lw_m1 141 rfl) rfl
theorem q171 : (Jvm.Cond.constantLong "TinyFloats" (87 : Nat) (255 : Int64)) ∈ lw_all := lw_g (lw_at lw_m1 142 rfl) rfl
theorem q173 : (Jvm.Cond.instanceMethod ({ cls := "TinyFloats", name := "pile", desc := "(I)I" } : Jvm.MethodName)) ∈ lw_all := lw_g (lw_at lw_m1 144 rfl) rfl
theorem q174 : (Jvm.Cond.selects "TinyFloats" ({ cls := "TinyFloats", name := "pile", desc := "(I)I" } : Jvm.MethodName) ({ cls := "TinyFloats", name := "pile", desc := "(I)I" } : Jvm.MethodName)) ∈ lw_all := lw_g (lw_at lw_m1 145 rfl) rfl
theorem q175 : (Jvm.Cond.code ({ cls := "TinyFloats", name := "pile", desc := "(I)I" } : Jvm.MethodName) prog_1_method_29_code (2 : Nat) (Option.some Jvm.ClassFile.FieldType.int)) ∈ lw_all := lw_g (lw_at lw_m1 146 rfl) rfl
theorem q177 : (Jvm.Cond.instanceMethod ({ cls := "TinyFloats", name := "pileProduct", desc := "(II)I" } : Jvm.MethodName)) ∈ lw_all := lw_g (lw_at lw_m1 148 rfl) rfl
theorem q178 : (Jvm.Cond.selects "TinyFloats" ({ cls := "TinyFloats", name := "pileProduct", desc := "(II)I" } : Jvm.MethodName) ({ cls := "TinyFloats", name := "pileProduct", desc := "(II)I" } : Jvm.MethodName)) ∈ lw_all := lw_g (lw_at lw_m1 149 rfl) rfl
theorem q179 : (Jvm.Cond.code ({ cls := "TinyFloats", name := "pileProduct", desc := "(II)I" } : Jvm.MethodName) prog_1_method_30_code (3 : Nat) (Option.some Jvm.ClassFile.FieldType.int)) ∈ lw_all := lw_g (lw_at lw_m1 150 rfl) rfl
theorem q181 : (Jvm.Cond.instanceMethod ({ cls := "TinyFloats", name := "store", desc := "(I)I" } : Jvm.MethodName)) ∈ lw_all := lw_g (lw_at lw_m1 152 rfl) rfl
theorem q182 : (Jvm.Cond.selects "TinyFloats" ({ cls := "TinyFloats", name := "store", desc := "(I)I" } : Jvm.MethodName) ({ cls := "TinyFloats", name := "store", desc := "(I)I" } : Jvm.MethodName)) ∈ lw_all := lw_g (lw_at lw_m1 153 rfl) rfl
theorem q183 : (Jvm.Cond.code ({ cls := "TinyFloats", name := "store", desc := "(I)I" } : Jvm.MethodName) prog_1_method_31_code (3 : Nat) (Option.some Jvm.ClassFile.FieldType.int)) ∈ lw_all := lw_g (lw_at lw_m1 154 rfl) rfl
theorem in_X0 : ∀ w ∈ wsX00, w ∈ lw_all := lw_in wsX00 [46, 48, 50, 52, 54, 56] (by decide +kernel) (by decide +kernel)
/-! TinyFloatsModel -/
set_option maxRecDepth 100000
def RX1 : String := "TinyFloatsModel"
def TX1 : u_T := fun k => match k with
  | 0 => ("TinyFloatsModel", "sizes", "[I", true)
  | 1 => ("TinyFloatsModel", "mode", "I", false)
  | 2 => ("TinyFloatsModel", "notes", "I", false)
  | _ => ("TinyFloatsModel", "stored", "I", false)
def tyX1 : Nat → FieldType := fun k => match k with
  | 0 => .array .int
  | 1 => .int
  | 2 => .int
  | _ => .int
abbrev wsX10 : List Cond := u_ws RX1 TX1 4
theorem nmX1 : ∀ a, a < 4 → ∀ b, b < 4 → a ≠ b → (TX1 a).2.1 ≠ (TX1 b).2.1 := by decide +kernel
theorem tyX1_ok : ∀ k, k < 4 → parseFieldDescriptor (TX1 k).2.2.1 = some (tyX1 k) := by decide +kernel
abbrev cX1_init : ByteArray := prog_3_method_1_code
def yX1_init : MethodName := ⟨RX1, "<init>", "()V"⟩
abbrev cX1_mode : ByteArray := prog_3_method_8_code
def yX1_mode : MethodName := ⟨RX1, "mode", "(I)I"⟩
abbrev cX1_notes : ByteArray := prog_3_method_9_code
def yX1_notes : MethodName := ⟨RX1, "notes", "()I"⟩
abbrev cX1_clear : ByteArray := prog_3_method_10_code
def yX1_clear : MethodName := ⟨RX1, "clear", "()I"⟩
abbrev cX1_add : ByteArray := prog_3_method_19_code
def yX1_add : MethodName := ⟨RX1, "add", "(II)I"⟩
abbrev cX1_isCode : ByteArray := prog_3_method_2_code
def yX1_isCode : MethodName := ⟨RX1, "isCode", "(I)Z"⟩
abbrev cX1_isNone : ByteArray := prog_3_method_3_code
def yX1_isNone : MethodName := ⟨RX1, "isNone", "(I)Z"⟩
abbrev cX1_isInfinite : ByteArray := prog_3_method_4_code
def yX1_isInfinite : MethodName := ⟨RX1, "isInfinite", "(I)Z"⟩
abbrev cX1_senseless : ByteArray := prog_3_method_11_code
def yX1_senseless : MethodName := ⟨RX1, "senseless", "()I"⟩
abbrev cX1_valueOf : ByteArray := prog_3_method_7_code
def yX1_valueOf : MethodName := ⟨RX1, "valueOf", "(I)I"⟩
abbrev cX1_isNegative : ByteArray := prog_3_method_6_code
def yX1_isNegative : MethodName := ⟨RX1, "isNegative", "(I)Z"⟩
abbrev cX1_finiteSum : ByteArray := prog_3_method_18_code
def yX1_finiteSum : MethodName := ⟨RX1, "finiteSum", "(JJZI)I"⟩
abbrev cX1_isZero : ByteArray := prog_3_method_5_code
def yX1_isZero : MethodName := ⟨RX1, "isZero", "(I)Z"⟩
abbrev cX1_zero : ByteArray := prog_3_method_17_code
def yX1_zero : MethodName := ⟨RX1, "zero", "(Z)I"⟩
abbrev cX1_round : ByteArray := prog_3_method_16_code
def yX1_round : MethodName := ⟨RX1, "round", "(JJZ)I"⟩
abbrev cX1_sign : ByteArray := prog_3_method_15_code
def yX1_sign : MethodName := ⟨RX1, "sign", "(J)I"⟩
abbrev cX1_choose : ByteArray := prog_3_method_14_code
def yX1_choose : MethodName := ⟨RX1, "choose", "(IIZZZ)I"⟩
abbrev cX1_goesUp : ByteArray := prog_3_method_13_code
def yX1_goesUp : MethodName := ⟨RX1, "goesUp", "(Z)Z"⟩
abbrev cX1_signed : ByteArray := prog_3_method_12_code
def yX1_signed : MethodName := ⟨RX1, "signed", "(IZ)I"⟩
abbrev cX1_subtract : ByteArray := prog_3_method_20_code
def yX1_subtract : MethodName := ⟨RX1, "subtract", "(II)I"⟩
abbrev cX1_multiply : ByteArray := prog_3_method_21_code
def yX1_multiply : MethodName := ⟨RX1, "multiply", "(II)I"⟩
abbrev cX1_divide : ByteArray := prog_3_method_22_code
def yX1_divide : MethodName := ⟨RX1, "divide", "(II)I"⟩
abbrev cX1_root : ByteArray := prog_3_method_23_code
def yX1_root : MethodName := ⟨RX1, "root", "(I)I"⟩
abbrev cX1_together : ByteArray := prog_3_method_24_code
def yX1_together : MethodName := ⟨RX1, "together", "(III)I"⟩
abbrev cX1_compare : ByteArray := prog_3_method_25_code
def yX1_compare : MethodName := ⟨RX1, "compare", "(II)I"⟩
abbrev cX1_from : ByteArray := prog_3_method_26_code
def yX1_from : MethodName := ⟨RX1, "from", "(I)I"⟩
abbrev cX1_whole : ByteArray := prog_3_method_27_code
def yX1_whole : MethodName := ⟨RX1, "whole", "(I)I"⟩
abbrev cX1_pile : ByteArray := prog_3_method_28_code
def yX1_pile : MethodName := ⟨RX1, "pile", "(I)I"⟩
abbrev cX1_pileProduct : ByteArray := prog_3_method_29_code
def yX1_pileProduct : MethodName := ⟨RX1, "pileProduct", "(II)I"⟩
abbrev cX1_store : ByteArray := prog_3_method_30_code
def yX1_store : MethodName := ⟨RX1, "store", "(I)I"⟩
theorem q31 : (Jvm.Cond.initialized "TinyFloatsModel") ∈ lw_all := lw_g (lw_at lw_m1 2 rfl) rfl
theorem q185 : (Jvm.Cond.instantiable "TinyFloatsModel" (4 : Nat)) ∈ lw_all := lw_g (lw_at lw_m1 156 rfl) rfl
theorem q187 : (Jvm.Cond.instanceMethod ({ cls := "TinyFloatsModel", name := "<init>", desc := "()V" } : Jvm.MethodName)) ∈ lw_all := lw_g (lw_at lw_m1 158 rfl) rfl
theorem q188 : (Jvm.Cond.code ({ cls := "TinyFloatsModel", name := "<init>", desc := "()V" } : Jvm.MethodName) prog_3_method_1_code (2 : Nat) (Option.none : Option Jvm.ClassFile.FieldType)) ∈ lw_all := lw_g (lw_at lw_m1 159 rfl) rfl
theorem q189 : (Jvm.Cond.methodLink "TinyFloatsModel" (1 : Nat) ({ cls := "java/lang/Object", name := "<init>", desc := "()V" } : Jvm.MethodName)) ∈ lw_all := lw_g (lw_at lw_m1 160 rfl) rfl
theorem q190 : (Jvm.Cond.fieldLink "TinyFloatsModel" (7 : Nat) "TinyFloatsModel" "sizes" "[I") ∈ lw_all := lw_g (lw_at lw_m1 161 rfl) rfl
theorem q191 : (Jvm.Cond.fieldLink "TinyFloatsModel" (17 : Nat) "TinyFloatsModel" "mode" "I") ∈ lw_all := lw_g (lw_at lw_m1 162 rfl) rfl
theorem q192 : (Jvm.Cond.fieldLink "TinyFloatsModel" (21 : Nat) "TinyFloatsModel" "notes" "I") ∈ lw_all := lw_g (lw_at lw_m1 163 rfl) rfl
theorem q193 : (Jvm.Cond.fieldLink "TinyFloatsModel" (84 : Nat) "TinyFloatsModel" "stored" "I") ∈ lw_all := lw_g (lw_at lw_m1 164 rfl) rfl
theorem q194 : (Jvm.Cond.laysFinal "TinyFloatsModel" "TinyFloatsModel" "sizes" "[I") ∈ lw_all := lw_g (lw_at lw_m1 165 rfl) rfl
theorem q195 : (Jvm.Cond.soleField "TinyFloatsModel" "sizes") ∈ lw_all := lw_g (lw_at lw_m1 166 rfl) rfl
theorem q196 : (Jvm.Cond.lays "TinyFloatsModel" "TinyFloatsModel" "mode" "I") ∈ lw_all := lw_g (lw_at lw_m1 167 rfl) rfl
theorem q197 : (Jvm.Cond.soleField "TinyFloatsModel" "mode") ∈ lw_all := lw_g (lw_at lw_m1 168 rfl) rfl
theorem q198 : (Jvm.Cond.lays "TinyFloatsModel" "TinyFloatsModel" "notes" "I") ∈ lw_all := lw_g (lw_at lw_m1 169 rfl) rfl
theorem q199 : (Jvm.Cond.soleField "TinyFloatsModel" "notes") ∈ lw_all := lw_g (lw_at lw_m1 170 rfl) rfl
theorem q200 : (Jvm.Cond.lays "TinyFloatsModel" "TinyFloatsModel" "stored" "I") ∈ lw_all := lw_g (lw_at lw_m1 171 rfl) rfl
theorem q201 : (Jvm.Cond.soleField "TinyFloatsModel" "stored") ∈ lw_all := lw_g (lw_at lw_m1 172 rfl) rfl
theorem q202 : (Jvm.Cond.superclass "TinyFloatsModel" "java/lang/Object") ∈ lw_all := lw_g (lw_at lw_m1 173 rfl) rfl
theorem q205 : (Jvm.Cond.instanceMethod ({ cls := "TinyFloatsModel", name := "mode", desc := "(I)I" } : Jvm.MethodName)) ∈ lw_all := lw_g (lw_at lw_m1 176 rfl) rfl
theorem q206 : (Jvm.Cond.selects "TinyFloatsModel" ({ cls := "TinyFloatsModel", name := "mode", desc := "(I)I" } : Jvm.MethodName) ({ cls := "TinyFloatsModel", name := "mode", desc := "(I)I" } : Jvm.MethodName)) ∈ lw_all := lw_g (lw_at lw_m1 177 rfl) rfl
theorem q207 : (Jvm.Cond.code ({ cls := "TinyFloatsModel", name := "mode", desc := "(I)I" } : Jvm.MethodName) prog_3_method_8_code (3 : Nat) (Option.some Jvm.ClassFile.FieldType.int)) ∈ lw_all := lw_g (lw_at lw_m1 178 rfl) rfl
theorem q209 : (Jvm.Cond.instanceMethod ({ cls := "TinyFloatsModel", name := "notes", desc := "()I" } : Jvm.MethodName)) ∈ lw_all := lw_g (lw_at lw_m1 180 rfl) rfl
theorem q210 : (Jvm.Cond.selects "TinyFloatsModel" ({ cls := "TinyFloatsModel", name := "notes", desc := "()I" } : Jvm.MethodName) ({ cls := "TinyFloatsModel", name := "notes", desc := "()I" } : Jvm.MethodName)) ∈ lw_all := lw_g (lw_at lw_m1 181 rfl) rfl
theorem q211 : (Jvm.Cond.code ({ cls := "TinyFloatsModel", name := "notes", desc := "()I" } : Jvm.MethodName) prog_3_method_9_code (1 : Nat) (Option.some Jvm.ClassFile.FieldType.int)) ∈ lw_all := lw_g (lw_at lw_m1 182 rfl) rfl
theorem q213 : (Jvm.Cond.instanceMethod ({ cls := "TinyFloatsModel", name := "clear", desc := "()I" } : Jvm.MethodName)) ∈ lw_all := lw_g (lw_at lw_m1 184 rfl) rfl
theorem q214 : (Jvm.Cond.selects "TinyFloatsModel" ({ cls := "TinyFloatsModel", name := "clear", desc := "()I" } : Jvm.MethodName) ({ cls := "TinyFloatsModel", name := "clear", desc := "()I" } : Jvm.MethodName)) ∈ lw_all := lw_g (lw_at lw_m1 185 rfl) rfl
theorem q215 : (Jvm.Cond.code ({ cls := "TinyFloatsModel", name := "clear", desc := "()I" } : Jvm.MethodName) prog_3_method_10_code (2 : Nat) (Option.some Jvm.ClassFile.FieldType.int)) ∈ lw_all := lw_g (lw_at lw_m1 186 rfl) rfl
theorem q217 : (Jvm.Cond.instanceMethod ({ cls := "TinyFloatsModel", name := "add", desc := "(II)I" } : Jvm.MethodName)) ∈ lw_all := lw_g (lw_at lw_m1 188 rfl) rfl
theorem q218 : (Jvm.Cond.selects "TinyFloatsModel" ({ cls := "TinyFloatsModel", name := "add", desc := "(II)I" } : Jvm.MethodName) ({ cls := "TinyFloatsModel", name := "add", desc := "(II)I" } : Jvm.MethodName)) ∈ lw_all := lw_g (lw_at lw_m1 189 rfl) rfl
theorem q219 : (Jvm.Cond.code ({ cls := "TinyFloatsModel", name := "add", desc := "(II)I" } : Jvm.MethodName) prog_3_method_19_code (3 : Nat) (Option.some Jvm.ClassFile.FieldType.int)) ∈ lw_all := lw_g (lw_at lw_m1 190 rfl) rfl
theorem q220 : (Jvm.Cond.methodLink "TinyFloatsModel" (57 : Nat) ({ cls := "TinyFloatsModel", name := "isCode", desc := "(I)Z" } : Jvm.MethodName)) ∈ lw_all := lw_g (lw_at lw_m1 191 rfl) rfl
theorem q221 : (Jvm.Cond.privateMethod ({ cls := "TinyFloatsModel", name := "isCode", desc := "(I)Z" } : Jvm.MethodName)) ∈ lw_tbl := lw_at lw_m1 192 rfl
theorem q222 : (Jvm.Cond.instanceMethod ({ cls := "TinyFloatsModel", name := "isCode", desc := "(I)Z" } : Jvm.MethodName)) ∈ lw_all := lw_g (lw_at lw_m1 193 rfl) rfl
theorem q223 : (Jvm.Cond.code ({ cls := "TinyFloatsModel", name := "isCode", desc := "(I)Z" } : Jvm.MethodName) prog_3_method_2_code (2 : Nat) (Option.some Jvm.ClassFile.FieldType.boolean)) ∈ lw_all := lw_g (lw_at lw_m1 194 rfl) rfl
theorem q224 : (Jvm.Cond.methodLink "TinyFloatsModel" (60 : Nat) ({ cls := "TinyFloatsModel", name := "isNone", desc := "(I)Z" } : Jvm.MethodName)) ∈ lw_all := lw_g (lw_at lw_m1 195 rfl) rfl
theorem q225 : (Jvm.Cond.privateMethod ({ cls := "TinyFloatsModel", name := "isNone", desc := "(I)Z" } : Jvm.MethodName)) ∈ lw_tbl := lw_at lw_m1 196 rfl
theorem q226 : (Jvm.Cond.instanceMethod ({ cls := "TinyFloatsModel", name := "isNone", desc := "(I)Z" } : Jvm.MethodName)) ∈ lw_all := lw_g (lw_at lw_m1 197 rfl) rfl
theorem q227 : (Jvm.Cond.code ({ cls := "TinyFloatsModel", name := "isNone", desc := "(I)Z" } : Jvm.MethodName) prog_3_method_3_code (2 : Nat) (Option.some Jvm.ClassFile.FieldType.boolean)) ∈ lw_all := lw_g (lw_at lw_m1 198 rfl) rfl
theorem q228 : (Jvm.Cond.methodLink "TinyFloatsModel" (63 : Nat) ({ cls := "TinyFloatsModel", name := "isInfinite", desc := "(I)Z" } : Jvm.MethodName)) ∈ lw_all := lw_g (lw_at lw_m1 199 rfl) rfl
theorem q229 : (Jvm.Cond.privateMethod ({ cls := "TinyFloatsModel", name := "isInfinite", desc := "(I)Z" } : Jvm.MethodName)) ∈ lw_tbl := lw_at lw_m1 200 rfl
theorem q230 : (Jvm.Cond.instanceMethod ({ cls := "TinyFloatsModel", name := "isInfinite", desc := "(I)Z" } : Jvm.MethodName)) ∈ lw_all := lw_g (lw_at lw_m1 201 rfl) rfl
theorem q231 : (Jvm.Cond.code ({ cls := "TinyFloatsModel", name := "isInfinite", desc := "(I)Z" } : Jvm.MethodName) prog_3_method_4_code (2 : Nat) (Option.some Jvm.ClassFile.FieldType.boolean)) ∈ lw_all := lw_g (lw_at lw_m1 202 rfl) rfl
theorem q232 : (Jvm.Cond.methodLink "TinyFloatsModel" (66 : Nat) ({ cls := "TinyFloatsModel", name := "senseless", desc := "()I" } : Jvm.MethodName)) ∈ lw_all := lw_g (lw_at lw_m1 203 rfl) rfl
theorem q233 : (Jvm.Cond.privateMethod ({ cls := "TinyFloatsModel", name := "senseless", desc := "()I" } : Jvm.MethodName)) ∈ lw_tbl := lw_at lw_m1 204 rfl
theorem q234 : (Jvm.Cond.instanceMethod ({ cls := "TinyFloatsModel", name := "senseless", desc := "()I" } : Jvm.MethodName)) ∈ lw_all := lw_g (lw_at lw_m1 205 rfl) rfl
theorem q235 : (Jvm.Cond.code ({ cls := "TinyFloatsModel", name := "senseless", desc := "()I" } : Jvm.MethodName) prog_3_method_11_code (1 : Nat) (Option.some Jvm.ClassFile.FieldType.int)) ∈ lw_all := lw_g (lw_at lw_m1 206 rfl) rfl
theorem q236 : (Jvm.Cond.methodLink "TinyFloatsModel" (42 : Nat) ({ cls := "TinyFloatsModel", name := "valueOf", desc := "(I)I" } : Jvm.MethodName)) ∈ lw_all := lw_g (lw_at lw_m1 207 rfl) rfl
theorem q237 : (Jvm.Cond.privateMethod ({ cls := "TinyFloatsModel", name := "valueOf", desc := "(I)I" } : Jvm.MethodName)) ∈ lw_tbl := lw_at lw_m1 208 rfl
theorem q238 : (Jvm.Cond.instanceMethod ({ cls := "TinyFloatsModel", name := "valueOf", desc := "(I)I" } : Jvm.MethodName)) ∈ lw_all := lw_g (lw_at lw_m1 209 rfl) rfl
theorem q239 : (Jvm.Cond.code ({ cls := "TinyFloatsModel", name := "valueOf", desc := "(I)I" } : Jvm.MethodName) prog_3_method_7_code (2 : Nat) (Option.some Jvm.ClassFile.FieldType.int)) ∈ lw_all := lw_g (lw_at lw_m1 210 rfl) rfl
theorem q240 : (Jvm.Cond.methodLink "TinyFloatsModel" (13 : Nat) ({ cls := "TinyFloatsModel", name := "isNegative", desc := "(I)Z" } : Jvm.MethodName)) ∈ lw_all := lw_g (lw_at lw_m1 211 rfl) rfl
theorem q241 : (Jvm.Cond.privateMethod ({ cls := "TinyFloatsModel", name := "isNegative", desc := "(I)Z" } : Jvm.MethodName)) ∈ lw_tbl := lw_at lw_m1 212 rfl
theorem q242 : (Jvm.Cond.instanceMethod ({ cls := "TinyFloatsModel", name := "isNegative", desc := "(I)Z" } : Jvm.MethodName)) ∈ lw_all := lw_g (lw_at lw_m1 213 rfl) rfl
theorem q243 : (Jvm.Cond.code ({ cls := "TinyFloatsModel", name := "isNegative", desc := "(I)Z" } : Jvm.MethodName) prog_3_method_6_code (2 : Nat) (Option.some Jvm.ClassFile.FieldType.boolean)) ∈ lw_all := lw_g (lw_at lw_m1 214 rfl) rfl
theorem q244 : (Jvm.Cond.methodLink "TinyFloatsModel" (70 : Nat) ({ cls := "TinyFloatsModel", name := "finiteSum", desc := "(JJZI)I" } : Jvm.MethodName)) ∈ lw_all := lw_g (lw_at lw_m1 215 rfl) rfl
theorem q245 : (Jvm.Cond.privateMethod ({ cls := "TinyFloatsModel", name := "finiteSum", desc := "(JJZI)I" } : Jvm.MethodName)) ∈ lw_tbl := lw_at lw_m1 216 rfl
theorem q246 : (Jvm.Cond.instanceMethod ({ cls := "TinyFloatsModel", name := "finiteSum", desc := "(JJZI)I" } : Jvm.MethodName)) ∈ lw_all := lw_g (lw_at lw_m1 217 rfl) rfl
theorem q247 : (Jvm.Cond.code ({ cls := "TinyFloatsModel", name := "finiteSum", desc := "(JJZI)I" } : Jvm.MethodName) prog_3_method_18_code (11 : Nat) (Option.some Jvm.ClassFile.FieldType.int)) ∈ lw_all := lw_g (lw_at lw_m1 218 rfl) rfl
theorem q248 : (Jvm.Cond.methodLink "TinyFloatsModel" (46 : Nat) ({ cls := "TinyFloatsModel", name := "isZero", desc := "(I)Z" } : Jvm.MethodName)) ∈ lw_all := lw_g (lw_at lw_m1 219 rfl) rfl
theorem q249 : (Jvm.Cond.privateMethod ({ cls := "TinyFloatsModel", name := "isZero", desc := "(I)Z" } : Jvm.MethodName)) ∈ lw_tbl := lw_at lw_m1 220 rfl
theorem q250 : (Jvm.Cond.instanceMethod ({ cls := "TinyFloatsModel", name := "isZero", desc := "(I)Z" } : Jvm.MethodName)) ∈ lw_all := lw_g (lw_at lw_m1 221 rfl) rfl
theorem q251 : (Jvm.Cond.code ({ cls := "TinyFloatsModel", name := "isZero", desc := "(I)Z" } : Jvm.MethodName) prog_3_method_5_code (2 : Nat) (Option.some Jvm.ClassFile.FieldType.boolean)) ∈ lw_all := lw_g (lw_at lw_m1 222 rfl) rfl
theorem q252 : (Jvm.Cond.methodLink "TinyFloatsModel" (49 : Nat) ({ cls := "TinyFloatsModel", name := "zero", desc := "(Z)I" } : Jvm.MethodName)) ∈ lw_all := lw_g (lw_at lw_m1 223 rfl) rfl
theorem q253 : (Jvm.Cond.privateMethod ({ cls := "TinyFloatsModel", name := "zero", desc := "(Z)I" } : Jvm.MethodName)) ∈ lw_tbl := lw_at lw_m1 224 rfl
theorem q254 : (Jvm.Cond.instanceMethod ({ cls := "TinyFloatsModel", name := "zero", desc := "(Z)I" } : Jvm.MethodName)) ∈ lw_all := lw_g (lw_at lw_m1 225 rfl) rfl
theorem q255 : (Jvm.Cond.code ({ cls := "TinyFloatsModel", name := "zero", desc := "(Z)I" } : Jvm.MethodName) prog_3_method_17_code (2 : Nat) (Option.some Jvm.ClassFile.FieldType.int)) ∈ lw_all := lw_g (lw_at lw_m1 226 rfl) rfl
theorem q256 : (Jvm.Cond.methodLink "TinyFloatsModel" (53 : Nat) ({ cls := "TinyFloatsModel", name := "round", desc := "(JJZ)I" } : Jvm.MethodName)) ∈ lw_all := lw_g (lw_at lw_m1 227 rfl) rfl
theorem q257 : (Jvm.Cond.privateMethod ({ cls := "TinyFloatsModel", name := "round", desc := "(JJZ)I" } : Jvm.MethodName)) ∈ lw_tbl := lw_at lw_m1 228 rfl
theorem q258 : (Jvm.Cond.instanceMethod ({ cls := "TinyFloatsModel", name := "round", desc := "(JJZ)I" } : Jvm.MethodName)) ∈ lw_all := lw_g (lw_at lw_m1 229 rfl) rfl
theorem q259 : (Jvm.Cond.code ({ cls := "TinyFloatsModel", name := "round", desc := "(JJZ)I" } : Jvm.MethodName) prog_3_method_16_code (10 : Nat) (Option.some Jvm.ClassFile.FieldType.int)) ∈ lw_all := lw_g (lw_at lw_m1 230 rfl) rfl
theorem q260 : (Jvm.Cond.constantLong "TinyFloatsModel" (32 : Nat) (2 : Int64)) ∈ lw_all := lw_g (lw_at lw_m1 231 rfl) rfl
theorem q261 : (Jvm.Cond.methodLink "TinyFloatsModel" (34 : Nat) ({ cls := "TinyFloatsModel", name := "sign", desc := "(J)I" } : Jvm.MethodName)) ∈ lw_all := lw_g (lw_at lw_m1 232 rfl) rfl
theorem q262 : (Jvm.Cond.privateMethod ({ cls := "TinyFloatsModel", name := "sign", desc := "(J)I" } : Jvm.MethodName)) ∈ lw_tbl := lw_at lw_m1 233 rfl
theorem q263 : (Jvm.Cond.instanceMethod ({ cls := "TinyFloatsModel", name := "sign", desc := "(J)I" } : Jvm.MethodName)) ∈ lw_all := lw_g (lw_at lw_m1 234 rfl) rfl
theorem q264 : (Jvm.Cond.code ({ cls := "TinyFloatsModel", name := "sign", desc := "(J)I" } : Jvm.MethodName) prog_3_method_15_code (3 : Nat) (Option.some Jvm.ClassFile.FieldType.int)) ∈ lw_all := lw_g (lw_at lw_m1 235 rfl) rfl
theorem q265 : (Jvm.Cond.methodLink "TinyFloatsModel" (38 : Nat) ({ cls := "TinyFloatsModel", name := "choose", desc := "(IIZZZ)I" } : Jvm.MethodName)) ∈ lw_all := lw_g (lw_at lw_m1 236 rfl) rfl
theorem q266 : (Jvm.Cond.privateMethod ({ cls := "TinyFloatsModel", name := "choose", desc := "(IIZZZ)I" } : Jvm.MethodName)) ∈ lw_tbl := lw_at lw_m1 237 rfl
theorem q267 : (Jvm.Cond.instanceMethod ({ cls := "TinyFloatsModel", name := "choose", desc := "(IIZZZ)I" } : Jvm.MethodName)) ∈ lw_all := lw_g (lw_at lw_m1 238 rfl) rfl
theorem q268 : (Jvm.Cond.code ({ cls := "TinyFloatsModel", name := "choose", desc := "(IIZZZ)I" } : Jvm.MethodName) prog_3_method_14_code (8 : Nat) (Option.some Jvm.ClassFile.FieldType.int)) ∈ lw_all := lw_g (lw_at lw_m1 239 rfl) rfl
theorem q269 : (Jvm.Cond.methodLink "TinyFloatsModel" (24 : Nat) ({ cls := "TinyFloatsModel", name := "goesUp", desc := "(Z)Z" } : Jvm.MethodName)) ∈ lw_all := lw_g (lw_at lw_m2 0 rfl) rfl
theorem q270 : (Jvm.Cond.privateMethod ({ cls := "TinyFloatsModel", name := "goesUp", desc := "(Z)Z" } : Jvm.MethodName)) ∈ lw_tbl := lw_at lw_m2 1 rfl
theorem q271 : (Jvm.Cond.instanceMethod ({ cls := "TinyFloatsModel", name := "goesUp", desc := "(Z)Z" } : Jvm.MethodName)) ∈ lw_all := lw_g (lw_at lw_m2 2 rfl) rfl
theorem q272 : (Jvm.Cond.code ({ cls := "TinyFloatsModel", name := "goesUp", desc := "(Z)Z" } : Jvm.MethodName) prog_3_method_13_code (2 : Nat) (Option.some Jvm.ClassFile.FieldType.boolean)) ∈ lw_all := lw_g (lw_at lw_m2 3 rfl) rfl
theorem q273 : (Jvm.Cond.methodLink "TinyFloatsModel" (28 : Nat) ({ cls := "TinyFloatsModel", name := "signed", desc := "(IZ)I" } : Jvm.MethodName)) ∈ lw_all := lw_g (lw_at lw_m2 4 rfl) rfl
theorem q274 : (Jvm.Cond.privateMethod ({ cls := "TinyFloatsModel", name := "signed", desc := "(IZ)I" } : Jvm.MethodName)) ∈ lw_tbl := lw_at lw_m2 5 rfl
theorem q275 : (Jvm.Cond.instanceMethod ({ cls := "TinyFloatsModel", name := "signed", desc := "(IZ)I" } : Jvm.MethodName)) ∈ lw_all := lw_g (lw_at lw_m2 6 rfl) rfl
theorem q276 : (Jvm.Cond.code ({ cls := "TinyFloatsModel", name := "signed", desc := "(IZ)I" } : Jvm.MethodName) prog_3_method_12_code (3 : Nat) (Option.some Jvm.ClassFile.FieldType.int)) ∈ lw_all := lw_g (lw_at lw_m2 7 rfl) rfl
theorem q278 : (Jvm.Cond.instanceMethod ({ cls := "TinyFloatsModel", name := "subtract", desc := "(II)I" } : Jvm.MethodName)) ∈ lw_all := lw_g (lw_at lw_m2 9 rfl) rfl
theorem q279 : (Jvm.Cond.selects "TinyFloatsModel" ({ cls := "TinyFloatsModel", name := "subtract", desc := "(II)I" } : Jvm.MethodName) ({ cls := "TinyFloatsModel", name := "subtract", desc := "(II)I" } : Jvm.MethodName)) ∈ lw_all := lw_g (lw_at lw_m2 10 rfl) rfl
theorem q280 : (Jvm.Cond.code ({ cls := "TinyFloatsModel", name := "subtract", desc := "(II)I" } : Jvm.MethodName) prog_3_method_20_code (3 : Nat) (Option.some Jvm.ClassFile.FieldType.int)) ∈ lw_all := lw_g (lw_at lw_m2 11 rfl) rfl
theorem q281 : (Jvm.Cond.methodLink "TinyFloatsModel" (74 : Nat) ({ cls := "TinyFloatsModel", name := "add", desc := "(II)I" } : Jvm.MethodName)) ∈ lw_all := lw_g (lw_at lw_m2 12 rfl) rfl
theorem q283 : (Jvm.Cond.instanceMethod ({ cls := "TinyFloatsModel", name := "multiply", desc := "(II)I" } : Jvm.MethodName)) ∈ lw_all := lw_g (lw_at lw_m2 14 rfl) rfl
theorem q284 : (Jvm.Cond.selects "TinyFloatsModel" ({ cls := "TinyFloatsModel", name := "multiply", desc := "(II)I" } : Jvm.MethodName) ({ cls := "TinyFloatsModel", name := "multiply", desc := "(II)I" } : Jvm.MethodName)) ∈ lw_all := lw_g (lw_at lw_m2 15 rfl) rfl
theorem q285 : (Jvm.Cond.code ({ cls := "TinyFloatsModel", name := "multiply", desc := "(II)I" } : Jvm.MethodName) prog_3_method_21_code (6 : Nat) (Option.some Jvm.ClassFile.FieldType.int)) ∈ lw_all := lw_g (lw_at lw_m2 16 rfl) rfl
theorem q286 : (Jvm.Cond.constantLong "TinyFloatsModel" (78 : Nat) (512 : Int64)) ∈ lw_all := lw_g (lw_at lw_m2 17 rfl) rfl
theorem q288 : (Jvm.Cond.instanceMethod ({ cls := "TinyFloatsModel", name := "divide", desc := "(II)I" } : Jvm.MethodName)) ∈ lw_all := lw_g (lw_at lw_m2 19 rfl) rfl
theorem q289 : (Jvm.Cond.selects "TinyFloatsModel" ({ cls := "TinyFloatsModel", name := "divide", desc := "(II)I" } : Jvm.MethodName) ({ cls := "TinyFloatsModel", name := "divide", desc := "(II)I" } : Jvm.MethodName)) ∈ lw_all := lw_g (lw_at lw_m2 20 rfl) rfl
theorem q290 : (Jvm.Cond.code ({ cls := "TinyFloatsModel", name := "divide", desc := "(II)I" } : Jvm.MethodName) prog_3_method_22_code (6 : Nat) (Option.some Jvm.ClassFile.FieldType.int)) ∈ lw_all := lw_g (lw_at lw_m2 21 rfl) rfl
theorem q292 : (Jvm.Cond.instanceMethod ({ cls := "TinyFloatsModel", name := "root", desc := "(I)I" } : Jvm.MethodName)) ∈ lw_all := lw_g (lw_at lw_m2 23 rfl) rfl
theorem q293 : (Jvm.Cond.selects "TinyFloatsModel" ({ cls := "TinyFloatsModel", name := "root", desc := "(I)I" } : Jvm.MethodName) ({ cls := "TinyFloatsModel", name := "root", desc := "(I)I" } : Jvm.MethodName)) ∈ lw_all := lw_g (lw_at lw_m2 24 rfl) rfl
theorem q294 : (Jvm.Cond.code ({ cls := "TinyFloatsModel", name := "root", desc := "(I)I" } : Jvm.MethodName) prog_3_method_23_code (9 : Nat) (Option.some Jvm.ClassFile.FieldType.int)) ∈ lw_all := lw_g (lw_at lw_m2 25 rfl) rfl
theorem q295 : (Jvm.Cond.constantLong "TinyFloatsModel" (80 : Nat) (4 : Int64)) ∈ lw_all := lw_g (lw_at lw_m2 26 rfl) rfl
theorem q297 : (Jvm.Cond.instanceMethod ({ cls := "TinyFloatsModel", name := "together", desc := "(III)I" } : Jvm.MethodName)) ∈ lw_all := lw_g (lw_at lw_m2 28 rfl) rfl
theorem q298 : (Jvm.Cond.selects "TinyFloatsModel" ({ cls := "TinyFloatsModel", name := "together", desc := "(III)I" } : Jvm.MethodName) ({ cls := "TinyFloatsModel", name := "together", desc := "(III)I" } : Jvm.MethodName)) ∈ lw_all := lw_g (lw_at lw_m2 29 rfl) rfl
theorem q299 : (Jvm.Cond.code ({ cls := "TinyFloatsModel", name := "together", desc := "(III)I" } : Jvm.MethodName) prog_3_method_24_code (7 : Nat) (Option.some Jvm.ClassFile.FieldType.int)) ∈ lw_all := lw_g (lw_at lw_m2 30 rfl) rfl
theorem q301 : (Jvm.Cond.instanceMethod ({ cls := "TinyFloatsModel", name := "compare", desc := "(II)I" } : Jvm.MethodName)) ∈ lw_all := lw_g (lw_at lw_m2 32 rfl) rfl
theorem q302 : (Jvm.Cond.selects "TinyFloatsModel" ({ cls := "TinyFloatsModel", name := "compare", desc := "(II)I" } : Jvm.MethodName) ({ cls := "TinyFloatsModel", name := "compare", desc := "(II)I" } : Jvm.MethodName)) ∈ lw_all := lw_g (lw_at lw_m2 33 rfl) rfl
theorem q303 : (Jvm.Cond.code ({ cls := "TinyFloatsModel", name := "compare", desc := "(II)I" } : Jvm.MethodName) prog_3_method_25_code (3 : Nat) (Option.some Jvm.ClassFile.FieldType.int)) ∈ lw_all := lw_g (lw_at lw_m2 34 rfl) rfl
theorem q305 : (Jvm.Cond.instanceMethod ({ cls := "TinyFloatsModel", name := "from", desc := "(I)I" } : Jvm.MethodName)) ∈ lw_all := lw_g (lw_at lw_m2 36 rfl) rfl
theorem q306 : (Jvm.Cond.selects "TinyFloatsModel" ({ cls := "TinyFloatsModel", name := "from", desc := "(I)I" } : Jvm.MethodName) ({ cls := "TinyFloatsModel", name := "from", desc := "(I)I" } : Jvm.MethodName)) ∈ lw_all := lw_g (lw_at lw_m2 37 rfl) rfl
theorem q307 : (Jvm.Cond.code ({ cls := "TinyFloatsModel", name := "from", desc := "(I)I" } : Jvm.MethodName) prog_3_method_26_code (4 : Nat) (Option.some Jvm.ClassFile.FieldType.int)) ∈ lw_all := lw_g (lw_at lw_m2 38 rfl) rfl
theorem q308 : (Jvm.Cond.constant "TinyFloatsModel" (82 : Nat) (-1000000 : Int32)) ∈ lw_all := lw_g (lw_at lw_m2 39 rfl) rfl
theorem q309 : (Jvm.Cond.constant "TinyFloatsModel" (83 : Nat) (1000000 : Int32)) ∈ lw_all := lw_g (lw_at lw_m2 40 rfl) rfl
theorem q311 : (Jvm.Cond.instanceMethod ({ cls := "TinyFloatsModel", name := "whole", desc := "(I)I" } : Jvm.MethodName)) ∈ lw_all := lw_g (lw_at lw_m2 42 rfl) rfl
theorem q312 : (Jvm.Cond.selects "TinyFloatsModel" ({ cls := "TinyFloatsModel", name := "whole", desc := "(I)I" } : Jvm.MethodName) ({ cls := "TinyFloatsModel", name := "whole", desc := "(I)I" } : Jvm.MethodName)) ∈ lw_all := lw_g (lw_at lw_m2 43 rfl) rfl
theorem q313 : (Jvm.Cond.code ({ cls := "TinyFloatsModel", name := "whole", desc := "(I)I" } : Jvm.MethodName) prog_3_method_27_code (7 : Nat) (Option.some Jvm.ClassFile.FieldType.int)) ∈ lw_all := lw_g (lw_at lw_m2 44 rfl) rfl
theorem q315 : (Jvm.Cond.instanceMethod ({ cls := "TinyFloatsModel", name := "pile", desc := "(I)I" } : Jvm.MethodName)) ∈ lw_all := lw_g (lw_at lw_m2 46 rfl) rfl
theorem q316 : (Jvm.Cond.selects "TinyFloatsModel" ({ cls := "TinyFloatsModel", name := "pile", desc := "(I)I" } : Jvm.MethodName) ({ cls := "TinyFloatsModel", name := "pile", desc := "(I)I" } : Jvm.MethodName)) ∈ lw_all := lw_g (lw_at lw_m2 47 rfl) rfl
theorem q317 : (Jvm.Cond.code ({ cls := "TinyFloatsModel", name := "pile", desc := "(I)I" } : Jvm.MethodName) prog_3_method_28_code (2 : Nat) (Option.some Jvm.ClassFile.FieldType.int)) ∈ lw_all := lw_g (lw_at lw_m2 48 rfl) rfl
theorem q319 : (Jvm.Cond.instanceMethod ({ cls := "TinyFloatsModel", name := "pileProduct", desc := "(II)I" } : Jvm.MethodName)) ∈ lw_all := lw_g (lw_at lw_m2 50 rfl) rfl
theorem q320 : (Jvm.Cond.selects "TinyFloatsModel" ({ cls := "TinyFloatsModel", name := "pileProduct", desc := "(II)I" } : Jvm.MethodName) ({ cls := "TinyFloatsModel", name := "pileProduct", desc := "(II)I" } : Jvm.MethodName)) ∈ lw_all := lw_g (lw_at lw_m2 51 rfl) rfl
theorem q321 : (Jvm.Cond.code ({ cls := "TinyFloatsModel", name := "pileProduct", desc := "(II)I" } : Jvm.MethodName) prog_3_method_29_code (3 : Nat) (Option.some Jvm.ClassFile.FieldType.int)) ∈ lw_all := lw_g (lw_at lw_m2 52 rfl) rfl
theorem q322 : (Jvm.Cond.methodLink "TinyFloatsModel" (87 : Nat) ({ cls := "TinyFloatsModel", name := "together", desc := "(III)I" } : Jvm.MethodName)) ∈ lw_all := lw_g (lw_at lw_m2 53 rfl) rfl
theorem q324 : (Jvm.Cond.instanceMethod ({ cls := "TinyFloatsModel", name := "store", desc := "(I)I" } : Jvm.MethodName)) ∈ lw_all := lw_g (lw_at lw_m2 55 rfl) rfl
theorem q325 : (Jvm.Cond.selects "TinyFloatsModel" ({ cls := "TinyFloatsModel", name := "store", desc := "(I)I" } : Jvm.MethodName) ({ cls := "TinyFloatsModel", name := "store", desc := "(I)I" } : Jvm.MethodName)) ∈ lw_all := lw_g (lw_at lw_m2 56 rfl) rfl
theorem q326 : (Jvm.Cond.code ({ cls := "TinyFloatsModel", name := "store", desc := "(I)I" } : Jvm.MethodName) prog_3_method_30_code (3 : Nat) (Option.some Jvm.ClassFile.FieldType.int)) ∈ lw_all := lw_g (lw_at lw_m2 57 rfl) rfl
theorem in_X1 : ∀ w ∈ wsX10, w ∈ lw_all := lw_in wsX10 [194, 196, 198, 200] (by decide +kernel) (by decide +kernel)
/-! the law's own entry -/
set_option maxRecDepth 100000
abbrev cL_law : ByteArray := code
theorem q203 : (Jvm.Cond.arrayClass Jvm.ClassFile.FieldType.int) ∈ lw_all := lw_g (lw_at lw_m1 174 rfl) rfl
set_option maxRecDepth 100000
theorem q29 : (Jvm.Cond.initialized "TinyFloatsLaw") ∈ lw_all := lw_g (lw_at lw_m1 0 rfl) rfl
set_option maxRecDepth 100000
theorem q32 : (Jvm.Cond.classLink "TinyFloatsLaw" (7 : Nat) "TinyFloats") ∈ lw_all := lw_g (lw_at lw_m1 3 rfl) rfl
theorem q34 : (Jvm.Cond.methodLink "TinyFloatsLaw" (9 : Nat) ({ cls := "TinyFloats", name := "<init>", desc := "()V" } : Jvm.MethodName)) ∈ lw_all := lw_g (lw_at lw_m1 5 rfl) rfl
theorem q59 : (Jvm.Cond.methodLink "TinyFloatsLaw" (13 : Nat) ({ cls := "TinyFloats", name := "mode", desc := "(I)I" } : Jvm.MethodName)) ∈ lw_all := lw_g (lw_at lw_m1 30 rfl) rfl
theorem q63 : (Jvm.Cond.methodLink "TinyFloatsLaw" (18 : Nat) ({ cls := "TinyFloats", name := "notes", desc := "()I" } : Jvm.MethodName)) ∈ lw_all := lw_g (lw_at lw_m1 34 rfl) rfl
theorem q67 : (Jvm.Cond.methodLink "TinyFloatsLaw" (23 : Nat) ({ cls := "TinyFloats", name := "clear", desc := "()I" } : Jvm.MethodName)) ∈ lw_all := lw_g (lw_at lw_m1 38 rfl) rfl
theorem q71 : (Jvm.Cond.methodLink "TinyFloatsLaw" (27 : Nat) ({ cls := "TinyFloats", name := "add", desc := "(II)I" } : Jvm.MethodName)) ∈ lw_all := lw_g (lw_at lw_m1 42 rfl) rfl
theorem q125 : (Jvm.Cond.methodLink "TinyFloatsLaw" (32 : Nat) ({ cls := "TinyFloats", name := "subtract", desc := "(II)I" } : Jvm.MethodName)) ∈ lw_all := lw_g (lw_at lw_m1 96 rfl) rfl
theorem q129 : (Jvm.Cond.methodLink "TinyFloatsLaw" (36 : Nat) ({ cls := "TinyFloats", name := "multiply", desc := "(II)I" } : Jvm.MethodName)) ∈ lw_all := lw_g (lw_at lw_m1 100 rfl) rfl
theorem q137 : (Jvm.Cond.methodLink "TinyFloatsLaw" (40 : Nat) ({ cls := "TinyFloats", name := "divide", desc := "(II)I" } : Jvm.MethodName)) ∈ lw_all := lw_g (lw_at lw_m1 108 rfl) rfl
theorem q141 : (Jvm.Cond.methodLink "TinyFloatsLaw" (44 : Nat) ({ cls := "TinyFloats", name := "root", desc := "(I)I" } : Jvm.MethodName)) ∈ lw_all := lw_g (lw_at lw_m1 112 rfl) rfl
theorem q145 : (Jvm.Cond.methodLink "TinyFloatsLaw" (48 : Nat) ({ cls := "TinyFloats", name := "together", desc := "(III)I" } : Jvm.MethodName)) ∈ lw_all := lw_g (lw_at lw_m1 116 rfl) rfl
theorem q153 : (Jvm.Cond.methodLink "TinyFloatsLaw" (53 : Nat) ({ cls := "TinyFloats", name := "compare", desc := "(II)I" } : Jvm.MethodName)) ∈ lw_all := lw_g (lw_at lw_m1 124 rfl) rfl
theorem q161 : (Jvm.Cond.methodLink "TinyFloatsLaw" (57 : Nat) ({ cls := "TinyFloats", name := "from", desc := "(I)I" } : Jvm.MethodName)) ∈ lw_all := lw_g (lw_at lw_m1 132 rfl) rfl
theorem q167 : (Jvm.Cond.methodLink "TinyFloatsLaw" (61 : Nat) ({ cls := "TinyFloats", name := "whole", desc := "(I)I" } : Jvm.MethodName)) ∈ lw_all := lw_g (lw_at lw_m1 138 rfl) rfl
theorem q172 : (Jvm.Cond.methodLink "TinyFloatsLaw" (65 : Nat) ({ cls := "TinyFloats", name := "pile", desc := "(I)I" } : Jvm.MethodName)) ∈ lw_all := lw_g (lw_at lw_m1 143 rfl) rfl
theorem q176 : (Jvm.Cond.methodLink "TinyFloatsLaw" (69 : Nat) ({ cls := "TinyFloats", name := "pileProduct", desc := "(II)I" } : Jvm.MethodName)) ∈ lw_all := lw_g (lw_at lw_m1 147 rfl) rfl
theorem q180 : (Jvm.Cond.methodLink "TinyFloatsLaw" (73 : Nat) ({ cls := "TinyFloats", name := "store", desc := "(I)I" } : Jvm.MethodName)) ∈ lw_all := lw_g (lw_at lw_m1 151 rfl) rfl
theorem q184 : (Jvm.Cond.classLink "TinyFloatsLaw" (10 : Nat) "TinyFloatsModel") ∈ lw_all := lw_g (lw_at lw_m1 155 rfl) rfl
theorem q186 : (Jvm.Cond.methodLink "TinyFloatsLaw" (12 : Nat) ({ cls := "TinyFloatsModel", name := "<init>", desc := "()V" } : Jvm.MethodName)) ∈ lw_all := lw_g (lw_at lw_m1 157 rfl) rfl
theorem q204 : (Jvm.Cond.methodLink "TinyFloatsLaw" (17 : Nat) ({ cls := "TinyFloatsModel", name := "mode", desc := "(I)I" } : Jvm.MethodName)) ∈ lw_all := lw_g (lw_at lw_m1 175 rfl) rfl
theorem q208 : (Jvm.Cond.methodLink "TinyFloatsLaw" (22 : Nat) ({ cls := "TinyFloatsModel", name := "notes", desc := "()I" } : Jvm.MethodName)) ∈ lw_all := lw_g (lw_at lw_m1 179 rfl) rfl
theorem q212 : (Jvm.Cond.methodLink "TinyFloatsLaw" (26 : Nat) ({ cls := "TinyFloatsModel", name := "clear", desc := "()I" } : Jvm.MethodName)) ∈ lw_all := lw_g (lw_at lw_m1 183 rfl) rfl
theorem q216 : (Jvm.Cond.methodLink "TinyFloatsLaw" (31 : Nat) ({ cls := "TinyFloatsModel", name := "add", desc := "(II)I" } : Jvm.MethodName)) ∈ lw_all := lw_g (lw_at lw_m1 187 rfl) rfl
theorem q277 : (Jvm.Cond.methodLink "TinyFloatsLaw" (35 : Nat) ({ cls := "TinyFloatsModel", name := "subtract", desc := "(II)I" } : Jvm.MethodName)) ∈ lw_all := lw_g (lw_at lw_m2 8 rfl) rfl
theorem q282 : (Jvm.Cond.methodLink "TinyFloatsLaw" (39 : Nat) ({ cls := "TinyFloatsModel", name := "multiply", desc := "(II)I" } : Jvm.MethodName)) ∈ lw_all := lw_g (lw_at lw_m2 13 rfl) rfl
theorem q287 : (Jvm.Cond.methodLink "TinyFloatsLaw" (43 : Nat) ({ cls := "TinyFloatsModel", name := "divide", desc := "(II)I" } : Jvm.MethodName)) ∈ lw_all := lw_g (lw_at lw_m2 18 rfl) rfl
theorem q291 : (Jvm.Cond.methodLink "TinyFloatsLaw" (47 : Nat) ({ cls := "TinyFloatsModel", name := "root", desc := "(I)I" } : Jvm.MethodName)) ∈ lw_all := lw_g (lw_at lw_m2 22 rfl) rfl
theorem q296 : (Jvm.Cond.methodLink "TinyFloatsLaw" (52 : Nat) ({ cls := "TinyFloatsModel", name := "together", desc := "(III)I" } : Jvm.MethodName)) ∈ lw_all := lw_g (lw_at lw_m2 27 rfl) rfl
theorem q300 : (Jvm.Cond.methodLink "TinyFloatsLaw" (56 : Nat) ({ cls := "TinyFloatsModel", name := "compare", desc := "(II)I" } : Jvm.MethodName)) ∈ lw_all := lw_g (lw_at lw_m2 31 rfl) rfl
theorem q304 : (Jvm.Cond.methodLink "TinyFloatsLaw" (60 : Nat) ({ cls := "TinyFloatsModel", name := "from", desc := "(I)I" } : Jvm.MethodName)) ∈ lw_all := lw_g (lw_at lw_m2 35 rfl) rfl
theorem q310 : (Jvm.Cond.methodLink "TinyFloatsLaw" (64 : Nat) ({ cls := "TinyFloatsModel", name := "whole", desc := "(I)I" } : Jvm.MethodName)) ∈ lw_all := lw_g (lw_at lw_m2 41 rfl) rfl
theorem q314 : (Jvm.Cond.methodLink "TinyFloatsLaw" (68 : Nat) ({ cls := "TinyFloatsModel", name := "pile", desc := "(I)I" } : Jvm.MethodName)) ∈ lw_all := lw_g (lw_at lw_m2 45 rfl) rfl
theorem q318 : (Jvm.Cond.methodLink "TinyFloatsLaw" (72 : Nat) ({ cls := "TinyFloatsModel", name := "pileProduct", desc := "(II)I" } : Jvm.MethodName)) ∈ lw_all := lw_g (lw_at lw_m2 49 rfl) rfl
theorem q323 : (Jvm.Cond.methodLink "TinyFloatsLaw" (76 : Nat) ({ cls := "TinyFloatsModel", name := "store", desc := "(I)I" } : Jvm.MethodName)) ∈ lw_all := lw_g (lw_at lw_m2 54 rfl) rfl
end
section
set_option maxRecDepth 100000
theorem dX0_init_0 : decode cX0_init 0 = .ok (.aload_n 0, 1) := by decide +kernel
theorem dX0_init_1 : decode cX0_init 1 = .ok (.invokespecial 1, 3) := by decide +kernel
theorem dX0_init_4 : decode cX0_init 4 = .ok (.return_, 1) := by decide +kernel
theorem dX0_mode_0 : decode cX0_mode 0 = .ok (.iload_n 1, 1) := by decide +kernel
theorem dX0_mode_1 : decode cX0_mode 1 = .ok (.ifCond .lt 8, 3) := by decide +kernel
theorem dX0_mode_4 : decode cX0_mode 4 = .ok (.iload_n 1, 1) := by decide +kernel
theorem dX0_mode_5 : decode cX0_mode 5 = .ok (.iconst 3, 1) := by decide +kernel
theorem dX0_mode_6 : decode cX0_mode 6 = .ok (.if_icmp .le 5, 3) := by decide +kernel
theorem dX0_mode_9 : decode cX0_mode 9 = .ok (.iconst (-1), 1) := by decide +kernel
theorem dX0_mode_10 : decode cX0_mode 10 = .ok (.ireturn, 1) := by decide +kernel
theorem dX0_mode_11 : decode cX0_mode 11 = .ok (.aload_n 0, 1) := by decide +kernel
theorem dX0_mode_12 : decode cX0_mode 12 = .ok (.getfield 23, 3) := by decide +kernel
theorem dX0_mode_15 : decode cX0_mode 15 = .ok (.istore_n 2, 1) := by decide +kernel
theorem dX0_mode_16 : decode cX0_mode 16 = .ok (.aload_n 0, 1) := by decide +kernel
theorem dX0_mode_17 : decode cX0_mode 17 = .ok (.iload_n 1, 1) := by decide +kernel
theorem dX0_mode_18 : decode cX0_mode 18 = .ok (.putfield 23, 3) := by decide +kernel
theorem dX0_mode_21 : decode cX0_mode 21 = .ok (.iload_n 2, 1) := by decide +kernel
theorem dX0_mode_22 : decode cX0_mode 22 = .ok (.ireturn, 1) := by decide +kernel
theorem dX0_notes_0 : decode cX0_notes 0 = .ok (.aload_n 0, 1) := by decide +kernel
theorem dX0_notes_1 : decode cX0_notes 1 = .ok (.getfield 9, 3) := by decide +kernel
theorem dX0_notes_4 : decode cX0_notes 4 = .ok (.ireturn, 1) := by decide +kernel
theorem dX0_clear_0 : decode cX0_clear 0 = .ok (.aload_n 0, 1) := by decide +kernel
theorem dX0_clear_1 : decode cX0_clear 1 = .ok (.getfield 9, 3) := by decide +kernel
theorem dX0_clear_4 : decode cX0_clear 4 = .ok (.istore_n 1, 1) := by decide +kernel
theorem dX0_clear_5 : decode cX0_clear 5 = .ok (.aload_n 0, 1) := by decide +kernel
theorem dX0_clear_6 : decode cX0_clear 6 = .ok (.iconst 0, 1) := by decide +kernel
theorem dX0_clear_7 : decode cX0_clear 7 = .ok (.putfield 9, 3) := by decide +kernel
theorem dX0_clear_10 : decode cX0_clear 10 = .ok (.iload_n 1, 1) := by decide +kernel
theorem dX0_clear_11 : decode cX0_clear 11 = .ok (.ireturn, 1) := by decide +kernel
theorem dX0_add_0 : decode cX0_add 0 = .ok (.aload_n 0, 1) := by decide +kernel
theorem dX0_add_1 : decode cX0_add 1 = .ok (.iload_n 1, 1) := by decide +kernel
theorem dX0_add_2 : decode cX0_add 2 = .ok (.invokevirtual 68, 3) := by decide +kernel
theorem dX0_add_5 : decode cX0_add 5 = .ok (.ifCond .ne 11, 3) := by decide +kernel
theorem dX0_add_8 : decode cX0_add 8 = .ok (.aload_n 0, 1) := by decide +kernel
theorem dX0_add_9 : decode cX0_add 9 = .ok (.iload_n 2, 1) := by decide +kernel
theorem dX0_add_10 : decode cX0_add 10 = .ok (.invokevirtual 68, 3) := by decide +kernel
theorem dX0_add_13 : decode cX0_add 13 = .ok (.ifCond .eq 7, 3) := by decide +kernel
theorem dX0_add_16 : decode cX0_add 16 = .ok (.iconst (-1), 1) := by decide +kernel
theorem dX0_add_17 : decode cX0_add 17 = .ok (.goto 9, 3) := by decide +kernel
theorem dX0_add_20 : decode cX0_add 20 = .ok (.aload_n 0, 1) := by decide +kernel
theorem dX0_add_21 : decode cX0_add 21 = .ok (.iload_n 1, 1) := by decide +kernel
theorem dX0_add_22 : decode cX0_add 22 = .ok (.iload_n 2, 1) := by decide +kernel
theorem dX0_add_23 : decode cX0_add 23 = .ok (.invokevirtual 71, 3) := by decide +kernel
theorem dX0_add_26 : decode cX0_add 26 = .ok (.ireturn, 1) := by decide +kernel
theorem dX0_bad_0 : decode cX0_bad 0 = .ok (.iload_n 1, 1) := by decide +kernel
theorem dX0_bad_1 : decode cX0_bad 1 = .ok (.ifCond .lt 10, 3) := by decide +kernel
theorem dX0_bad_4 : decode cX0_bad 4 = .ok (.iload_n 1, 1) := by decide +kernel
theorem dX0_bad_5 : decode cX0_bad 5 = .ok (.sipush 255, 3) := by decide +kernel
theorem dX0_bad_8 : decode cX0_bad 8 = .ok (.if_icmp .le 7, 3) := by decide +kernel
theorem dX0_bad_11 : decode cX0_bad 11 = .ok (.iconst 1, 1) := by decide +kernel
theorem dX0_bad_12 : decode cX0_bad 12 = .ok (.goto 4, 3) := by decide +kernel
theorem dX0_bad_15 : decode cX0_bad 15 = .ok (.iconst 0, 1) := by decide +kernel
theorem dX0_bad_16 : decode cX0_bad 16 = .ok (.ireturn, 1) := by decide +kernel
theorem dX0_sum_0 : decode cX0_sum 0 = .ok (.aload_n 0, 1) := by decide +kernel
theorem dX0_sum_1 : decode cX0_sum 1 = .ok (.iload_n 1, 1) := by decide +kernel
theorem dX0_sum_2 : decode cX0_sum 2 = .ok (.invokevirtual 46, 3) := by decide +kernel
theorem dX0_sum_5 : decode cX0_sum 5 = .ok (.ifCond .ne 11, 3) := by decide +kernel
theorem dX0_sum_8 : decode cX0_sum 8 = .ok (.aload_n 0, 1) := by decide +kernel
theorem dX0_sum_9 : decode cX0_sum 9 = .ok (.iload_n 2, 1) := by decide +kernel
theorem dX0_sum_10 : decode cX0_sum 10 = .ok (.invokevirtual 46, 3) := by decide +kernel
theorem dX0_sum_13 : decode cX0_sum 13 = .ok (.ifCond .eq 6, 3) := by decide +kernel
theorem dX0_sum_16 : decode cX0_sum 16 = .ok (.bipush 124, 2) := by decide +kernel
theorem dX0_sum_18 : decode cX0_sum 18 = .ok (.ireturn, 1) := by decide +kernel
theorem dX0_sum_19 : decode cX0_sum 19 = .ok (.aload_n 0, 1) := by decide +kernel
theorem dX0_sum_20 : decode cX0_sum 20 = .ok (.iload_n 1, 1) := by decide +kernel
theorem dX0_sum_21 : decode cX0_sum 21 = .ok (.invokevirtual 50, 3) := by decide +kernel
theorem dX0_sum_24 : decode cX0_sum 24 = .ok (.ifCond .ne 11, 3) := by decide +kernel
theorem dX0_sum_27 : decode cX0_sum 27 = .ok (.aload_n 0, 1) := by decide +kernel
theorem dX0_sum_28 : decode cX0_sum 28 = .ok (.iload_n 2, 1) := by decide +kernel
theorem dX0_sum_29 : decode cX0_sum 29 = .ok (.invokevirtual 50, 3) := by decide +kernel
theorem dX0_sum_32 : decode cX0_sum 32 = .ok (.ifCond .eq 43, 3) := by decide +kernel
theorem dX0_sum_35 : decode cX0_sum 35 = .ok (.aload_n 0, 1) := by decide +kernel
theorem dX0_sum_36 : decode cX0_sum 36 = .ok (.iload_n 1, 1) := by decide +kernel
theorem dX0_sum_37 : decode cX0_sum 37 = .ok (.invokevirtual 50, 3) := by decide +kernel
theorem dX0_sum_40 : decode cX0_sum 40 = .ok (.ifCond .eq 21, 3) := by decide +kernel
theorem dX0_sum_43 : decode cX0_sum 43 = .ok (.aload_n 0, 1) := by decide +kernel
theorem dX0_sum_44 : decode cX0_sum 44 = .ok (.iload_n 2, 1) := by decide +kernel
theorem dX0_sum_45 : decode cX0_sum 45 = .ok (.invokevirtual 50, 3) := by decide +kernel
theorem dX0_sum_48 : decode cX0_sum 48 = .ok (.ifCond .eq 13, 3) := by decide +kernel
theorem dX0_sum_51 : decode cX0_sum 51 = .ok (.iload_n 1, 1) := by decide +kernel
theorem dX0_sum_52 : decode cX0_sum 52 = .ok (.iload_n 2, 1) := by decide +kernel
theorem dX0_sum_53 : decode cX0_sum 53 = .ok (.if_icmp .eq 8, 3) := by decide +kernel
theorem dX0_sum_56 : decode cX0_sum 56 = .ok (.aload_n 0, 1) := by decide +kernel
theorem dX0_sum_57 : decode cX0_sum 57 = .ok (.invokevirtual 53, 3) := by decide +kernel
theorem dX0_sum_60 : decode cX0_sum 60 = .ok (.ireturn, 1) := by decide +kernel
theorem dX0_sum_61 : decode cX0_sum 61 = .ok (.aload_n 0, 1) := by decide +kernel
theorem dX0_sum_62 : decode cX0_sum 62 = .ok (.iload_n 1, 1) := by decide +kernel
theorem dX0_sum_63 : decode cX0_sum 63 = .ok (.invokevirtual 50, 3) := by decide +kernel
theorem dX0_sum_66 : decode cX0_sum 66 = .ok (.ifCond .eq 7, 3) := by decide +kernel
theorem dX0_sum_69 : decode cX0_sum 69 = .ok (.iload_n 1, 1) := by decide +kernel
theorem dX0_sum_70 : decode cX0_sum 70 = .ok (.goto 4, 3) := by decide +kernel
theorem dX0_sum_73 : decode cX0_sum 73 = .ok (.iload_n 2, 1) := by decide +kernel
theorem dX0_sum_74 : decode cX0_sum 74 = .ok (.ireturn, 1) := by decide +kernel
theorem dX0_sum_75 : decode cX0_sum 75 = .ok (.aload_n 0, 1) := by decide +kernel
theorem dX0_sum_76 : decode cX0_sum 76 = .ok (.iload_n 1, 1) := by decide +kernel
theorem dX0_sum_77 : decode cX0_sum 77 = .ok (.invokevirtual 57, 3) := by decide +kernel
theorem dX0_sum_80 : decode cX0_sum 80 = .ok (.aload_n 0, 1) := by decide +kernel
theorem dX0_sum_81 : decode cX0_sum 81 = .ok (.getfield 13, 3) := by decide +kernel
theorem dX0_sum_84 : decode cX0_sum 84 = .ok (.istore_n 3, 1) := by decide +kernel
theorem dX0_sum_85 : decode cX0_sum 85 = .ok (.aload_n 0, 1) := by decide +kernel
theorem dX0_sum_86 : decode cX0_sum 86 = .ok (.getfield 16, 3) := by decide +kernel
theorem dX0_sum_89 : decode cX0_sum 89 = .ok (.lstore 4, 2) := by decide +kernel
theorem dX0_sum_91 : decode cX0_sum 91 = .ok (.aload_n 0, 1) := by decide +kernel
theorem dX0_sum_92 : decode cX0_sum 92 = .ok (.getfield 20, 3) := by decide +kernel
theorem dX0_sum_95 : decode cX0_sum 95 = .ok (.istore 6, 2) := by decide +kernel
theorem dX0_sum_97 : decode cX0_sum 97 = .ok (.aload_n 0, 1) := by decide +kernel
theorem dX0_sum_98 : decode cX0_sum 98 = .ok (.iload_n 2, 1) := by decide +kernel
theorem dX0_sum_99 : decode cX0_sum 99 = .ok (.invokevirtual 57, 3) := by decide +kernel
theorem dX0_sum_102 : decode cX0_sum 102 = .ok (.lload 4, 2) := by decide +kernel
theorem dX0_sum_104 : decode cX0_sum 104 = .ok (.lconst 0, 1) := by decide +kernel
theorem dX0_sum_105 : decode cX0_sum 105 = .ok (.lcmp, 1) := by decide +kernel
theorem dX0_sum_106 : decode cX0_sum 106 = .ok (.ifCond .ne 22, 3) := by decide +kernel
theorem dX0_sum_109 : decode cX0_sum 109 = .ok (.aload_n 0, 1) := by decide +kernel
theorem dX0_sum_110 : decode cX0_sum 110 = .ok (.getfield 16, 3) := by decide +kernel
theorem dX0_sum_113 : decode cX0_sum 113 = .ok (.lconst 0, 1) := by decide +kernel
theorem dX0_sum_114 : decode cX0_sum 114 = .ok (.lcmp, 1) := by decide +kernel
theorem dX0_sum_115 : decode cX0_sum 115 = .ok (.ifCond .ne 13, 3) := by decide +kernel
theorem dX0_sum_118 : decode cX0_sum 118 = .ok (.aload_n 0, 1) := by decide +kernel
theorem dX0_sum_119 : decode cX0_sum 119 = .ok (.iload_n 3, 1) := by decide +kernel
theorem dX0_sum_120 : decode cX0_sum 120 = .ok (.aload_n 0, 1) := by decide +kernel
theorem dX0_sum_121 : decode cX0_sum 121 = .ok (.getfield 13, 3) := by decide +kernel
theorem dX0_sum_124 : decode cX0_sum 124 = .ok (.invokevirtual 38, 3) := by decide +kernel
theorem dX0_sum_127 : decode cX0_sum 127 = .ok (.ireturn, 1) := by decide +kernel
theorem dX0_sum_128 : decode cX0_sum 128 = .ok (.aload_n 0, 1) := by decide +kernel
theorem dX0_sum_129 : decode cX0_sum 129 = .ok (.iload_n 3, 1) := by decide +kernel
theorem dX0_sum_130 : decode cX0_sum 130 = .ok (.lload 4, 2) := by decide +kernel
theorem dX0_sum_132 : decode cX0_sum 132 = .ok (.iload 6, 2) := by decide +kernel
theorem dX0_sum_134 : decode cX0_sum 134 = .ok (.invokevirtual 61, 3) := by decide +kernel
theorem dX0_sum_137 : decode cX0_sum 137 = .ok (.ireturn, 1) := by decide +kernel
theorem dX0_isNone_0 : decode cX0_isNone 0 = .ok (.iload_n 1, 1) := by decide +kernel
theorem dX0_isNone_1 : decode cX0_isNone 1 = .ok (.bipush 127, 2) := by decide +kernel
theorem dX0_isNone_3 : decode cX0_isNone 3 = .ok (.iand, 1) := by decide +kernel
theorem dX0_isNone_4 : decode cX0_isNone 4 = .ok (.bipush 120, 2) := by decide +kernel
theorem dX0_isNone_6 : decode cX0_isNone 6 = .ok (.if_icmp .le 7, 3) := by decide +kernel
theorem dX0_isNone_9 : decode cX0_isNone 9 = .ok (.iconst 1, 1) := by decide +kernel
theorem dX0_isNone_10 : decode cX0_isNone 10 = .ok (.goto 4, 3) := by decide +kernel
theorem dX0_isNone_13 : decode cX0_isNone 13 = .ok (.iconst 0, 1) := by decide +kernel
theorem dX0_isNone_14 : decode cX0_isNone 14 = .ok (.ireturn, 1) := by decide +kernel
theorem dX0_isInfinite_0 : decode cX0_isInfinite 0 = .ok (.iload_n 1, 1) := by decide +kernel
theorem dX0_isInfinite_1 : decode cX0_isInfinite 1 = .ok (.bipush 127, 2) := by decide +kernel
theorem dX0_isInfinite_3 : decode cX0_isInfinite 3 = .ok (.iand, 1) := by decide +kernel
theorem dX0_isInfinite_4 : decode cX0_isInfinite 4 = .ok (.bipush 120, 2) := by decide +kernel
theorem dX0_isInfinite_6 : decode cX0_isInfinite 6 = .ok (.if_icmp .ne 7, 3) := by decide +kernel
theorem dX0_isInfinite_9 : decode cX0_isInfinite 9 = .ok (.iconst 1, 1) := by decide +kernel
theorem dX0_isInfinite_10 : decode cX0_isInfinite 10 = .ok (.goto 4, 3) := by decide +kernel
theorem dX0_isInfinite_13 : decode cX0_isInfinite 13 = .ok (.iconst 0, 1) := by decide +kernel
theorem dX0_isInfinite_14 : decode cX0_isInfinite 14 = .ok (.ireturn, 1) := by decide +kernel
theorem dX0_senseless_0 : decode cX0_senseless 0 = .ok (.aload_n 0, 1) := by decide +kernel
theorem dX0_senseless_1 : decode cX0_senseless 1 = .ok (.aload_n 0, 1) := by decide +kernel
theorem dX0_senseless_2 : decode cX0_senseless 2 = .ok (.getfield 9, 3) := by decide +kernel
theorem dX0_senseless_5 : decode cX0_senseless 5 = .ok (.iconst 4, 1) := by decide +kernel
theorem dX0_senseless_6 : decode cX0_senseless 6 = .ok (.ior, 1) := by decide +kernel
theorem dX0_senseless_7 : decode cX0_senseless 7 = .ok (.putfield 9, 3) := by decide +kernel
theorem dX0_senseless_10 : decode cX0_senseless 10 = .ok (.bipush 124, 2) := by decide +kernel
theorem dX0_senseless_12 : decode cX0_senseless 12 = .ok (.ireturn, 1) := by decide +kernel
theorem dX0_unpack_0 : decode cX0_unpack 0 = .ok (.iload_n 1, 1) := by decide +kernel
theorem dX0_unpack_1 : decode cX0_unpack 1 = .ok (.iconst 3, 1) := by decide +kernel
theorem dX0_unpack_2 : decode cX0_unpack 2 = .ok (.ishr, 1) := by decide +kernel
theorem dX0_unpack_3 : decode cX0_unpack 3 = .ok (.bipush 15, 2) := by decide +kernel
theorem dX0_unpack_5 : decode cX0_unpack 5 = .ok (.iand, 1) := by decide +kernel
theorem dX0_unpack_6 : decode cX0_unpack 6 = .ok (.istore_n 2, 1) := by decide +kernel
theorem dX0_unpack_7 : decode cX0_unpack 7 = .ok (.iload_n 1, 1) := by decide +kernel
theorem dX0_unpack_8 : decode cX0_unpack 8 = .ok (.bipush 7, 2) := by decide +kernel
theorem dX0_unpack_10 : decode cX0_unpack 10 = .ok (.iand, 1) := by decide +kernel
theorem dX0_unpack_11 : decode cX0_unpack 11 = .ok (.istore_n 3, 1) := by decide +kernel
theorem dX0_unpack_12 : decode cX0_unpack 12 = .ok (.aload_n 0, 1) := by decide +kernel
theorem dX0_unpack_13 : decode cX0_unpack 13 = .ok (.iload_n 1, 1) := by decide +kernel
theorem dX0_unpack_14 : decode cX0_unpack 14 = .ok (.bipush 7, 2) := by decide +kernel
theorem dX0_unpack_16 : decode cX0_unpack 16 = .ok (.ishr, 1) := by decide +kernel
theorem dX0_unpack_17 : decode cX0_unpack 17 = .ok (.putfield 13, 3) := by decide +kernel
theorem dX0_unpack_20 : decode cX0_unpack 20 = .ok (.aload_n 0, 1) := by decide +kernel
theorem dX0_unpack_21 : decode cX0_unpack 21 = .ok (.iload_n 2, 1) := by decide +kernel
theorem dX0_unpack_22 : decode cX0_unpack 22 = .ok (.ifCond .ne 8, 3) := by decide +kernel
theorem dX0_unpack_25 : decode cX0_unpack 25 = .ok (.iload_n 3, 1) := by decide +kernel
theorem dX0_unpack_26 : decode cX0_unpack 26 = .ok (.i2l, 1) := by decide +kernel
theorem dX0_unpack_27 : decode cX0_unpack 27 = .ok (.goto 8, 3) := by decide +kernel
theorem dX0_unpack_30 : decode cX0_unpack 30 = .ok (.bipush 8, 2) := by decide +kernel
theorem dX0_unpack_32 : decode cX0_unpack 32 = .ok (.iload_n 3, 1) := by decide +kernel
theorem dX0_unpack_33 : decode cX0_unpack 33 = .ok (.iadd, 1) := by decide +kernel
theorem dX0_unpack_34 : decode cX0_unpack 34 = .ok (.i2l, 1) := by decide +kernel
theorem dX0_unpack_35 : decode cX0_unpack 35 = .ok (.putfield 16, 3) := by decide +kernel
theorem dX0_unpack_38 : decode cX0_unpack 38 = .ok (.aload_n 0, 1) := by decide +kernel
theorem dX0_unpack_39 : decode cX0_unpack 39 = .ok (.iload_n 2, 1) := by decide +kernel
theorem dX0_unpack_40 : decode cX0_unpack 40 = .ok (.ifCond .ne 7, 3) := by decide +kernel
theorem dX0_unpack_43 : decode cX0_unpack 43 = .ok (.iconst 0, 1) := by decide +kernel
theorem dX0_unpack_44 : decode cX0_unpack 44 = .ok (.goto 6, 3) := by decide +kernel
theorem dX0_unpack_47 : decode cX0_unpack 47 = .ok (.iload_n 2, 1) := by decide +kernel
theorem dX0_unpack_48 : decode cX0_unpack 48 = .ok (.iconst 1, 1) := by decide +kernel
theorem dX0_unpack_49 : decode cX0_unpack 49 = .ok (.isub, 1) := by decide +kernel
theorem dX0_unpack_50 : decode cX0_unpack 50 = .ok (.putfield 20, 3) := by decide +kernel
theorem dX0_unpack_53 : decode cX0_unpack 53 = .ok (.return_, 1) := by decide +kernel
theorem dX0_zeroSum_0 : decode cX0_zeroSum 0 = .ok (.iload_n 1, 1) := by decide +kernel
theorem dX0_zeroSum_1 : decode cX0_zeroSum 1 = .ok (.iload_n 2, 1) := by decide +kernel
theorem dX0_zeroSum_2 : decode cX0_zeroSum 2 = .ok (.if_icmp .ne 9, 3) := by decide +kernel
theorem dX0_zeroSum_5 : decode cX0_zeroSum 5 = .ok (.iload_n 1, 1) := by decide +kernel
theorem dX0_zeroSum_6 : decode cX0_zeroSum 6 = .ok (.sipush 128, 3) := by decide +kernel
theorem dX0_zeroSum_9 : decode cX0_zeroSum 9 = .ok (.imul, 1) := by decide +kernel
theorem dX0_zeroSum_10 : decode cX0_zeroSum 10 = .ok (.ireturn, 1) := by decide +kernel
theorem dX0_zeroSum_11 : decode cX0_zeroSum 11 = .ok (.aload_n 0, 1) := by decide +kernel
theorem dX0_zeroSum_12 : decode cX0_zeroSum 12 = .ok (.getfield 23, 3) := by decide +kernel
theorem dX0_zeroSum_15 : decode cX0_zeroSum 15 = .ok (.iconst 3, 1) := by decide +kernel
theorem dX0_zeroSum_16 : decode cX0_zeroSum 16 = .ok (.if_icmp .ne 9, 3) := by decide +kernel
theorem dX0_zeroSum_19 : decode cX0_zeroSum 19 = .ok (.sipush 128, 3) := by decide +kernel
theorem dX0_zeroSum_22 : decode cX0_zeroSum 22 = .ok (.goto 4, 3) := by decide +kernel
theorem dX0_zeroSum_25 : decode cX0_zeroSum 25 = .ok (.iconst 0, 1) := by decide +kernel
theorem dX0_zeroSum_26 : decode cX0_zeroSum 26 = .ok (.ireturn, 1) := by decide +kernel
theorem dX0_addUp_0 : decode cX0_addUp 0 = .ok (.lload_n 2, 1) := by decide +kernel
theorem dX0_addUp_1 : decode cX0_addUp 1 = .ok (.lconst 0, 1) := by decide +kernel
theorem dX0_addUp_2 : decode cX0_addUp 2 = .ok (.lcmp, 1) := by decide +kernel
theorem dX0_addUp_3 : decode cX0_addUp 3 = .ok (.ifCond .eq 12, 3) := by decide +kernel
theorem dX0_addUp_6 : decode cX0_addUp 6 = .ok (.aload_n 0, 1) := by decide +kernel
theorem dX0_addUp_7 : decode cX0_addUp 7 = .ok (.getfield 16, 3) := by decide +kernel
theorem dX0_addUp_10 : decode cX0_addUp 10 = .ok (.lconst 0, 1) := by decide +kernel
theorem dX0_addUp_11 : decode cX0_addUp 11 = .ok (.lcmp, 1) := by decide +kernel
theorem dX0_addUp_12 : decode cX0_addUp 12 = .ok (.ifCond .ne 64, 3) := by decide +kernel
theorem dX0_addUp_15 : decode cX0_addUp 15 = .ok (.lload_n 2, 1) := by decide +kernel
theorem dX0_addUp_16 : decode cX0_addUp 16 = .ok (.lconst 0, 1) := by decide +kernel
theorem dX0_addUp_17 : decode cX0_addUp 17 = .ok (.lcmp, 1) := by decide +kernel
theorem dX0_addUp_18 : decode cX0_addUp 18 = .ok (.ifCond .ne 10, 3) := by decide +kernel
theorem dX0_addUp_21 : decode cX0_addUp 21 = .ok (.aload_n 0, 1) := by decide +kernel
theorem dX0_addUp_22 : decode cX0_addUp 22 = .ok (.getfield 13, 3) := by decide +kernel
theorem dX0_addUp_25 : decode cX0_addUp 25 = .ok (.goto 4, 3) := by decide +kernel
theorem dX0_addUp_28 : decode cX0_addUp 28 = .ok (.iload_n 1, 1) := by decide +kernel
theorem dX0_addUp_29 : decode cX0_addUp 29 = .ok (.istore 5, 2) := by decide +kernel
theorem dX0_addUp_31 : decode cX0_addUp 31 = .ok (.lload_n 2, 1) := by decide +kernel
theorem dX0_addUp_32 : decode cX0_addUp 32 = .ok (.lconst 0, 1) := by decide +kernel
theorem dX0_addUp_33 : decode cX0_addUp 33 = .ok (.lcmp, 1) := by decide +kernel
theorem dX0_addUp_34 : decode cX0_addUp 34 = .ok (.ifCond .ne 10, 3) := by decide +kernel
theorem dX0_addUp_37 : decode cX0_addUp 37 = .ok (.aload_n 0, 1) := by decide +kernel
theorem dX0_addUp_38 : decode cX0_addUp 38 = .ok (.getfield 16, 3) := by decide +kernel
theorem dX0_addUp_41 : decode cX0_addUp 41 = .ok (.goto 4, 3) := by decide +kernel
theorem dX0_addUp_44 : decode cX0_addUp 44 = .ok (.lload_n 2, 1) := by decide +kernel
theorem dX0_addUp_45 : decode cX0_addUp 45 = .ok (.lstore 6, 2) := by decide +kernel
theorem dX0_addUp_47 : decode cX0_addUp 47 = .ok (.lload_n 2, 1) := by decide +kernel
theorem dX0_addUp_48 : decode cX0_addUp 48 = .ok (.lconst 0, 1) := by decide +kernel
theorem dX0_addUp_49 : decode cX0_addUp 49 = .ok (.lcmp, 1) := by decide +kernel
theorem dX0_addUp_50 : decode cX0_addUp 50 = .ok (.ifCond .ne 10, 3) := by decide +kernel
theorem dX0_addUp_53 : decode cX0_addUp 53 = .ok (.aload_n 0, 1) := by decide +kernel
theorem dX0_addUp_54 : decode cX0_addUp 54 = .ok (.getfield 20, 3) := by decide +kernel
theorem dX0_addUp_57 : decode cX0_addUp 57 = .ok (.goto 5, 3) := by decide +kernel
theorem dX0_addUp_60 : decode cX0_addUp 60 = .ok (.iload 4, 2) := by decide +kernel
theorem dX0_addUp_62 : decode cX0_addUp 62 = .ok (.istore 8, 2) := by decide +kernel
theorem dX0_addUp_64 : decode cX0_addUp 64 = .ok (.aload_n 0, 1) := by decide +kernel
theorem dX0_addUp_65 : decode cX0_addUp 65 = .ok (.iload 5, 2) := by decide +kernel
theorem dX0_addUp_67 : decode cX0_addUp 67 = .ok (.lload 6, 2) := by decide +kernel
theorem dX0_addUp_69 : decode cX0_addUp 69 = .ok (.iload 8, 2) := by decide +kernel
theorem dX0_addUp_71 : decode cX0_addUp 71 = .ok (.iconst 0, 1) := by decide +kernel
theorem dX0_addUp_72 : decode cX0_addUp 72 = .ok (.invokevirtual 42, 3) := by decide +kernel
theorem dX0_addUp_75 : decode cX0_addUp 75 = .ok (.ireturn, 1) := by decide +kernel
theorem dX0_addUp_76 : decode cX0_addUp 76 = .ok (.aload_n 0, 1) := by decide +kernel
theorem dX0_addUp_77 : decode cX0_addUp 77 = .ok (.iload_n 1, 1) := by decide +kernel
theorem dX0_addUp_78 : decode cX0_addUp 78 = .ok (.lload_n 2, 1) := by decide +kernel
theorem dX0_addUp_79 : decode cX0_addUp 79 = .ok (.iload 4, 2) := by decide +kernel
theorem dX0_addUp_81 : decode cX0_addUp 81 = .ok (.aload_n 0, 1) := by decide +kernel
theorem dX0_addUp_82 : decode cX0_addUp 82 = .ok (.getfield 13, 3) := by decide +kernel
theorem dX0_addUp_85 : decode cX0_addUp 85 = .ok (.aload_n 0, 1) := by decide +kernel
theorem dX0_addUp_86 : decode cX0_addUp 86 = .ok (.getfield 16, 3) := by decide +kernel
theorem dX0_addUp_89 : decode cX0_addUp 89 = .ok (.aload_n 0, 1) := by decide +kernel
theorem dX0_addUp_90 : decode cX0_addUp 90 = .ok (.getfield 20, 3) := by decide +kernel
theorem dX0_addUp_93 : decode cX0_addUp 93 = .ok (.invokevirtual 64, 3) := by decide +kernel
theorem dX0_addUp_96 : decode cX0_addUp 96 = .ok (.ireturn, 1) := by decide +kernel
theorem dX0_round_0 : decode cX0_round 0 = .ok (.lload_n 2, 1) := by decide +kernel
theorem dX0_round_1 : decode cX0_round 1 = .ok (.lstore 6, 2) := by decide +kernel
theorem dX0_round_3 : decode cX0_round 3 = .ok (.iload 4, 2) := by decide +kernel
theorem dX0_round_5 : decode cX0_round 5 = .ok (.istore 8, 2) := by decide +kernel
theorem dX0_round_7 : decode cX0_round 7 = .ok (.iconst 0, 1) := by decide +kernel
theorem dX0_round_8 : decode cX0_round 8 = .ok (.istore 9, 2) := by decide +kernel
theorem dX0_round_10 : decode cX0_round 10 = .ok (.iload 5, 2) := by decide +kernel
theorem dX0_round_12 : decode cX0_round 12 = .ok (.istore 10, 2) := by decide +kernel
theorem dX0_round_14 : decode cX0_round 14 = .ok (.iconst 0, 1) := by decide +kernel
theorem dX0_round_15 : decode cX0_round 15 = .ok (.istore 11, 2) := by decide +kernel
theorem dX0_round_17 : decode cX0_round 17 = .ok (.iload 11, 2) := by decide +kernel
theorem dX0_round_19 : decode cX0_round 19 = .ok (.bipush 64, 2) := by decide +kernel
theorem dX0_round_21 : decode cX0_round 21 = .ok (.if_icmp .ge 65, 3) := by decide +kernel
theorem dX0_round_24 : decode cX0_round 24 = .ok (.lload 6, 2) := by decide +kernel
theorem dX0_round_26 : decode cX0_round 26 = .ok (.ldc2_w 26, 3) := by decide +kernel
theorem dX0_round_29 : decode cX0_round 29 = .ok (.lcmp, 1) := by decide +kernel
theorem dX0_round_30 : decode cX0_round 30 = .ok (.ifCond .gt 8, 3) := by decide +kernel
theorem dX0_round_33 : decode cX0_round 33 = .ok (.iload 8, 2) := by decide +kernel
theorem dX0_round_35 : decode cX0_round 35 = .ok (.ifCond .ge 51, 3) := by decide +kernel
theorem dX0_round_38 : decode cX0_round 38 = .ok (.iload 10, 2) := by decide +kernel
theorem dX0_round_40 : decode cX0_round 40 = .ok (.ifCond .ne 8, 3) := by decide +kernel
theorem dX0_round_43 : decode cX0_round 43 = .ok (.iload 9, 2) := by decide +kernel
theorem dX0_round_45 : decode cX0_round 45 = .ok (.ifCond .eq 7, 3) := by decide +kernel
theorem dX0_round_48 : decode cX0_round 48 = .ok (.iconst 1, 1) := by decide +kernel
theorem dX0_round_49 : decode cX0_round 49 = .ok (.goto 4, 3) := by decide +kernel
theorem dX0_round_52 : decode cX0_round 52 = .ok (.iconst 0, 1) := by decide +kernel
theorem dX0_round_53 : decode cX0_round 53 = .ok (.istore 10, 2) := by decide +kernel
theorem dX0_round_55 : decode cX0_round 55 = .ok (.lload 6, 2) := by decide +kernel
theorem dX0_round_57 : decode cX0_round 57 = .ok (.lconst 1, 1) := by decide +kernel
theorem dX0_round_58 : decode cX0_round 58 = .ok (.land, 1) := by decide +kernel
theorem dX0_round_59 : decode cX0_round 59 = .ok (.lconst 1, 1) := by decide +kernel
theorem dX0_round_60 : decode cX0_round 60 = .ok (.lcmp, 1) := by decide +kernel
theorem dX0_round_61 : decode cX0_round 61 = .ok (.ifCond .ne 7, 3) := by decide +kernel
theorem dX0_round_64 : decode cX0_round 64 = .ok (.iconst 1, 1) := by decide +kernel
theorem dX0_round_65 : decode cX0_round 65 = .ok (.goto 4, 3) := by decide +kernel
theorem dX0_round_68 : decode cX0_round 68 = .ok (.iconst 0, 1) := by decide +kernel
theorem dX0_round_69 : decode cX0_round 69 = .ok (.istore 9, 2) := by decide +kernel
theorem dX0_round_71 : decode cX0_round 71 = .ok (.lload 6, 2) := by decide +kernel
theorem dX0_round_73 : decode cX0_round 73 = .ok (.iconst 1, 1) := by decide +kernel
theorem dX0_round_74 : decode cX0_round 74 = .ok (.lushr, 1) := by decide +kernel
theorem dX0_round_75 : decode cX0_round 75 = .ok (.lstore 6, 2) := by decide +kernel
theorem dX0_round_77 : decode cX0_round 77 = .ok (.iinc 8 1, 3) := by decide +kernel
theorem dX0_round_80 : decode cX0_round 80 = .ok (.iinc 11 1, 3) := by decide +kernel
theorem dX0_round_83 : decode cX0_round 83 = .ok (.goto (-66), 3) := by decide +kernel
theorem dX0_round_86 : decode cX0_round 86 = .ok (.iconst 0, 1) := by decide +kernel
theorem dX0_round_87 : decode cX0_round 87 = .ok (.istore 11, 2) := by decide +kernel
theorem dX0_round_89 : decode cX0_round 89 = .ok (.iload 11, 2) := by decide +kernel
theorem dX0_round_91 : decode cX0_round 91 = .ok (.bipush 64, 2) := by decide +kernel
theorem dX0_round_93 : decode cX0_round 93 = .ok (.if_icmp .ge 32, 3) := by decide +kernel
theorem dX0_round_96 : decode cX0_round 96 = .ok (.lload 6, 2) := by decide +kernel
theorem dX0_round_98 : decode cX0_round 98 = .ok (.ldc2_w 28, 3) := by decide +kernel
theorem dX0_round_101 : decode cX0_round 101 = .ok (.lcmp, 1) := by decide +kernel
theorem dX0_round_102 : decode cX0_round 102 = .ok (.ifCond .ge 23, 3) := by decide +kernel
theorem dX0_round_105 : decode cX0_round 105 = .ok (.iload 8, 2) := by decide +kernel
theorem dX0_round_107 : decode cX0_round 107 = .ok (.ifCond .le 18, 3) := by decide +kernel
theorem dX0_round_110 : decode cX0_round 110 = .ok (.lload 6, 2) := by decide +kernel
theorem dX0_round_112 : decode cX0_round 112 = .ok (.iconst 1, 1) := by decide +kernel
theorem dX0_round_113 : decode cX0_round 113 = .ok (.lshl, 1) := by decide +kernel
theorem dX0_round_114 : decode cX0_round 114 = .ok (.lstore 6, 2) := by decide +kernel
theorem dX0_round_116 : decode cX0_round 116 = .ok (.iinc 8 (-1), 3) := by decide +kernel
theorem dX0_round_119 : decode cX0_round 119 = .ok (.iinc 11 1, 3) := by decide +kernel
theorem dX0_round_122 : decode cX0_round 122 = .ok (.goto (-33), 3) := by decide +kernel
theorem dX0_round_125 : decode cX0_round 125 = .ok (.iload 9, 2) := by decide +kernel
theorem dX0_round_127 : decode cX0_round 127 = .ok (.ifCond .ne 8, 3) := by decide +kernel
theorem dX0_round_130 : decode cX0_round 130 = .ok (.iload 10, 2) := by decide +kernel
theorem dX0_round_132 : decode cX0_round 132 = .ok (.ifCond .eq 13, 3) := by decide +kernel
theorem dX0_round_135 : decode cX0_round 135 = .ok (.aload_n 0, 1) := by decide +kernel
theorem dX0_round_136 : decode cX0_round 136 = .ok (.aload_n 0, 1) := by decide +kernel
theorem dX0_round_137 : decode cX0_round 137 = .ok (.getfield 9, 3) := by decide +kernel
theorem dX0_round_140 : decode cX0_round 140 = .ok (.iconst 1, 1) := by decide +kernel
theorem dX0_round_141 : decode cX0_round 141 = .ok (.ior, 1) := by decide +kernel
theorem dX0_round_142 : decode cX0_round 142 = .ok (.putfield 9, 3) := by decide +kernel
theorem dX0_round_145 : decode cX0_round 145 = .ok (.aload_n 0, 1) := by decide +kernel
theorem dX0_round_146 : decode cX0_round 146 = .ok (.iload_n 1, 1) := by decide +kernel
theorem dX0_round_147 : decode cX0_round 147 = .ok (.lload 6, 2) := by decide +kernel
theorem dX0_round_149 : decode cX0_round 149 = .ok (.iload 9, 2) := by decide +kernel
theorem dX0_round_151 : decode cX0_round 151 = .ok (.iload 10, 2) := by decide +kernel
theorem dX0_round_153 : decode cX0_round 153 = .ok (.invokevirtual 30, 3) := by decide +kernel
theorem dX0_round_156 : decode cX0_round 156 = .ok (.istore 11, 2) := by decide +kernel
theorem dX0_round_158 : decode cX0_round 158 = .ok (.iload 11, 2) := by decide +kernel
theorem dX0_round_160 : decode cX0_round 160 = .ok (.ifCond .eq 9, 3) := by decide +kernel
theorem dX0_round_163 : decode cX0_round 163 = .ok (.lload 6, 2) := by decide +kernel
theorem dX0_round_165 : decode cX0_round 165 = .ok (.lconst 1, 1) := by decide +kernel
theorem dX0_round_166 : decode cX0_round 166 = .ok (.ladd, 1) := by decide +kernel
theorem dX0_round_167 : decode cX0_round 167 = .ok (.lstore 6, 2) := by decide +kernel
theorem dX0_round_169 : decode cX0_round 169 = .ok (.lload 6, 2) := by decide +kernel
theorem dX0_round_171 : decode cX0_round 171 = .ok (.ldc2_w 26, 3) := by decide +kernel
theorem dX0_round_174 : decode cX0_round 174 = .ok (.lcmp, 1) := by decide +kernel
theorem dX0_round_175 : decode cX0_round 175 = .ok (.ifCond .le 12, 3) := by decide +kernel
theorem dX0_round_178 : decode cX0_round 178 = .ok (.lload 6, 2) := by decide +kernel
theorem dX0_round_180 : decode cX0_round 180 = .ok (.iconst 1, 1) := by decide +kernel
theorem dX0_round_181 : decode cX0_round 181 = .ok (.lushr, 1) := by decide +kernel
theorem dX0_round_182 : decode cX0_round 182 = .ok (.lstore 6, 2) := by decide +kernel
theorem dX0_round_184 : decode cX0_round 184 = .ok (.iinc 8 1, 3) := by decide +kernel
theorem dX0_round_187 : decode cX0_round 187 = .ok (.aload_n 0, 1) := by decide +kernel
theorem dX0_round_188 : decode cX0_round 188 = .ok (.iload_n 1, 1) := by decide +kernel
theorem dX0_round_189 : decode cX0_round 189 = .ok (.lload 6, 2) := by decide +kernel
theorem dX0_round_191 : decode cX0_round 191 = .ok (.iload 8, 2) := by decide +kernel
theorem dX0_round_193 : decode cX0_round 193 = .ok (.invokevirtual 34, 3) := by decide +kernel
theorem dX0_round_196 : decode cX0_round 196 = .ok (.ireturn, 1) := by decide +kernel
theorem dX0_upward_0 : decode cX0_upward 0 = .ok (.aload_n 0, 1) := by decide +kernel
theorem dX0_upward_1 : decode cX0_upward 1 = .ok (.getfield 23, 3) := by decide +kernel
theorem dX0_upward_4 : decode cX0_upward 4 = .ok (.ifCond .ne 27, 3) := by decide +kernel
theorem dX0_upward_7 : decode cX0_upward 7 = .ok (.iload 4, 2) := by decide +kernel
theorem dX0_upward_9 : decode cX0_upward 9 = .ok (.ifCond .eq 20, 3) := by decide +kernel
theorem dX0_upward_12 : decode cX0_upward 12 = .ok (.iload 5, 2) := by decide +kernel
theorem dX0_upward_14 : decode cX0_upward 14 = .ok (.ifCond .ne 11, 3) := by decide +kernel
theorem dX0_upward_17 : decode cX0_upward 17 = .ok (.lload_n 2, 1) := by decide +kernel
theorem dX0_upward_18 : decode cX0_upward 18 = .ok (.lconst 1, 1) := by decide +kernel
theorem dX0_upward_19 : decode cX0_upward 19 = .ok (.land, 1) := by decide +kernel
theorem dX0_upward_20 : decode cX0_upward 20 = .ok (.lconst 1, 1) := by decide +kernel
theorem dX0_upward_21 : decode cX0_upward 21 = .ok (.lcmp, 1) := by decide +kernel
theorem dX0_upward_22 : decode cX0_upward 22 = .ok (.ifCond .ne 7, 3) := by decide +kernel
theorem dX0_upward_25 : decode cX0_upward 25 = .ok (.iconst 1, 1) := by decide +kernel
theorem dX0_upward_26 : decode cX0_upward 26 = .ok (.goto 4, 3) := by decide +kernel
theorem dX0_upward_29 : decode cX0_upward 29 = .ok (.iconst 0, 1) := by decide +kernel
theorem dX0_upward_30 : decode cX0_upward 30 = .ok (.ireturn, 1) := by decide +kernel
theorem dX0_upward_31 : decode cX0_upward 31 = .ok (.aload_n 0, 1) := by decide +kernel
theorem dX0_upward_32 : decode cX0_upward 32 = .ok (.getfield 23, 3) := by decide +kernel
theorem dX0_upward_35 : decode cX0_upward 35 = .ok (.iconst 1, 1) := by decide +kernel
theorem dX0_upward_36 : decode cX0_upward 36 = .ok (.if_icmp .ne 5, 3) := by decide +kernel
theorem dX0_upward_39 : decode cX0_upward 39 = .ok (.iconst 0, 1) := by decide +kernel
theorem dX0_upward_40 : decode cX0_upward 40 = .ok (.ireturn, 1) := by decide +kernel
theorem dX0_upward_41 : decode cX0_upward 41 = .ok (.iload 4, 2) := by decide +kernel
theorem dX0_upward_43 : decode cX0_upward 43 = .ok (.ifCond .ne 8, 3) := by decide +kernel
theorem dX0_upward_46 : decode cX0_upward 46 = .ok (.iload 5, 2) := by decide +kernel
theorem dX0_upward_48 : decode cX0_upward 48 = .ok (.ifCond .eq 7, 3) := by decide +kernel
theorem dX0_upward_51 : decode cX0_upward 51 = .ok (.iconst 1, 1) := by decide +kernel
theorem dX0_upward_52 : decode cX0_upward 52 = .ok (.goto 4, 3) := by decide +kernel
theorem dX0_upward_55 : decode cX0_upward 55 = .ok (.iconst 0, 1) := by decide +kernel
theorem dX0_upward_56 : decode cX0_upward 56 = .ok (.istore 6, 2) := by decide +kernel
theorem dX0_upward_58 : decode cX0_upward 58 = .ok (.iload 6, 2) := by decide +kernel
theorem dX0_upward_60 : decode cX0_upward 60 = .ok (.ifCond .eq 32, 3) := by decide +kernel
theorem dX0_upward_63 : decode cX0_upward 63 = .ok (.aload_n 0, 1) := by decide +kernel
theorem dX0_upward_64 : decode cX0_upward 64 = .ok (.getfield 23, 3) := by decide +kernel
theorem dX0_upward_67 : decode cX0_upward 67 = .ok (.iconst 2, 1) := by decide +kernel
theorem dX0_upward_68 : decode cX0_upward 68 = .ok (.if_icmp .ne 7, 3) := by decide +kernel
theorem dX0_upward_71 : decode cX0_upward 71 = .ok (.iconst 1, 1) := by decide +kernel
theorem dX0_upward_72 : decode cX0_upward 72 = .ok (.goto 4, 3) := by decide +kernel
theorem dX0_upward_75 : decode cX0_upward 75 = .ok (.iconst 0, 1) := by decide +kernel
theorem dX0_upward_76 : decode cX0_upward 76 = .ok (.iload_n 1, 1) := by decide +kernel
theorem dX0_upward_77 : decode cX0_upward 77 = .ok (.ifCond .ne 7, 3) := by decide +kernel
theorem dX0_upward_80 : decode cX0_upward 80 = .ok (.iconst 1, 1) := by decide +kernel
theorem dX0_upward_81 : decode cX0_upward 81 = .ok (.goto 4, 3) := by decide +kernel
theorem dX0_upward_84 : decode cX0_upward 84 = .ok (.iconst 0, 1) := by decide +kernel
theorem dX0_upward_85 : decode cX0_upward 85 = .ok (.if_icmp .ne 7, 3) := by decide +kernel
theorem dX0_upward_88 : decode cX0_upward 88 = .ok (.iconst 1, 1) := by decide +kernel
theorem dX0_upward_89 : decode cX0_upward 89 = .ok (.goto 4, 3) := by decide +kernel
theorem dX0_upward_92 : decode cX0_upward 92 = .ok (.iconst 0, 1) := by decide +kernel
theorem dX0_upward_93 : decode cX0_upward 93 = .ok (.ireturn, 1) := by decide +kernel
theorem dX0_pack_0 : decode cX0_pack 0 = .ok (.lload_n 2, 1) := by decide +kernel
theorem dX0_pack_1 : decode cX0_pack 1 = .ok (.ldc2_w 28, 3) := by decide +kernel
theorem dX0_pack_4 : decode cX0_pack 4 = .ok (.lcmp, 1) := by decide +kernel
theorem dX0_pack_5 : decode cX0_pack 5 = .ok (.ifCond .ge 12, 3) := by decide +kernel
theorem dX0_pack_8 : decode cX0_pack 8 = .ok (.iload_n 1, 1) := by decide +kernel
theorem dX0_pack_9 : decode cX0_pack 9 = .ok (.sipush 128, 3) := by decide +kernel
theorem dX0_pack_12 : decode cX0_pack 12 = .ok (.imul, 1) := by decide +kernel
theorem dX0_pack_13 : decode cX0_pack 13 = .ok (.lload_n 2, 1) := by decide +kernel
theorem dX0_pack_14 : decode cX0_pack 14 = .ok (.l2i, 1) := by decide +kernel
theorem dX0_pack_15 : decode cX0_pack 15 = .ok (.iadd, 1) := by decide +kernel
theorem dX0_pack_16 : decode cX0_pack 16 = .ok (.ireturn, 1) := by decide +kernel
theorem dX0_pack_17 : decode cX0_pack 17 = .ok (.iload 4, 2) := by decide +kernel
theorem dX0_pack_19 : decode cX0_pack 19 = .ok (.bipush 13, 2) := by decide +kernel
theorem dX0_pack_21 : decode cX0_pack 21 = .ok (.if_icmp .le 81, 3) := by decide +kernel
theorem dX0_pack_24 : decode cX0_pack 24 = .ok (.aload_n 0, 1) := by decide +kernel
theorem dX0_pack_25 : decode cX0_pack 25 = .ok (.aload_n 0, 1) := by decide +kernel
theorem dX0_pack_26 : decode cX0_pack 26 = .ok (.getfield 9, 3) := by decide +kernel
theorem dX0_pack_29 : decode cX0_pack 29 = .ok (.iconst 1, 1) := by decide +kernel
theorem dX0_pack_30 : decode cX0_pack 30 = .ok (.ior, 1) := by decide +kernel
theorem dX0_pack_31 : decode cX0_pack 31 = .ok (.iconst 2, 1) := by decide +kernel
theorem dX0_pack_32 : decode cX0_pack 32 = .ok (.ior, 1) := by decide +kernel
theorem dX0_pack_33 : decode cX0_pack 33 = .ok (.putfield 9, 3) := by decide +kernel
theorem dX0_pack_36 : decode cX0_pack 36 = .ok (.aload_n 0, 1) := by decide +kernel
theorem dX0_pack_37 : decode cX0_pack 37 = .ok (.getfield 23, 3) := by decide +kernel
theorem dX0_pack_40 : decode cX0_pack 40 = .ok (.ifCond .eq 36, 3) := by decide +kernel
theorem dX0_pack_43 : decode cX0_pack 43 = .ok (.aload_n 0, 1) := by decide +kernel
theorem dX0_pack_44 : decode cX0_pack 44 = .ok (.getfield 23, 3) := by decide +kernel
theorem dX0_pack_47 : decode cX0_pack 47 = .ok (.iconst 1, 1) := by decide +kernel
theorem dX0_pack_48 : decode cX0_pack 48 = .ok (.if_icmp .eq 32, 3) := by decide +kernel
theorem dX0_pack_51 : decode cX0_pack 51 = .ok (.aload_n 0, 1) := by decide +kernel
theorem dX0_pack_52 : decode cX0_pack 52 = .ok (.getfield 23, 3) := by decide +kernel
theorem dX0_pack_55 : decode cX0_pack 55 = .ok (.iconst 2, 1) := by decide +kernel
theorem dX0_pack_56 : decode cX0_pack 56 = .ok (.if_icmp .ne 7, 3) := by decide +kernel
theorem dX0_pack_59 : decode cX0_pack 59 = .ok (.iconst 1, 1) := by decide +kernel
theorem dX0_pack_60 : decode cX0_pack 60 = .ok (.goto 4, 3) := by decide +kernel
theorem dX0_pack_63 : decode cX0_pack 63 = .ok (.iconst 0, 1) := by decide +kernel
theorem dX0_pack_64 : decode cX0_pack 64 = .ok (.iload_n 1, 1) := by decide +kernel
theorem dX0_pack_65 : decode cX0_pack 65 = .ok (.ifCond .ne 7, 3) := by decide +kernel
theorem dX0_pack_68 : decode cX0_pack 68 = .ok (.iconst 1, 1) := by decide +kernel
end
section
set_option maxRecDepth 100000
theorem dX0_pack_69 : decode cX0_pack 69 = .ok (.goto 4, 3) := by decide +kernel
theorem dX0_pack_72 : decode cX0_pack 72 = .ok (.iconst 0, 1) := by decide +kernel
theorem dX0_pack_73 : decode cX0_pack 73 = .ok (.if_icmp .ne 7, 3) := by decide +kernel
theorem dX0_pack_76 : decode cX0_pack 76 = .ok (.iconst 1, 1) := by decide +kernel
theorem dX0_pack_77 : decode cX0_pack 77 = .ok (.goto 4, 3) := by decide +kernel
theorem dX0_pack_80 : decode cX0_pack 80 = .ok (.iconst 0, 1) := by decide +kernel
theorem dX0_pack_81 : decode cX0_pack 81 = .ok (.istore 5, 2) := by decide +kernel
theorem dX0_pack_83 : decode cX0_pack 83 = .ok (.iload_n 1, 1) := by decide +kernel
theorem dX0_pack_84 : decode cX0_pack 84 = .ok (.sipush 128, 3) := by decide +kernel
theorem dX0_pack_87 : decode cX0_pack 87 = .ok (.imul, 1) := by decide +kernel
theorem dX0_pack_88 : decode cX0_pack 88 = .ok (.iload 5, 2) := by decide +kernel
theorem dX0_pack_90 : decode cX0_pack 90 = .ok (.ifCond .eq 8, 3) := by decide +kernel
theorem dX0_pack_93 : decode cX0_pack 93 = .ok (.bipush 120, 2) := by decide +kernel
theorem dX0_pack_95 : decode cX0_pack 95 = .ok (.goto 5, 3) := by decide +kernel
theorem dX0_pack_98 : decode cX0_pack 98 = .ok (.bipush 119, 2) := by decide +kernel
theorem dX0_pack_100 : decode cX0_pack 100 = .ok (.iadd, 1) := by decide +kernel
theorem dX0_pack_101 : decode cX0_pack 101 = .ok (.ireturn, 1) := by decide +kernel
theorem dX0_pack_102 : decode cX0_pack 102 = .ok (.iload_n 1, 1) := by decide +kernel
theorem dX0_pack_103 : decode cX0_pack 103 = .ok (.sipush 128, 3) := by decide +kernel
theorem dX0_pack_106 : decode cX0_pack 106 = .ok (.imul, 1) := by decide +kernel
theorem dX0_pack_107 : decode cX0_pack 107 = .ok (.bipush 8, 2) := by decide +kernel
theorem dX0_pack_109 : decode cX0_pack 109 = .ok (.iload 4, 2) := by decide +kernel
theorem dX0_pack_111 : decode cX0_pack 111 = .ok (.iconst 1, 1) := by decide +kernel
theorem dX0_pack_112 : decode cX0_pack 112 = .ok (.iadd, 1) := by decide +kernel
theorem dX0_pack_113 : decode cX0_pack 113 = .ok (.imul, 1) := by decide +kernel
theorem dX0_pack_114 : decode cX0_pack 114 = .ok (.iadd, 1) := by decide +kernel
theorem dX0_pack_115 : decode cX0_pack 115 = .ok (.lload_n 2, 1) := by decide +kernel
theorem dX0_pack_116 : decode cX0_pack 116 = .ok (.l2i, 1) := by decide +kernel
theorem dX0_pack_117 : decode cX0_pack 117 = .ok (.iadd, 1) := by decide +kernel
theorem dX0_pack_118 : decode cX0_pack 118 = .ok (.bipush 8, 2) := by decide +kernel
theorem dX0_pack_120 : decode cX0_pack 120 = .ok (.isub, 1) := by decide +kernel
theorem dX0_pack_121 : decode cX0_pack 121 = .ok (.ireturn, 1) := by decide +kernel
theorem dX0_sumOf_0 : decode cX0_sumOf 0 = .ok (.iload 4, 2) := by decide +kernel
theorem dX0_sumOf_2 : decode cX0_sumOf 2 = .ok (.iload 8, 2) := by decide +kernel
theorem dX0_sumOf_4 : decode cX0_sumOf 4 = .ok (.if_icmp .ge 8, 3) := by decide +kernel
theorem dX0_sumOf_7 : decode cX0_sumOf 7 = .ok (.iload 4, 2) := by decide +kernel
theorem dX0_sumOf_9 : decode cX0_sumOf 9 = .ok (.goto 5, 3) := by decide +kernel
theorem dX0_sumOf_12 : decode cX0_sumOf 12 = .ok (.iload 8, 2) := by decide +kernel
theorem dX0_sumOf_14 : decode cX0_sumOf 14 = .ok (.istore 9, 2) := by decide +kernel
theorem dX0_sumOf_16 : decode cX0_sumOf 16 = .ok (.lload_n 2, 1) := by decide +kernel
theorem dX0_sumOf_17 : decode cX0_sumOf 17 = .ok (.iload 4, 2) := by decide +kernel
theorem dX0_sumOf_19 : decode cX0_sumOf 19 = .ok (.iload 9, 2) := by decide +kernel
theorem dX0_sumOf_21 : decode cX0_sumOf 21 = .ok (.isub, 1) := by decide +kernel
theorem dX0_sumOf_22 : decode cX0_sumOf 22 = .ok (.lshl, 1) := by decide +kernel
theorem dX0_sumOf_23 : decode cX0_sumOf 23 = .ok (.lstore 10, 2) := by decide +kernel
theorem dX0_sumOf_25 : decode cX0_sumOf 25 = .ok (.lload 6, 2) := by decide +kernel
theorem dX0_sumOf_27 : decode cX0_sumOf 27 = .ok (.iload 8, 2) := by decide +kernel
theorem dX0_sumOf_29 : decode cX0_sumOf 29 = .ok (.iload 9, 2) := by decide +kernel
theorem dX0_sumOf_31 : decode cX0_sumOf 31 = .ok (.isub, 1) := by decide +kernel
theorem dX0_sumOf_32 : decode cX0_sumOf 32 = .ok (.lshl, 1) := by decide +kernel
theorem dX0_sumOf_33 : decode cX0_sumOf 33 = .ok (.lstore 12, 2) := by decide +kernel
theorem dX0_sumOf_35 : decode cX0_sumOf 35 = .ok (.iload_n 1, 1) := by decide +kernel
theorem dX0_sumOf_36 : decode cX0_sumOf 36 = .ok (.ifCond .ne 8, 3) := by decide +kernel
theorem dX0_sumOf_39 : decode cX0_sumOf 39 = .ok (.lload 10, 2) := by decide +kernel
theorem dX0_sumOf_41 : decode cX0_sumOf 41 = .ok (.goto 6, 3) := by decide +kernel
theorem dX0_sumOf_44 : decode cX0_sumOf 44 = .ok (.lload 10, 2) := by decide +kernel
theorem dX0_sumOf_46 : decode cX0_sumOf 46 = .ok (.lneg, 1) := by decide +kernel
theorem dX0_sumOf_47 : decode cX0_sumOf 47 = .ok (.iload 5, 2) := by decide +kernel
theorem dX0_sumOf_49 : decode cX0_sumOf 49 = .ok (.ifCond .ne 8, 3) := by decide +kernel
theorem dX0_sumOf_52 : decode cX0_sumOf 52 = .ok (.lload 12, 2) := by decide +kernel
theorem dX0_sumOf_54 : decode cX0_sumOf 54 = .ok (.goto 6, 3) := by decide +kernel
theorem dX0_sumOf_57 : decode cX0_sumOf 57 = .ok (.lload 12, 2) := by decide +kernel
theorem dX0_sumOf_59 : decode cX0_sumOf 59 = .ok (.lneg, 1) := by decide +kernel
theorem dX0_sumOf_60 : decode cX0_sumOf 60 = .ok (.ladd, 1) := by decide +kernel
theorem dX0_sumOf_61 : decode cX0_sumOf 61 = .ok (.lstore 14, 2) := by decide +kernel
theorem dX0_sumOf_63 : decode cX0_sumOf 63 = .ok (.lload 14, 2) := by decide +kernel
theorem dX0_sumOf_65 : decode cX0_sumOf 65 = .ok (.lconst 0, 1) := by decide +kernel
theorem dX0_sumOf_66 : decode cX0_sumOf 66 = .ok (.lcmp, 1) := by decide +kernel
theorem dX0_sumOf_67 : decode cX0_sumOf 67 = .ok (.ifCond .ne 30, 3) := by decide +kernel
theorem dX0_sumOf_70 : decode cX0_sumOf 70 = .ok (.aload_n 0, 1) := by decide +kernel
theorem dX0_sumOf_71 : decode cX0_sumOf 71 = .ok (.iload_n 1, 1) := by decide +kernel
theorem dX0_sumOf_72 : decode cX0_sumOf 72 = .ok (.lload_n 2, 1) := by decide +kernel
theorem dX0_sumOf_73 : decode cX0_sumOf 73 = .ok (.lconst 0, 1) := by decide +kernel
theorem dX0_sumOf_74 : decode cX0_sumOf 74 = .ok (.lcmp, 1) := by decide +kernel
theorem dX0_sumOf_75 : decode cX0_sumOf 75 = .ok (.ifCond .ne 15, 3) := by decide +kernel
theorem dX0_sumOf_78 : decode cX0_sumOf 78 = .ok (.lload 6, 2) := by decide +kernel
theorem dX0_sumOf_80 : decode cX0_sumOf 80 = .ok (.lconst 0, 1) := by decide +kernel
theorem dX0_sumOf_81 : decode cX0_sumOf 81 = .ok (.lcmp, 1) := by decide +kernel
theorem dX0_sumOf_82 : decode cX0_sumOf 82 = .ok (.ifCond .ne 8, 3) := by decide +kernel
theorem dX0_sumOf_85 : decode cX0_sumOf 85 = .ok (.iload 5, 2) := by decide +kernel
theorem dX0_sumOf_87 : decode cX0_sumOf 87 = .ok (.goto 6, 3) := by decide +kernel
theorem dX0_sumOf_90 : decode cX0_sumOf 90 = .ok (.iconst 1, 1) := by decide +kernel
theorem dX0_sumOf_91 : decode cX0_sumOf 91 = .ok (.iload_n 1, 1) := by decide +kernel
theorem dX0_sumOf_92 : decode cX0_sumOf 92 = .ok (.isub, 1) := by decide +kernel
theorem dX0_sumOf_93 : decode cX0_sumOf 93 = .ok (.invokevirtual 38, 3) := by decide +kernel
theorem dX0_sumOf_96 : decode cX0_sumOf 96 = .ok (.ireturn, 1) := by decide +kernel
theorem dX0_sumOf_97 : decode cX0_sumOf 97 = .ok (.lload 14, 2) := by decide +kernel
theorem dX0_sumOf_99 : decode cX0_sumOf 99 = .ok (.lconst 0, 1) := by decide +kernel
theorem dX0_sumOf_100 : decode cX0_sumOf 100 = .ok (.lcmp, 1) := by decide +kernel
theorem dX0_sumOf_101 : decode cX0_sumOf 101 = .ok (.ifCond .le 16, 3) := by decide +kernel
theorem dX0_sumOf_104 : decode cX0_sumOf 104 = .ok (.aload_n 0, 1) := by decide +kernel
theorem dX0_sumOf_105 : decode cX0_sumOf 105 = .ok (.iconst 0, 1) := by decide +kernel
theorem dX0_sumOf_106 : decode cX0_sumOf 106 = .ok (.lload 14, 2) := by decide +kernel
theorem dX0_sumOf_108 : decode cX0_sumOf 108 = .ok (.iload 9, 2) := by decide +kernel
theorem dX0_sumOf_110 : decode cX0_sumOf 110 = .ok (.iconst 0, 1) := by decide +kernel
theorem dX0_sumOf_111 : decode cX0_sumOf 111 = .ok (.invokevirtual 42, 3) := by decide +kernel
theorem dX0_sumOf_114 : decode cX0_sumOf 114 = .ok (.goto 14, 3) := by decide +kernel
theorem dX0_sumOf_117 : decode cX0_sumOf 117 = .ok (.aload_n 0, 1) := by decide +kernel
theorem dX0_sumOf_118 : decode cX0_sumOf 118 = .ok (.iconst 1, 1) := by decide +kernel
theorem dX0_sumOf_119 : decode cX0_sumOf 119 = .ok (.lload 14, 2) := by decide +kernel
theorem dX0_sumOf_121 : decode cX0_sumOf 121 = .ok (.lneg, 1) := by decide +kernel
theorem dX0_sumOf_122 : decode cX0_sumOf 122 = .ok (.iload 9, 2) := by decide +kernel
theorem dX0_sumOf_124 : decode cX0_sumOf 124 = .ok (.iconst 0, 1) := by decide +kernel
theorem dX0_sumOf_125 : decode cX0_sumOf 125 = .ok (.invokevirtual 42, 3) := by decide +kernel
theorem dX0_sumOf_128 : decode cX0_sumOf 128 = .ok (.ireturn, 1) := by decide +kernel
theorem dX0_subtract_0 : decode cX0_subtract 0 = .ok (.aload_n 0, 1) := by decide +kernel
theorem dX0_subtract_1 : decode cX0_subtract 1 = .ok (.iload_n 1, 1) := by decide +kernel
theorem dX0_subtract_2 : decode cX0_subtract 2 = .ok (.invokevirtual 68, 3) := by decide +kernel
theorem dX0_subtract_5 : decode cX0_subtract 5 = .ok (.ifCond .ne 11, 3) := by decide +kernel
theorem dX0_subtract_8 : decode cX0_subtract 8 = .ok (.aload_n 0, 1) := by decide +kernel
theorem dX0_subtract_9 : decode cX0_subtract 9 = .ok (.iload_n 2, 1) := by decide +kernel
theorem dX0_subtract_10 : decode cX0_subtract 10 = .ok (.invokevirtual 68, 3) := by decide +kernel
theorem dX0_subtract_13 : decode cX0_subtract 13 = .ok (.ifCond .eq 5, 3) := by decide +kernel
theorem dX0_subtract_16 : decode cX0_subtract 16 = .ok (.iconst (-1), 1) := by decide +kernel
theorem dX0_subtract_17 : decode cX0_subtract 17 = .ok (.ireturn, 1) := by decide +kernel
theorem dX0_subtract_18 : decode cX0_subtract 18 = .ok (.aload_n 0, 1) := by decide +kernel
theorem dX0_subtract_19 : decode cX0_subtract 19 = .ok (.iload_n 2, 1) := by decide +kernel
theorem dX0_subtract_20 : decode cX0_subtract 20 = .ok (.invokevirtual 46, 3) := by decide +kernel
theorem dX0_subtract_23 : decode cX0_subtract 23 = .ok (.ifCond .eq 7, 3) := by decide +kernel
theorem dX0_subtract_26 : decode cX0_subtract 26 = .ok (.iload_n 2, 1) := by decide +kernel
theorem dX0_subtract_27 : decode cX0_subtract 27 = .ok (.goto 8, 3) := by decide +kernel
theorem dX0_subtract_30 : decode cX0_subtract 30 = .ok (.iload_n 2, 1) := by decide +kernel
theorem dX0_subtract_31 : decode cX0_subtract 31 = .ok (.sipush 128, 3) := by decide +kernel
theorem dX0_subtract_34 : decode cX0_subtract 34 = .ok (.ixor, 1) := by decide +kernel
theorem dX0_subtract_35 : decode cX0_subtract 35 = .ok (.istore_n 3, 1) := by decide +kernel
theorem dX0_subtract_36 : decode cX0_subtract 36 = .ok (.aload_n 0, 1) := by decide +kernel
theorem dX0_subtract_37 : decode cX0_subtract 37 = .ok (.iload_n 1, 1) := by decide +kernel
theorem dX0_subtract_38 : decode cX0_subtract 38 = .ok (.iload_n 3, 1) := by decide +kernel
theorem dX0_subtract_39 : decode cX0_subtract 39 = .ok (.invokevirtual 71, 3) := by decide +kernel
theorem dX0_subtract_42 : decode cX0_subtract 42 = .ok (.ireturn, 1) := by decide +kernel
theorem dX0_multiply_0 : decode cX0_multiply 0 = .ok (.aload_n 0, 1) := by decide +kernel
theorem dX0_multiply_1 : decode cX0_multiply 1 = .ok (.iload_n 1, 1) := by decide +kernel
theorem dX0_multiply_2 : decode cX0_multiply 2 = .ok (.invokevirtual 68, 3) := by decide +kernel
theorem dX0_multiply_5 : decode cX0_multiply 5 = .ok (.ifCond .ne 11, 3) := by decide +kernel
theorem dX0_multiply_8 : decode cX0_multiply 8 = .ok (.aload_n 0, 1) := by decide +kernel
theorem dX0_multiply_9 : decode cX0_multiply 9 = .ok (.iload_n 2, 1) := by decide +kernel
theorem dX0_multiply_10 : decode cX0_multiply 10 = .ok (.invokevirtual 68, 3) := by decide +kernel
theorem dX0_multiply_13 : decode cX0_multiply 13 = .ok (.ifCond .eq 5, 3) := by decide +kernel
theorem dX0_multiply_16 : decode cX0_multiply 16 = .ok (.iconst (-1), 1) := by decide +kernel
theorem dX0_multiply_17 : decode cX0_multiply 17 = .ok (.ireturn, 1) := by decide +kernel
theorem dX0_multiply_18 : decode cX0_multiply 18 = .ok (.aload_n 0, 1) := by decide +kernel
theorem dX0_multiply_19 : decode cX0_multiply 19 = .ok (.iload_n 1, 1) := by decide +kernel
theorem dX0_multiply_20 : decode cX0_multiply 20 = .ok (.invokevirtual 46, 3) := by decide +kernel
theorem dX0_multiply_23 : decode cX0_multiply 23 = .ok (.ifCond .ne 11, 3) := by decide +kernel
theorem dX0_multiply_26 : decode cX0_multiply 26 = .ok (.aload_n 0, 1) := by decide +kernel
theorem dX0_multiply_27 : decode cX0_multiply 27 = .ok (.iload_n 2, 1) := by decide +kernel
theorem dX0_multiply_28 : decode cX0_multiply 28 = .ok (.invokevirtual 46, 3) := by decide +kernel
theorem dX0_multiply_31 : decode cX0_multiply 31 = .ok (.ifCond .eq 6, 3) := by decide +kernel
theorem dX0_multiply_34 : decode cX0_multiply 34 = .ok (.bipush 124, 2) := by decide +kernel
theorem dX0_multiply_36 : decode cX0_multiply 36 = .ok (.ireturn, 1) := by decide +kernel
theorem dX0_multiply_37 : decode cX0_multiply 37 = .ok (.iload_n 1, 1) := by decide +kernel
theorem dX0_multiply_38 : decode cX0_multiply 38 = .ok (.iload_n 2, 1) := by decide +kernel
theorem dX0_multiply_39 : decode cX0_multiply 39 = .ok (.ixor, 1) := by decide +kernel
theorem dX0_multiply_40 : decode cX0_multiply 40 = .ok (.bipush 7, 2) := by decide +kernel
theorem dX0_multiply_42 : decode cX0_multiply 42 = .ok (.ishr, 1) := by decide +kernel
theorem dX0_multiply_43 : decode cX0_multiply 43 = .ok (.istore_n 3, 1) := by decide +kernel
theorem dX0_multiply_44 : decode cX0_multiply 44 = .ok (.aload_n 0, 1) := by decide +kernel
theorem dX0_multiply_45 : decode cX0_multiply 45 = .ok (.iload_n 1, 1) := by decide +kernel
theorem dX0_multiply_46 : decode cX0_multiply 46 = .ok (.invokevirtual 50, 3) := by decide +kernel
theorem dX0_multiply_49 : decode cX0_multiply 49 = .ok (.ifCond .ne 11, 3) := by decide +kernel
theorem dX0_multiply_52 : decode cX0_multiply 52 = .ok (.aload_n 0, 1) := by decide +kernel
theorem dX0_multiply_53 : decode cX0_multiply 53 = .ok (.iload_n 2, 1) := by decide +kernel
theorem dX0_multiply_54 : decode cX0_multiply 54 = .ok (.invokevirtual 50, 3) := by decide +kernel
theorem dX0_multiply_57 : decode cX0_multiply 57 = .ok (.ifCond .eq 35, 3) := by decide +kernel
theorem dX0_multiply_60 : decode cX0_multiply 60 = .ok (.aload_n 0, 1) := by decide +kernel
theorem dX0_multiply_61 : decode cX0_multiply 61 = .ok (.iload_n 1, 1) := by decide +kernel
theorem dX0_multiply_62 : decode cX0_multiply 62 = .ok (.invokevirtual 74, 3) := by decide +kernel
theorem dX0_multiply_65 : decode cX0_multiply 65 = .ok (.ifCond .ne 11, 3) := by decide +kernel
theorem dX0_multiply_68 : decode cX0_multiply 68 = .ok (.aload_n 0, 1) := by decide +kernel
theorem dX0_multiply_69 : decode cX0_multiply 69 = .ok (.iload_n 2, 1) := by decide +kernel
theorem dX0_multiply_70 : decode cX0_multiply 70 = .ok (.invokevirtual 74, 3) := by decide +kernel
theorem dX0_multiply_73 : decode cX0_multiply 73 = .ok (.ifCond .eq 10, 3) := by decide +kernel
theorem dX0_multiply_76 : decode cX0_multiply 76 = .ok (.aload_n 0, 1) := by decide +kernel
theorem dX0_multiply_77 : decode cX0_multiply 77 = .ok (.invokevirtual 53, 3) := by decide +kernel
theorem dX0_multiply_80 : decode cX0_multiply 80 = .ok (.goto 11, 3) := by decide +kernel
theorem dX0_multiply_83 : decode cX0_multiply 83 = .ok (.iload_n 3, 1) := by decide +kernel
theorem dX0_multiply_84 : decode cX0_multiply 84 = .ok (.sipush 128, 3) := by decide +kernel
theorem dX0_multiply_87 : decode cX0_multiply 87 = .ok (.imul, 1) := by decide +kernel
theorem dX0_multiply_88 : decode cX0_multiply 88 = .ok (.bipush 120, 2) := by decide +kernel
theorem dX0_multiply_90 : decode cX0_multiply 90 = .ok (.iadd, 1) := by decide +kernel
theorem dX0_multiply_91 : decode cX0_multiply 91 = .ok (.ireturn, 1) := by decide +kernel
theorem dX0_multiply_92 : decode cX0_multiply 92 = .ok (.aload_n 0, 1) := by decide +kernel
theorem dX0_multiply_93 : decode cX0_multiply 93 = .ok (.iload_n 1, 1) := by decide +kernel
theorem dX0_multiply_94 : decode cX0_multiply 94 = .ok (.invokevirtual 74, 3) := by decide +kernel
theorem dX0_multiply_97 : decode cX0_multiply 97 = .ok (.ifCond .ne 11, 3) := by decide +kernel
theorem dX0_multiply_100 : decode cX0_multiply 100 = .ok (.aload_n 0, 1) := by decide +kernel
theorem dX0_multiply_101 : decode cX0_multiply 101 = .ok (.iload_n 2, 1) := by decide +kernel
theorem dX0_multiply_102 : decode cX0_multiply 102 = .ok (.invokevirtual 74, 3) := by decide +kernel
theorem dX0_multiply_105 : decode cX0_multiply 105 = .ok (.ifCond .eq 9, 3) := by decide +kernel
theorem dX0_multiply_108 : decode cX0_multiply 108 = .ok (.iload_n 3, 1) := by decide +kernel
theorem dX0_multiply_109 : decode cX0_multiply 109 = .ok (.sipush 128, 3) := by decide +kernel
theorem dX0_multiply_112 : decode cX0_multiply 112 = .ok (.imul, 1) := by decide +kernel
theorem dX0_multiply_113 : decode cX0_multiply 113 = .ok (.ireturn, 1) := by decide +kernel
theorem dX0_multiply_114 : decode cX0_multiply 114 = .ok (.aload_n 0, 1) := by decide +kernel
theorem dX0_multiply_115 : decode cX0_multiply 115 = .ok (.iload_n 1, 1) := by decide +kernel
theorem dX0_multiply_116 : decode cX0_multiply 116 = .ok (.invokevirtual 57, 3) := by decide +kernel
theorem dX0_multiply_119 : decode cX0_multiply 119 = .ok (.aload_n 0, 1) := by decide +kernel
theorem dX0_multiply_120 : decode cX0_multiply 120 = .ok (.getfield 16, 3) := by decide +kernel
theorem dX0_multiply_123 : decode cX0_multiply 123 = .ok (.lstore 4, 2) := by decide +kernel
theorem dX0_multiply_125 : decode cX0_multiply 125 = .ok (.aload_n 0, 1) := by decide +kernel
theorem dX0_multiply_126 : decode cX0_multiply 126 = .ok (.getfield 20, 3) := by decide +kernel
theorem dX0_multiply_129 : decode cX0_multiply 129 = .ok (.istore 6, 2) := by decide +kernel
theorem dX0_multiply_131 : decode cX0_multiply 131 = .ok (.aload_n 0, 1) := by decide +kernel
theorem dX0_multiply_132 : decode cX0_multiply 132 = .ok (.iload_n 2, 1) := by decide +kernel
theorem dX0_multiply_133 : decode cX0_multiply 133 = .ok (.invokevirtual 57, 3) := by decide +kernel
theorem dX0_multiply_136 : decode cX0_multiply 136 = .ok (.aload_n 0, 1) := by decide +kernel
theorem dX0_multiply_137 : decode cX0_multiply 137 = .ok (.iload_n 3, 1) := by decide +kernel
theorem dX0_multiply_138 : decode cX0_multiply 138 = .ok (.lload 4, 2) := by decide +kernel
theorem dX0_multiply_140 : decode cX0_multiply 140 = .ok (.aload_n 0, 1) := by decide +kernel
theorem dX0_multiply_141 : decode cX0_multiply 141 = .ok (.getfield 16, 3) := by decide +kernel
theorem dX0_multiply_144 : decode cX0_multiply 144 = .ok (.lmul, 1) := by decide +kernel
theorem dX0_multiply_145 : decode cX0_multiply 145 = .ok (.iload 6, 2) := by decide +kernel
theorem dX0_multiply_147 : decode cX0_multiply 147 = .ok (.aload_n 0, 1) := by decide +kernel
theorem dX0_multiply_148 : decode cX0_multiply 148 = .ok (.getfield 20, 3) := by decide +kernel
theorem dX0_multiply_151 : decode cX0_multiply 151 = .ok (.iadd, 1) := by decide +kernel
theorem dX0_multiply_152 : decode cX0_multiply 152 = .ok (.bipush 9, 2) := by decide +kernel
theorem dX0_multiply_154 : decode cX0_multiply 154 = .ok (.isub, 1) := by decide +kernel
theorem dX0_multiply_155 : decode cX0_multiply 155 = .ok (.iconst 0, 1) := by decide +kernel
theorem dX0_multiply_156 : decode cX0_multiply 156 = .ok (.invokevirtual 42, 3) := by decide +kernel
theorem dX0_multiply_159 : decode cX0_multiply 159 = .ok (.ireturn, 1) := by decide +kernel
theorem dX0_isZero_0 : decode cX0_isZero 0 = .ok (.iload_n 1, 1) := by decide +kernel
theorem dX0_isZero_1 : decode cX0_isZero 1 = .ok (.bipush 127, 2) := by decide +kernel
theorem dX0_isZero_3 : decode cX0_isZero 3 = .ok (.iand, 1) := by decide +kernel
theorem dX0_isZero_4 : decode cX0_isZero 4 = .ok (.ifCond .ne 7, 3) := by decide +kernel
theorem dX0_isZero_7 : decode cX0_isZero 7 = .ok (.iconst 1, 1) := by decide +kernel
theorem dX0_isZero_8 : decode cX0_isZero 8 = .ok (.goto 4, 3) := by decide +kernel
theorem dX0_isZero_11 : decode cX0_isZero 11 = .ok (.iconst 0, 1) := by decide +kernel
theorem dX0_isZero_12 : decode cX0_isZero 12 = .ok (.ireturn, 1) := by decide +kernel
theorem dX0_divide_0 : decode cX0_divide 0 = .ok (.aload_n 0, 1) := by decide +kernel
theorem dX0_divide_1 : decode cX0_divide 1 = .ok (.iload_n 1, 1) := by decide +kernel
theorem dX0_divide_2 : decode cX0_divide 2 = .ok (.invokevirtual 68, 3) := by decide +kernel
theorem dX0_divide_5 : decode cX0_divide 5 = .ok (.ifCond .ne 11, 3) := by decide +kernel
theorem dX0_divide_8 : decode cX0_divide 8 = .ok (.aload_n 0, 1) := by decide +kernel
theorem dX0_divide_9 : decode cX0_divide 9 = .ok (.iload_n 2, 1) := by decide +kernel
theorem dX0_divide_10 : decode cX0_divide 10 = .ok (.invokevirtual 68, 3) := by decide +kernel
theorem dX0_divide_13 : decode cX0_divide 13 = .ok (.ifCond .eq 5, 3) := by decide +kernel
theorem dX0_divide_16 : decode cX0_divide 16 = .ok (.iconst (-1), 1) := by decide +kernel
theorem dX0_divide_17 : decode cX0_divide 17 = .ok (.ireturn, 1) := by decide +kernel
theorem dX0_divide_18 : decode cX0_divide 18 = .ok (.aload_n 0, 1) := by decide +kernel
theorem dX0_divide_19 : decode cX0_divide 19 = .ok (.iload_n 1, 1) := by decide +kernel
theorem dX0_divide_20 : decode cX0_divide 20 = .ok (.invokevirtual 46, 3) := by decide +kernel
theorem dX0_divide_23 : decode cX0_divide 23 = .ok (.ifCond .ne 11, 3) := by decide +kernel
theorem dX0_divide_26 : decode cX0_divide 26 = .ok (.aload_n 0, 1) := by decide +kernel
theorem dX0_divide_27 : decode cX0_divide 27 = .ok (.iload_n 2, 1) := by decide +kernel
theorem dX0_divide_28 : decode cX0_divide 28 = .ok (.invokevirtual 46, 3) := by decide +kernel
theorem dX0_divide_31 : decode cX0_divide 31 = .ok (.ifCond .eq 6, 3) := by decide +kernel
theorem dX0_divide_34 : decode cX0_divide 34 = .ok (.bipush 124, 2) := by decide +kernel
theorem dX0_divide_36 : decode cX0_divide 36 = .ok (.ireturn, 1) := by decide +kernel
theorem dX0_divide_37 : decode cX0_divide 37 = .ok (.iload_n 1, 1) := by decide +kernel
theorem dX0_divide_38 : decode cX0_divide 38 = .ok (.iload_n 2, 1) := by decide +kernel
theorem dX0_divide_39 : decode cX0_divide 39 = .ok (.ixor, 1) := by decide +kernel
theorem dX0_divide_40 : decode cX0_divide 40 = .ok (.bipush 7, 2) := by decide +kernel
theorem dX0_divide_42 : decode cX0_divide 42 = .ok (.ishr, 1) := by decide +kernel
theorem dX0_divide_43 : decode cX0_divide 43 = .ok (.istore_n 3, 1) := by decide +kernel
theorem dX0_divide_44 : decode cX0_divide 44 = .ok (.aload_n 0, 1) := by decide +kernel
theorem dX0_divide_45 : decode cX0_divide 45 = .ok (.iload_n 1, 1) := by decide +kernel
theorem dX0_divide_46 : decode cX0_divide 46 = .ok (.invokevirtual 74, 3) := by decide +kernel
theorem dX0_divide_49 : decode cX0_divide 49 = .ok (.ifCond .eq 11, 3) := by decide +kernel
theorem dX0_divide_52 : decode cX0_divide 52 = .ok (.aload_n 0, 1) := by decide +kernel
theorem dX0_divide_53 : decode cX0_divide 53 = .ok (.iload_n 2, 1) := by decide +kernel
theorem dX0_divide_54 : decode cX0_divide 54 = .ok (.invokevirtual 74, 3) := by decide +kernel
theorem dX0_divide_57 : decode cX0_divide 57 = .ok (.ifCond .ne 19, 3) := by decide +kernel
theorem dX0_divide_60 : decode cX0_divide 60 = .ok (.aload_n 0, 1) := by decide +kernel
theorem dX0_divide_61 : decode cX0_divide 61 = .ok (.iload_n 1, 1) := by decide +kernel
theorem dX0_divide_62 : decode cX0_divide 62 = .ok (.invokevirtual 50, 3) := by decide +kernel
theorem dX0_divide_65 : decode cX0_divide 65 = .ok (.ifCond .eq 16, 3) := by decide +kernel
theorem dX0_divide_68 : decode cX0_divide 68 = .ok (.aload_n 0, 1) := by decide +kernel
theorem dX0_divide_69 : decode cX0_divide 69 = .ok (.iload_n 2, 1) := by decide +kernel
theorem dX0_divide_70 : decode cX0_divide 70 = .ok (.invokevirtual 50, 3) := by decide +kernel
theorem dX0_divide_73 : decode cX0_divide 73 = .ok (.ifCond .eq 8, 3) := by decide +kernel
theorem dX0_divide_76 : decode cX0_divide 76 = .ok (.aload_n 0, 1) := by decide +kernel
theorem dX0_divide_77 : decode cX0_divide 77 = .ok (.invokevirtual 53, 3) := by decide +kernel
theorem dX0_divide_80 : decode cX0_divide 80 = .ok (.ireturn, 1) := by decide +kernel
theorem dX0_divide_81 : decode cX0_divide 81 = .ok (.aload_n 0, 1) := by decide +kernel
theorem dX0_divide_82 : decode cX0_divide 82 = .ok (.iload_n 1, 1) := by decide +kernel
theorem dX0_divide_83 : decode cX0_divide 83 = .ok (.invokevirtual 50, 3) := by decide +kernel
theorem dX0_divide_86 : decode cX0_divide 86 = .ok (.ifCond .eq 12, 3) := by decide +kernel
theorem dX0_divide_89 : decode cX0_divide 89 = .ok (.iload_n 3, 1) := by decide +kernel
theorem dX0_divide_90 : decode cX0_divide 90 = .ok (.sipush 128, 3) := by decide +kernel
theorem dX0_divide_93 : decode cX0_divide 93 = .ok (.imul, 1) := by decide +kernel
theorem dX0_divide_94 : decode cX0_divide 94 = .ok (.bipush 120, 2) := by decide +kernel
theorem dX0_divide_96 : decode cX0_divide 96 = .ok (.iadd, 1) := by decide +kernel
theorem dX0_divide_97 : decode cX0_divide 97 = .ok (.ireturn, 1) := by decide +kernel
theorem dX0_divide_98 : decode cX0_divide 98 = .ok (.aload_n 0, 1) := by decide +kernel
theorem dX0_divide_99 : decode cX0_divide 99 = .ok (.iload_n 1, 1) := by decide +kernel
theorem dX0_divide_100 : decode cX0_divide 100 = .ok (.invokevirtual 74, 3) := by decide +kernel
theorem dX0_divide_103 : decode cX0_divide 103 = .ok (.ifCond .ne 11, 3) := by decide +kernel
theorem dX0_divide_106 : decode cX0_divide 106 = .ok (.aload_n 0, 1) := by decide +kernel
theorem dX0_divide_107 : decode cX0_divide 107 = .ok (.iload_n 2, 1) := by decide +kernel
theorem dX0_divide_108 : decode cX0_divide 108 = .ok (.invokevirtual 50, 3) := by decide +kernel
theorem dX0_divide_111 : decode cX0_divide 111 = .ok (.ifCond .eq 9, 3) := by decide +kernel
theorem dX0_divide_114 : decode cX0_divide 114 = .ok (.iload_n 3, 1) := by decide +kernel
theorem dX0_divide_115 : decode cX0_divide 115 = .ok (.sipush 128, 3) := by decide +kernel
theorem dX0_divide_118 : decode cX0_divide 118 = .ok (.imul, 1) := by decide +kernel
theorem dX0_divide_119 : decode cX0_divide 119 = .ok (.ireturn, 1) := by decide +kernel
theorem dX0_divide_120 : decode cX0_divide 120 = .ok (.aload_n 0, 1) := by decide +kernel
theorem dX0_divide_121 : decode cX0_divide 121 = .ok (.iload_n 2, 1) := by decide +kernel
theorem dX0_divide_122 : decode cX0_divide 122 = .ok (.invokevirtual 74, 3) := by decide +kernel
theorem dX0_divide_125 : decode cX0_divide 125 = .ok (.ifCond .eq 23, 3) := by decide +kernel
theorem dX0_divide_128 : decode cX0_divide 128 = .ok (.aload_n 0, 1) := by decide +kernel
theorem dX0_divide_129 : decode cX0_divide 129 = .ok (.aload_n 0, 1) := by decide +kernel
theorem dX0_divide_130 : decode cX0_divide 130 = .ok (.getfield 9, 3) := by decide +kernel
theorem dX0_divide_133 : decode cX0_divide 133 = .ok (.bipush 8, 2) := by decide +kernel
theorem dX0_divide_135 : decode cX0_divide 135 = .ok (.ior, 1) := by decide +kernel
theorem dX0_divide_136 : decode cX0_divide 136 = .ok (.putfield 9, 3) := by decide +kernel
theorem dX0_divide_139 : decode cX0_divide 139 = .ok (.iload_n 3, 1) := by decide +kernel
theorem dX0_divide_140 : decode cX0_divide 140 = .ok (.sipush 128, 3) := by decide +kernel
theorem dX0_divide_143 : decode cX0_divide 143 = .ok (.imul, 1) := by decide +kernel
theorem dX0_divide_144 : decode cX0_divide 144 = .ok (.bipush 120, 2) := by decide +kernel
theorem dX0_divide_146 : decode cX0_divide 146 = .ok (.iadd, 1) := by decide +kernel
theorem dX0_divide_147 : decode cX0_divide 147 = .ok (.ireturn, 1) := by decide +kernel
theorem dX0_divide_148 : decode cX0_divide 148 = .ok (.aload_n 0, 1) := by decide +kernel
theorem dX0_divide_149 : decode cX0_divide 149 = .ok (.iload_n 1, 1) := by decide +kernel
theorem dX0_divide_150 : decode cX0_divide 150 = .ok (.invokevirtual 57, 3) := by decide +kernel
theorem dX0_divide_153 : decode cX0_divide 153 = .ok (.aload_n 0, 1) := by decide +kernel
theorem dX0_divide_154 : decode cX0_divide 154 = .ok (.getfield 16, 3) := by decide +kernel
theorem dX0_divide_157 : decode cX0_divide 157 = .ok (.bipush 12, 2) := by decide +kernel
theorem dX0_divide_159 : decode cX0_divide 159 = .ok (.lshl, 1) := by decide +kernel
theorem dX0_divide_160 : decode cX0_divide 160 = .ok (.lstore 4, 2) := by decide +kernel
theorem dX0_divide_162 : decode cX0_divide 162 = .ok (.aload_n 0, 1) := by decide +kernel
theorem dX0_divide_163 : decode cX0_divide 163 = .ok (.getfield 20, 3) := by decide +kernel
theorem dX0_divide_166 : decode cX0_divide 166 = .ok (.bipush 12, 2) := by decide +kernel
theorem dX0_divide_168 : decode cX0_divide 168 = .ok (.isub, 1) := by decide +kernel
theorem dX0_divide_169 : decode cX0_divide 169 = .ok (.istore 6, 2) := by decide +kernel
theorem dX0_divide_171 : decode cX0_divide 171 = .ok (.aload_n 0, 1) := by decide +kernel
theorem dX0_divide_172 : decode cX0_divide 172 = .ok (.iload_n 2, 1) := by decide +kernel
theorem dX0_divide_173 : decode cX0_divide 173 = .ok (.invokevirtual 57, 3) := by decide +kernel
theorem dX0_divide_176 : decode cX0_divide 176 = .ok (.aload_n 0, 1) := by decide +kernel
theorem dX0_divide_177 : decode cX0_divide 177 = .ok (.getfield 16, 3) := by decide +kernel
theorem dX0_divide_180 : decode cX0_divide 180 = .ok (.lconst 0, 1) := by decide +kernel
theorem dX0_divide_181 : decode cX0_divide 181 = .ok (.lcmp, 1) := by decide +kernel
theorem dX0_divide_182 : decode cX0_divide 182 = .ok (.ifCond .le 13, 3) := by decide +kernel
theorem dX0_divide_185 : decode cX0_divide 185 = .ok (.lload 4, 2) := by decide +kernel
theorem dX0_divide_187 : decode cX0_divide 187 = .ok (.aload_n 0, 1) := by decide +kernel
theorem dX0_divide_188 : decode cX0_divide 188 = .ok (.getfield 16, 3) := by decide +kernel
theorem dX0_divide_191 : decode cX0_divide 191 = .ok (.ldiv, 1) := by decide +kernel
theorem dX0_divide_192 : decode cX0_divide 192 = .ok (.goto 4, 3) := by decide +kernel
theorem dX0_divide_195 : decode cX0_divide 195 = .ok (.lconst 0, 1) := by decide +kernel
theorem dX0_divide_196 : decode cX0_divide 196 = .ok (.lstore 7, 2) := by decide +kernel
theorem dX0_divide_198 : decode cX0_divide 198 = .ok (.aload_n 0, 1) := by decide +kernel
theorem dX0_divide_199 : decode cX0_divide 199 = .ok (.getfield 16, 3) := by decide +kernel
theorem dX0_divide_202 : decode cX0_divide 202 = .ok (.lconst 0, 1) := by decide +kernel
theorem dX0_divide_203 : decode cX0_divide 203 = .ok (.lcmp, 1) := by decide +kernel
theorem dX0_divide_204 : decode cX0_divide 204 = .ok (.ifCond .le 19, 3) := by decide +kernel
theorem dX0_divide_207 : decode cX0_divide 207 = .ok (.lload 4, 2) := by decide +kernel
theorem dX0_divide_209 : decode cX0_divide 209 = .ok (.aload_n 0, 1) := by decide +kernel
theorem dX0_divide_210 : decode cX0_divide 210 = .ok (.getfield 16, 3) := by decide +kernel
theorem dX0_divide_213 : decode cX0_divide 213 = .ok (.lrem, 1) := by decide +kernel
theorem dX0_divide_214 : decode cX0_divide 214 = .ok (.lconst 0, 1) := by decide +kernel
theorem dX0_divide_215 : decode cX0_divide 215 = .ok (.lcmp, 1) := by decide +kernel
theorem dX0_divide_216 : decode cX0_divide 216 = .ok (.ifCond .eq 7, 3) := by decide +kernel
theorem dX0_divide_219 : decode cX0_divide 219 = .ok (.iconst 1, 1) := by decide +kernel
theorem dX0_divide_220 : decode cX0_divide 220 = .ok (.goto 4, 3) := by decide +kernel
theorem dX0_divide_223 : decode cX0_divide 223 = .ok (.iconst 0, 1) := by decide +kernel
theorem dX0_divide_224 : decode cX0_divide 224 = .ok (.istore 9, 2) := by decide +kernel
theorem dX0_divide_226 : decode cX0_divide 226 = .ok (.aload_n 0, 1) := by decide +kernel
theorem dX0_divide_227 : decode cX0_divide 227 = .ok (.iload_n 3, 1) := by decide +kernel
theorem dX0_divide_228 : decode cX0_divide 228 = .ok (.lload 7, 2) := by decide +kernel
theorem dX0_divide_230 : decode cX0_divide 230 = .ok (.iload 6, 2) := by decide +kernel
theorem dX0_divide_232 : decode cX0_divide 232 = .ok (.aload_n 0, 1) := by decide +kernel
theorem dX0_divide_233 : decode cX0_divide 233 = .ok (.getfield 20, 3) := by decide +kernel
theorem dX0_divide_236 : decode cX0_divide 236 = .ok (.isub, 1) := by decide +kernel
theorem dX0_divide_237 : decode cX0_divide 237 = .ok (.bipush 9, 2) := by decide +kernel
theorem dX0_divide_239 : decode cX0_divide 239 = .ok (.iadd, 1) := by decide +kernel
theorem dX0_divide_240 : decode cX0_divide 240 = .ok (.iload 9, 2) := by decide +kernel
theorem dX0_divide_242 : decode cX0_divide 242 = .ok (.invokevirtual 42, 3) := by decide +kernel
theorem dX0_divide_245 : decode cX0_divide 245 = .ok (.ireturn, 1) := by decide +kernel
theorem dX0_root_0 : decode cX0_root 0 = .ok (.aload_n 0, 1) := by decide +kernel
theorem dX0_root_1 : decode cX0_root 1 = .ok (.iload_n 1, 1) := by decide +kernel
theorem dX0_root_2 : decode cX0_root 2 = .ok (.invokevirtual 68, 3) := by decide +kernel
theorem dX0_root_5 : decode cX0_root 5 = .ok (.ifCond .eq 5, 3) := by decide +kernel
theorem dX0_root_8 : decode cX0_root 8 = .ok (.iconst (-1), 1) := by decide +kernel
theorem dX0_root_9 : decode cX0_root 9 = .ok (.ireturn, 1) := by decide +kernel
theorem dX0_root_10 : decode cX0_root 10 = .ok (.aload_n 0, 1) := by decide +kernel
theorem dX0_root_11 : decode cX0_root 11 = .ok (.iload_n 1, 1) := by decide +kernel
theorem dX0_root_12 : decode cX0_root 12 = .ok (.invokevirtual 46, 3) := by decide +kernel
theorem dX0_root_15 : decode cX0_root 15 = .ok (.ifCond .eq 6, 3) := by decide +kernel
theorem dX0_root_18 : decode cX0_root 18 = .ok (.bipush 124, 2) := by decide +kernel
theorem dX0_root_20 : decode cX0_root 20 = .ok (.ireturn, 1) := by decide +kernel
theorem dX0_root_21 : decode cX0_root 21 = .ok (.aload_n 0, 1) := by decide +kernel
theorem dX0_root_22 : decode cX0_root 22 = .ok (.iload_n 1, 1) := by decide +kernel
theorem dX0_root_23 : decode cX0_root 23 = .ok (.invokevirtual 74, 3) := by decide +kernel
theorem dX0_root_26 : decode cX0_root 26 = .ok (.ifCond .eq 5, 3) := by decide +kernel
theorem dX0_root_29 : decode cX0_root 29 = .ok (.iload_n 1, 1) := by decide +kernel
theorem dX0_root_30 : decode cX0_root 30 = .ok (.ireturn, 1) := by decide +kernel
theorem dX0_root_31 : decode cX0_root 31 = .ok (.iload_n 1, 1) := by decide +kernel
theorem dX0_root_32 : decode cX0_root 32 = .ok (.sipush 128, 3) := by decide +kernel
theorem dX0_root_35 : decode cX0_root 35 = .ok (.if_icmp .lt 8, 3) := by decide +kernel
theorem dX0_root_38 : decode cX0_root 38 = .ok (.aload_n 0, 1) := by decide +kernel
theorem dX0_root_39 : decode cX0_root 39 = .ok (.invokevirtual 53, 3) := by decide +kernel
theorem dX0_root_42 : decode cX0_root 42 = .ok (.ireturn, 1) := by decide +kernel
theorem dX0_root_43 : decode cX0_root 43 = .ok (.aload_n 0, 1) := by decide +kernel
theorem dX0_root_44 : decode cX0_root 44 = .ok (.iload_n 1, 1) := by decide +kernel
theorem dX0_root_45 : decode cX0_root 45 = .ok (.invokevirtual 50, 3) := by decide +kernel
theorem dX0_root_48 : decode cX0_root 48 = .ok (.ifCond .eq 5, 3) := by decide +kernel
theorem dX0_root_51 : decode cX0_root 51 = .ok (.iload_n 1, 1) := by decide +kernel
theorem dX0_root_52 : decode cX0_root 52 = .ok (.ireturn, 1) := by decide +kernel
theorem dX0_root_53 : decode cX0_root 53 = .ok (.aload_n 0, 1) := by decide +kernel
theorem dX0_root_54 : decode cX0_root 54 = .ok (.iload_n 1, 1) := by decide +kernel
theorem dX0_root_55 : decode cX0_root 55 = .ok (.invokevirtual 57, 3) := by decide +kernel
theorem dX0_root_58 : decode cX0_root 58 = .ok (.aload_n 0, 1) := by decide +kernel
theorem dX0_root_59 : decode cX0_root 59 = .ok (.getfield 20, 3) := by decide +kernel
theorem dX0_root_62 : decode cX0_root 62 = .ok (.bipush 9, 2) := by decide +kernel
theorem dX0_root_64 : decode cX0_root 64 = .ok (.iadd, 1) := by decide +kernel
theorem dX0_root_65 : decode cX0_root 65 = .ok (.istore_n 2, 1) := by decide +kernel
theorem dX0_root_66 : decode cX0_root 66 = .ok (.aload_n 0, 1) := by decide +kernel
theorem dX0_root_67 : decode cX0_root 67 = .ok (.getfield 16, 3) := by decide +kernel
theorem dX0_root_70 : decode cX0_root 70 = .ok (.bipush 16, 2) := by decide +kernel
theorem dX0_root_72 : decode cX0_root 72 = .ok (.lshl, 1) := by decide +kernel
theorem dX0_root_73 : decode cX0_root 73 = .ok (.lstore_n 3, 1) := by decide +kernel
theorem dX0_root_74 : decode cX0_root 74 = .ok (.iload_n 2, 1) := by decide +kernel
theorem dX0_root_75 : decode cX0_root 75 = .ok (.bipush 16, 2) := by decide +kernel
theorem dX0_root_77 : decode cX0_root 77 = .ok (.isub, 1) := by decide +kernel
theorem dX0_root_78 : decode cX0_root 78 = .ok (.istore_n 2, 1) := by decide +kernel
theorem dX0_root_79 : decode cX0_root 79 = .ok (.iload_n 2, 1) := by decide +kernel
theorem dX0_root_80 : decode cX0_root 80 = .ok (.iconst 1, 1) := by decide +kernel
theorem dX0_root_81 : decode cX0_root 81 = .ok (.iand, 1) := by decide +kernel
theorem dX0_root_82 : decode cX0_root 82 = .ok (.iconst 1, 1) := by decide +kernel
theorem dX0_root_83 : decode cX0_root 83 = .ok (.if_icmp .ne 10, 3) := by decide +kernel
theorem dX0_root_86 : decode cX0_root 86 = .ok (.lload_n 3, 1) := by decide +kernel
theorem dX0_root_87 : decode cX0_root 87 = .ok (.iconst 1, 1) := by decide +kernel
theorem dX0_root_88 : decode cX0_root 88 = .ok (.lshl, 1) := by decide +kernel
theorem dX0_root_89 : decode cX0_root 89 = .ok (.lstore_n 3, 1) := by decide +kernel
theorem dX0_root_90 : decode cX0_root 90 = .ok (.iinc 2 (-1), 3) := by decide +kernel
theorem dX0_root_93 : decode cX0_root 93 = .ok (.lconst 0, 1) := by decide +kernel
theorem dX0_root_94 : decode cX0_root 94 = .ok (.lstore 5, 2) := by decide +kernel
theorem dX0_root_96 : decode cX0_root 96 = .ok (.bipush 12, 2) := by decide +kernel
theorem dX0_root_98 : decode cX0_root 98 = .ok (.istore 7, 2) := by decide +kernel
theorem dX0_root_100 : decode cX0_root 100 = .ok (.iload 7, 2) := by decide +kernel
theorem dX0_root_102 : decode cX0_root 102 = .ok (.ifCond .lt 32, 3) := by decide +kernel
theorem dX0_root_105 : decode cX0_root 105 = .ok (.lload 5, 2) := by decide +kernel
theorem dX0_root_107 : decode cX0_root 107 = .ok (.lconst 1, 1) := by decide +kernel
theorem dX0_root_108 : decode cX0_root 108 = .ok (.iload 7, 2) := by decide +kernel
theorem dX0_root_110 : decode cX0_root 110 = .ok (.lshl, 1) := by decide +kernel
theorem dX0_root_111 : decode cX0_root 111 = .ok (.lor, 1) := by decide +kernel
theorem dX0_root_112 : decode cX0_root 112 = .ok (.lstore 8, 2) := by decide +kernel
theorem dX0_root_114 : decode cX0_root 114 = .ok (.lload 8, 2) := by decide +kernel
theorem dX0_root_116 : decode cX0_root 116 = .ok (.lload 8, 2) := by decide +kernel
theorem dX0_root_118 : decode cX0_root 118 = .ok (.lmul, 1) := by decide +kernel
theorem dX0_root_119 : decode cX0_root 119 = .ok (.lload_n 3, 1) := by decide +kernel
theorem dX0_root_120 : decode cX0_root 120 = .ok (.lcmp, 1) := by decide +kernel
theorem dX0_root_121 : decode cX0_root 121 = .ok (.ifCond .gt 7, 3) := by decide +kernel
theorem dX0_root_124 : decode cX0_root 124 = .ok (.lload 8, 2) := by decide +kernel
theorem dX0_root_126 : decode cX0_root 126 = .ok (.lstore 5, 2) := by decide +kernel
theorem dX0_root_128 : decode cX0_root 128 = .ok (.iinc 7 (-1), 3) := by decide +kernel
theorem dX0_root_131 : decode cX0_root 131 = .ok (.goto (-31), 3) := by decide +kernel
theorem dX0_root_134 : decode cX0_root 134 = .ok (.aload_n 0, 1) := by decide +kernel
theorem dX0_root_135 : decode cX0_root 135 = .ok (.iconst 0, 1) := by decide +kernel
theorem dX0_root_136 : decode cX0_root 136 = .ok (.lload 5, 2) := by decide +kernel
theorem dX0_root_138 : decode cX0_root 138 = .ok (.iload_n 2, 1) := by decide +kernel
end
section
set_option maxRecDepth 100000
theorem dX0_root_139 : decode cX0_root 139 = .ok (.iconst 2, 1) := by decide +kernel
theorem dX0_root_140 : decode cX0_root 140 = .ok (.idiv, 1) := by decide +kernel
theorem dX0_root_141 : decode cX0_root 141 = .ok (.lload 5, 2) := by decide +kernel
theorem dX0_root_143 : decode cX0_root 143 = .ok (.lload 5, 2) := by decide +kernel
theorem dX0_root_145 : decode cX0_root 145 = .ok (.lmul, 1) := by decide +kernel
theorem dX0_root_146 : decode cX0_root 146 = .ok (.lload_n 3, 1) := by decide +kernel
theorem dX0_root_147 : decode cX0_root 147 = .ok (.lcmp, 1) := by decide +kernel
theorem dX0_root_148 : decode cX0_root 148 = .ok (.ifCond .eq 7, 3) := by decide +kernel
theorem dX0_root_151 : decode cX0_root 151 = .ok (.iconst 1, 1) := by decide +kernel
theorem dX0_root_152 : decode cX0_root 152 = .ok (.goto 4, 3) := by decide +kernel
theorem dX0_root_155 : decode cX0_root 155 = .ok (.iconst 0, 1) := by decide +kernel
theorem dX0_root_156 : decode cX0_root 156 = .ok (.invokevirtual 42, 3) := by decide +kernel
theorem dX0_root_159 : decode cX0_root 159 = .ok (.ireturn, 1) := by decide +kernel
theorem dX0_together_0 : decode cX0_together 0 = .ok (.aload_n 0, 1) := by decide +kernel
theorem dX0_together_1 : decode cX0_together 1 = .ok (.iload_n 1, 1) := by decide +kernel
theorem dX0_together_2 : decode cX0_together 2 = .ok (.invokevirtual 68, 3) := by decide +kernel
theorem dX0_together_5 : decode cX0_together 5 = .ok (.ifCond .ne 19, 3) := by decide +kernel
theorem dX0_together_8 : decode cX0_together 8 = .ok (.aload_n 0, 1) := by decide +kernel
theorem dX0_together_9 : decode cX0_together 9 = .ok (.iload_n 2, 1) := by decide +kernel
theorem dX0_together_10 : decode cX0_together 10 = .ok (.invokevirtual 68, 3) := by decide +kernel
theorem dX0_together_13 : decode cX0_together 13 = .ok (.ifCond .ne 11, 3) := by decide +kernel
theorem dX0_together_16 : decode cX0_together 16 = .ok (.aload_n 0, 1) := by decide +kernel
theorem dX0_together_17 : decode cX0_together 17 = .ok (.iload_n 3, 1) := by decide +kernel
theorem dX0_together_18 : decode cX0_together 18 = .ok (.invokevirtual 68, 3) := by decide +kernel
theorem dX0_together_21 : decode cX0_together 21 = .ok (.ifCond .eq 7, 3) := by decide +kernel
theorem dX0_together_24 : decode cX0_together 24 = .ok (.iconst (-1), 1) := by decide +kernel
theorem dX0_together_25 : decode cX0_together 25 = .ok (.goto 10, 3) := by decide +kernel
theorem dX0_together_28 : decode cX0_together 28 = .ok (.aload_n 0, 1) := by decide +kernel
theorem dX0_together_29 : decode cX0_together 29 = .ok (.iload_n 1, 1) := by decide +kernel
theorem dX0_together_30 : decode cX0_together 30 = .ok (.iload_n 2, 1) := by decide +kernel
theorem dX0_together_31 : decode cX0_together 31 = .ok (.iload_n 3, 1) := by decide +kernel
theorem dX0_together_32 : decode cX0_together 32 = .ok (.invokevirtual 77, 3) := by decide +kernel
theorem dX0_together_35 : decode cX0_together 35 = .ok (.ireturn, 1) := by decide +kernel
theorem dX0_productSum_0 : decode cX0_productSum 0 = .ok (.aload_n 0, 1) := by decide +kernel
theorem dX0_productSum_1 : decode cX0_productSum 1 = .ok (.iload_n 1, 1) := by decide +kernel
theorem dX0_productSum_2 : decode cX0_productSum 2 = .ok (.invokevirtual 46, 3) := by decide +kernel
theorem dX0_productSum_5 : decode cX0_productSum 5 = .ok (.ifCond .ne 19, 3) := by decide +kernel
theorem dX0_productSum_8 : decode cX0_productSum 8 = .ok (.aload_n 0, 1) := by decide +kernel
theorem dX0_productSum_9 : decode cX0_productSum 9 = .ok (.iload_n 2, 1) := by decide +kernel
theorem dX0_productSum_10 : decode cX0_productSum 10 = .ok (.invokevirtual 46, 3) := by decide +kernel
theorem dX0_productSum_13 : decode cX0_productSum 13 = .ok (.ifCond .ne 11, 3) := by decide +kernel
theorem dX0_productSum_16 : decode cX0_productSum 16 = .ok (.aload_n 0, 1) := by decide +kernel
theorem dX0_productSum_17 : decode cX0_productSum 17 = .ok (.iload_n 3, 1) := by decide +kernel
theorem dX0_productSum_18 : decode cX0_productSum 18 = .ok (.invokevirtual 46, 3) := by decide +kernel
theorem dX0_productSum_21 : decode cX0_productSum 21 = .ok (.ifCond .eq 6, 3) := by decide +kernel
theorem dX0_productSum_24 : decode cX0_productSum 24 = .ok (.bipush 124, 2) := by decide +kernel
theorem dX0_productSum_26 : decode cX0_productSum 26 = .ok (.ireturn, 1) := by decide +kernel
theorem dX0_productSum_27 : decode cX0_productSum 27 = .ok (.iload_n 1, 1) := by decide +kernel
theorem dX0_productSum_28 : decode cX0_productSum 28 = .ok (.iload_n 2, 1) := by decide +kernel
theorem dX0_productSum_29 : decode cX0_productSum 29 = .ok (.ixor, 1) := by decide +kernel
theorem dX0_productSum_30 : decode cX0_productSum 30 = .ok (.bipush 7, 2) := by decide +kernel
theorem dX0_productSum_32 : decode cX0_productSum 32 = .ok (.ishr, 1) := by decide +kernel
theorem dX0_productSum_33 : decode cX0_productSum 33 = .ok (.istore 4, 2) := by decide +kernel
theorem dX0_productSum_35 : decode cX0_productSum 35 = .ok (.aload_n 0, 1) := by decide +kernel
theorem dX0_productSum_36 : decode cX0_productSum 36 = .ok (.iload_n 1, 1) := by decide +kernel
theorem dX0_productSum_37 : decode cX0_productSum 37 = .ok (.invokevirtual 50, 3) := by decide +kernel
theorem dX0_productSum_40 : decode cX0_productSum 40 = .ok (.ifCond .ne 11, 3) := by decide +kernel
theorem dX0_productSum_43 : decode cX0_productSum 43 = .ok (.aload_n 0, 1) := by decide +kernel
theorem dX0_productSum_44 : decode cX0_productSum 44 = .ok (.iload_n 2, 1) := by decide +kernel
theorem dX0_productSum_45 : decode cX0_productSum 45 = .ok (.invokevirtual 50, 3) := by decide +kernel
theorem dX0_productSum_48 : decode cX0_productSum 48 = .ok (.ifCond .eq 51, 3) := by decide +kernel
theorem dX0_productSum_51 : decode cX0_productSum 51 = .ok (.aload_n 0, 1) := by decide +kernel
theorem dX0_productSum_52 : decode cX0_productSum 52 = .ok (.iload_n 1, 1) := by decide +kernel
theorem dX0_productSum_53 : decode cX0_productSum 53 = .ok (.invokevirtual 74, 3) := by decide +kernel
theorem dX0_productSum_56 : decode cX0_productSum 56 = .ok (.ifCond .ne 28, 3) := by decide +kernel
theorem dX0_productSum_59 : decode cX0_productSum 59 = .ok (.aload_n 0, 1) := by decide +kernel
theorem dX0_productSum_60 : decode cX0_productSum 60 = .ok (.iload_n 2, 1) := by decide +kernel
theorem dX0_productSum_61 : decode cX0_productSum 61 = .ok (.invokevirtual 74, 3) := by decide +kernel
theorem dX0_productSum_64 : decode cX0_productSum 64 = .ok (.ifCond .ne 20, 3) := by decide +kernel
theorem dX0_productSum_67 : decode cX0_productSum 67 = .ok (.aload_n 0, 1) := by decide +kernel
theorem dX0_productSum_68 : decode cX0_productSum 68 = .ok (.iload_n 3, 1) := by decide +kernel
theorem dX0_productSum_69 : decode cX0_productSum 69 = .ok (.invokevirtual 50, 3) := by decide +kernel
theorem dX0_productSum_72 : decode cX0_productSum 72 = .ok (.ifCond .eq 17, 3) := by decide +kernel
theorem dX0_productSum_75 : decode cX0_productSum 75 = .ok (.iload_n 3, 1) := by decide +kernel
theorem dX0_productSum_76 : decode cX0_productSum 76 = .ok (.bipush 7, 2) := by decide +kernel
theorem dX0_productSum_78 : decode cX0_productSum 78 = .ok (.ishr, 1) := by decide +kernel
theorem dX0_productSum_79 : decode cX0_productSum 79 = .ok (.iload 4, 2) := by decide +kernel
theorem dX0_productSum_81 : decode cX0_productSum 81 = .ok (.if_icmp .eq 8, 3) := by decide +kernel
theorem dX0_productSum_84 : decode cX0_productSum 84 = .ok (.aload_n 0, 1) := by decide +kernel
theorem dX0_productSum_85 : decode cX0_productSum 85 = .ok (.invokevirtual 53, 3) := by decide +kernel
theorem dX0_productSum_88 : decode cX0_productSum 88 = .ok (.ireturn, 1) := by decide +kernel
theorem dX0_productSum_89 : decode cX0_productSum 89 = .ok (.iload 4, 2) := by decide +kernel
theorem dX0_productSum_91 : decode cX0_productSum 91 = .ok (.sipush 128, 3) := by decide +kernel
theorem dX0_productSum_94 : decode cX0_productSum 94 = .ok (.imul, 1) := by decide +kernel
theorem dX0_productSum_95 : decode cX0_productSum 95 = .ok (.bipush 120, 2) := by decide +kernel
theorem dX0_productSum_97 : decode cX0_productSum 97 = .ok (.iadd, 1) := by decide +kernel
theorem dX0_productSum_98 : decode cX0_productSum 98 = .ok (.ireturn, 1) := by decide +kernel
theorem dX0_productSum_99 : decode cX0_productSum 99 = .ok (.aload_n 0, 1) := by decide +kernel
theorem dX0_productSum_100 : decode cX0_productSum 100 = .ok (.iload_n 3, 1) := by decide +kernel
theorem dX0_productSum_101 : decode cX0_productSum 101 = .ok (.invokevirtual 50, 3) := by decide +kernel
theorem dX0_productSum_104 : decode cX0_productSum 104 = .ok (.ifCond .eq 5, 3) := by decide +kernel
theorem dX0_productSum_107 : decode cX0_productSum 107 = .ok (.iload_n 3, 1) := by decide +kernel
theorem dX0_productSum_108 : decode cX0_productSum 108 = .ok (.ireturn, 1) := by decide +kernel
theorem dX0_productSum_109 : decode cX0_productSum 109 = .ok (.aload_n 0, 1) := by decide +kernel
theorem dX0_productSum_110 : decode cX0_productSum 110 = .ok (.iload_n 1, 1) := by decide +kernel
theorem dX0_productSum_111 : decode cX0_productSum 111 = .ok (.invokevirtual 57, 3) := by decide +kernel
theorem dX0_productSum_114 : decode cX0_productSum 114 = .ok (.aload_n 0, 1) := by decide +kernel
theorem dX0_productSum_115 : decode cX0_productSum 115 = .ok (.getfield 16, 3) := by decide +kernel
theorem dX0_productSum_118 : decode cX0_productSum 118 = .ok (.lstore 5, 2) := by decide +kernel
theorem dX0_productSum_120 : decode cX0_productSum 120 = .ok (.aload_n 0, 1) := by decide +kernel
theorem dX0_productSum_121 : decode cX0_productSum 121 = .ok (.getfield 20, 3) := by decide +kernel
theorem dX0_productSum_124 : decode cX0_productSum 124 = .ok (.istore 7, 2) := by decide +kernel
theorem dX0_productSum_126 : decode cX0_productSum 126 = .ok (.aload_n 0, 1) := by decide +kernel
theorem dX0_productSum_127 : decode cX0_productSum 127 = .ok (.iload_n 2, 1) := by decide +kernel
theorem dX0_productSum_128 : decode cX0_productSum 128 = .ok (.invokevirtual 57, 3) := by decide +kernel
theorem dX0_productSum_131 : decode cX0_productSum 131 = .ok (.lload 5, 2) := by decide +kernel
theorem dX0_productSum_133 : decode cX0_productSum 133 = .ok (.aload_n 0, 1) := by decide +kernel
theorem dX0_productSum_134 : decode cX0_productSum 134 = .ok (.getfield 16, 3) := by decide +kernel
theorem dX0_productSum_137 : decode cX0_productSum 137 = .ok (.lmul, 1) := by decide +kernel
theorem dX0_productSum_138 : decode cX0_productSum 138 = .ok (.lstore 5, 2) := by decide +kernel
theorem dX0_productSum_140 : decode cX0_productSum 140 = .ok (.iload 7, 2) := by decide +kernel
theorem dX0_productSum_142 : decode cX0_productSum 142 = .ok (.aload_n 0, 1) := by decide +kernel
theorem dX0_productSum_143 : decode cX0_productSum 143 = .ok (.getfield 20, 3) := by decide +kernel
theorem dX0_productSum_146 : decode cX0_productSum 146 = .ok (.iadd, 1) := by decide +kernel
theorem dX0_productSum_147 : decode cX0_productSum 147 = .ok (.bipush 9, 2) := by decide +kernel
theorem dX0_productSum_149 : decode cX0_productSum 149 = .ok (.isub, 1) := by decide +kernel
theorem dX0_productSum_150 : decode cX0_productSum 150 = .ok (.istore 7, 2) := by decide +kernel
theorem dX0_productSum_152 : decode cX0_productSum 152 = .ok (.aload_n 0, 1) := by decide +kernel
theorem dX0_productSum_153 : decode cX0_productSum 153 = .ok (.iload_n 3, 1) := by decide +kernel
theorem dX0_productSum_154 : decode cX0_productSum 154 = .ok (.invokevirtual 57, 3) := by decide +kernel
theorem dX0_productSum_157 : decode cX0_productSum 157 = .ok (.lload 5, 2) := by decide +kernel
theorem dX0_productSum_159 : decode cX0_productSum 159 = .ok (.lconst 0, 1) := by decide +kernel
theorem dX0_productSum_160 : decode cX0_productSum 160 = .ok (.lcmp, 1) := by decide +kernel
theorem dX0_productSum_161 : decode cX0_productSum 161 = .ok (.ifCond .ne 23, 3) := by decide +kernel
theorem dX0_productSum_164 : decode cX0_productSum 164 = .ok (.aload_n 0, 1) := by decide +kernel
theorem dX0_productSum_165 : decode cX0_productSum 165 = .ok (.getfield 16, 3) := by decide +kernel
theorem dX0_productSum_168 : decode cX0_productSum 168 = .ok (.lconst 0, 1) := by decide +kernel
theorem dX0_productSum_169 : decode cX0_productSum 169 = .ok (.lcmp, 1) := by decide +kernel
theorem dX0_productSum_170 : decode cX0_productSum 170 = .ok (.ifCond .ne 14, 3) := by decide +kernel
theorem dX0_productSum_173 : decode cX0_productSum 173 = .ok (.aload_n 0, 1) := by decide +kernel
theorem dX0_productSum_174 : decode cX0_productSum 174 = .ok (.iload 4, 2) := by decide +kernel
theorem dX0_productSum_176 : decode cX0_productSum 176 = .ok (.aload_n 0, 1) := by decide +kernel
theorem dX0_productSum_177 : decode cX0_productSum 177 = .ok (.getfield 13, 3) := by decide +kernel
theorem dX0_productSum_180 : decode cX0_productSum 180 = .ok (.invokevirtual 38, 3) := by decide +kernel
theorem dX0_productSum_183 : decode cX0_productSum 183 = .ok (.ireturn, 1) := by decide +kernel
theorem dX0_productSum_184 : decode cX0_productSum 184 = .ok (.aload_n 0, 1) := by decide +kernel
theorem dX0_productSum_185 : decode cX0_productSum 185 = .ok (.iload 4, 2) := by decide +kernel
theorem dX0_productSum_187 : decode cX0_productSum 187 = .ok (.lload 5, 2) := by decide +kernel
theorem dX0_productSum_189 : decode cX0_productSum 189 = .ok (.iload 7, 2) := by decide +kernel
theorem dX0_productSum_191 : decode cX0_productSum 191 = .ok (.invokevirtual 61, 3) := by decide +kernel
theorem dX0_productSum_194 : decode cX0_productSum 194 = .ok (.ireturn, 1) := by decide +kernel
theorem dX0_compare_0 : decode cX0_compare 0 = .ok (.aload_n 0, 1) := by decide +kernel
theorem dX0_compare_1 : decode cX0_compare 1 = .ok (.iload_n 1, 1) := by decide +kernel
theorem dX0_compare_2 : decode cX0_compare 2 = .ok (.invokevirtual 68, 3) := by decide +kernel
theorem dX0_compare_5 : decode cX0_compare 5 = .ok (.ifCond .ne 11, 3) := by decide +kernel
theorem dX0_compare_8 : decode cX0_compare 8 = .ok (.aload_n 0, 1) := by decide +kernel
theorem dX0_compare_9 : decode cX0_compare 9 = .ok (.iload_n 2, 1) := by decide +kernel
theorem dX0_compare_10 : decode cX0_compare 10 = .ok (.invokevirtual 68, 3) := by decide +kernel
theorem dX0_compare_13 : decode cX0_compare 13 = .ok (.ifCond .eq 5, 3) := by decide +kernel
theorem dX0_compare_16 : decode cX0_compare 16 = .ok (.iconst (-1), 1) := by decide +kernel
theorem dX0_compare_17 : decode cX0_compare 17 = .ok (.ireturn, 1) := by decide +kernel
theorem dX0_compare_18 : decode cX0_compare 18 = .ok (.aload_n 0, 1) := by decide +kernel
theorem dX0_compare_19 : decode cX0_compare 19 = .ok (.iload_n 1, 1) := by decide +kernel
theorem dX0_compare_20 : decode cX0_compare 20 = .ok (.invokevirtual 46, 3) := by decide +kernel
theorem dX0_compare_23 : decode cX0_compare 23 = .ok (.ifCond .ne 11, 3) := by decide +kernel
theorem dX0_compare_26 : decode cX0_compare 26 = .ok (.aload_n 0, 1) := by decide +kernel
theorem dX0_compare_27 : decode cX0_compare 27 = .ok (.iload_n 2, 1) := by decide +kernel
theorem dX0_compare_28 : decode cX0_compare 28 = .ok (.invokevirtual 46, 3) := by decide +kernel
theorem dX0_compare_31 : decode cX0_compare 31 = .ok (.ifCond .eq 5, 3) := by decide +kernel
theorem dX0_compare_34 : decode cX0_compare 34 = .ok (.iconst 2, 1) := by decide +kernel
theorem dX0_compare_35 : decode cX0_compare 35 = .ok (.ireturn, 1) := by decide +kernel
theorem dX0_compare_36 : decode cX0_compare 36 = .ok (.aload_n 0, 1) := by decide +kernel
theorem dX0_compare_37 : decode cX0_compare 37 = .ok (.iload_n 1, 1) := by decide +kernel
theorem dX0_compare_38 : decode cX0_compare 38 = .ok (.invokevirtual 81, 3) := by decide +kernel
theorem dX0_compare_41 : decode cX0_compare 41 = .ok (.istore_n 3, 1) := by decide +kernel
theorem dX0_compare_42 : decode cX0_compare 42 = .ok (.aload_n 0, 1) := by decide +kernel
theorem dX0_compare_43 : decode cX0_compare 43 = .ok (.iload_n 2, 1) := by decide +kernel
theorem dX0_compare_44 : decode cX0_compare 44 = .ok (.invokevirtual 81, 3) := by decide +kernel
theorem dX0_compare_47 : decode cX0_compare 47 = .ok (.istore 4, 2) := by decide +kernel
theorem dX0_compare_49 : decode cX0_compare 49 = .ok (.iload_n 3, 1) := by decide +kernel
theorem dX0_compare_50 : decode cX0_compare 50 = .ok (.iload 4, 2) := by decide +kernel
theorem dX0_compare_52 : decode cX0_compare 52 = .ok (.if_icmp .ne 5, 3) := by decide +kernel
theorem dX0_compare_55 : decode cX0_compare 55 = .ok (.iconst 0, 1) := by decide +kernel
theorem dX0_compare_56 : decode cX0_compare 56 = .ok (.ireturn, 1) := by decide +kernel
theorem dX0_compare_57 : decode cX0_compare 57 = .ok (.iload_n 3, 1) := by decide +kernel
theorem dX0_compare_58 : decode cX0_compare 58 = .ok (.iload 4, 2) := by decide +kernel
theorem dX0_compare_60 : decode cX0_compare 60 = .ok (.if_icmp .ge 7, 3) := by decide +kernel
theorem dX0_compare_63 : decode cX0_compare 63 = .ok (.iconst (-1), 1) := by decide +kernel
theorem dX0_compare_64 : decode cX0_compare 64 = .ok (.goto 4, 3) := by decide +kernel
theorem dX0_compare_67 : decode cX0_compare 67 = .ok (.iconst 1, 1) := by decide +kernel
theorem dX0_compare_68 : decode cX0_compare 68 = .ok (.ireturn, 1) := by decide +kernel
theorem dX0_rank_0 : decode cX0_rank 0 = .ok (.iload_n 1, 1) := by decide +kernel
theorem dX0_rank_1 : decode cX0_rank 1 = .ok (.bipush 127, 2) := by decide +kernel
theorem dX0_rank_3 : decode cX0_rank 3 = .ok (.iand, 1) := by decide +kernel
theorem dX0_rank_4 : decode cX0_rank 4 = .ok (.istore_n 2, 1) := by decide +kernel
theorem dX0_rank_5 : decode cX0_rank 5 = .ok (.iload_n 1, 1) := by decide +kernel
theorem dX0_rank_6 : decode cX0_rank 6 = .ok (.sipush 128, 3) := by decide +kernel
theorem dX0_rank_9 : decode cX0_rank 9 = .ok (.if_icmp .lt 8, 3) := by decide +kernel
theorem dX0_rank_12 : decode cX0_rank 12 = .ok (.iload_n 2, 1) := by decide +kernel
theorem dX0_rank_13 : decode cX0_rank 13 = .ok (.ineg, 1) := by decide +kernel
theorem dX0_rank_14 : decode cX0_rank 14 = .ok (.goto 4, 3) := by decide +kernel
theorem dX0_rank_17 : decode cX0_rank 17 = .ok (.iload_n 2, 1) := by decide +kernel
theorem dX0_rank_18 : decode cX0_rank 18 = .ok (.ireturn, 1) := by decide +kernel
theorem dX0_from_0 : decode cX0_from 0 = .ok (.iload_n 1, 1) := by decide +kernel
theorem dX0_from_1 : decode cX0_from 1 = .ok (.ldc 85, 2) := by decide +kernel
theorem dX0_from_3 : decode cX0_from 3 = .ok (.if_icmp .lt 9, 3) := by decide +kernel
theorem dX0_from_6 : decode cX0_from 6 = .ok (.iload_n 1, 1) := by decide +kernel
theorem dX0_from_7 : decode cX0_from 7 = .ok (.ldc 86, 2) := by decide +kernel
theorem dX0_from_9 : decode cX0_from 9 = .ok (.if_icmp .le 5, 3) := by decide +kernel
theorem dX0_from_12 : decode cX0_from 12 = .ok (.iconst (-1), 1) := by decide +kernel
theorem dX0_from_13 : decode cX0_from 13 = .ok (.ireturn, 1) := by decide +kernel
theorem dX0_from_14 : decode cX0_from 14 = .ok (.iload_n 1, 1) := by decide +kernel
theorem dX0_from_15 : decode cX0_from 15 = .ok (.ifCond .ne 5, 3) := by decide +kernel
theorem dX0_from_18 : decode cX0_from 18 = .ok (.iconst 0, 1) := by decide +kernel
theorem dX0_from_19 : decode cX0_from 19 = .ok (.ireturn, 1) := by decide +kernel
theorem dX0_from_20 : decode cX0_from 20 = .ok (.iload_n 1, 1) := by decide +kernel
theorem dX0_from_21 : decode cX0_from 21 = .ok (.ifCond .le 16, 3) := by decide +kernel
theorem dX0_from_24 : decode cX0_from 24 = .ok (.aload_n 0, 1) := by decide +kernel
theorem dX0_from_25 : decode cX0_from 25 = .ok (.iconst 0, 1) := by decide +kernel
theorem dX0_from_26 : decode cX0_from 26 = .ok (.iload_n 1, 1) := by decide +kernel
theorem dX0_from_27 : decode cX0_from 27 = .ok (.i2l, 1) := by decide +kernel
theorem dX0_from_28 : decode cX0_from 28 = .ok (.bipush 9, 2) := by decide +kernel
theorem dX0_from_30 : decode cX0_from 30 = .ok (.iconst 0, 1) := by decide +kernel
theorem dX0_from_31 : decode cX0_from 31 = .ok (.invokevirtual 42, 3) := by decide +kernel
theorem dX0_from_34 : decode cX0_from 34 = .ok (.goto 14, 3) := by decide +kernel
theorem dX0_from_37 : decode cX0_from 37 = .ok (.aload_n 0, 1) := by decide +kernel
theorem dX0_from_38 : decode cX0_from 38 = .ok (.iconst 1, 1) := by decide +kernel
theorem dX0_from_39 : decode cX0_from 39 = .ok (.iload_n 1, 1) := by decide +kernel
theorem dX0_from_40 : decode cX0_from 40 = .ok (.ineg, 1) := by decide +kernel
theorem dX0_from_41 : decode cX0_from 41 = .ok (.i2l, 1) := by decide +kernel
theorem dX0_from_42 : decode cX0_from 42 = .ok (.bipush 9, 2) := by decide +kernel
theorem dX0_from_44 : decode cX0_from 44 = .ok (.iconst 0, 1) := by decide +kernel
theorem dX0_from_45 : decode cX0_from 45 = .ok (.invokevirtual 42, 3) := by decide +kernel
theorem dX0_from_48 : decode cX0_from 48 = .ok (.ireturn, 1) := by decide +kernel
theorem dX0_whole_0 : decode cX0_whole 0 = .ok (.aload_n 0, 1) := by decide +kernel
theorem dX0_whole_1 : decode cX0_whole 1 = .ok (.iload_n 1, 1) := by decide +kernel
theorem dX0_whole_2 : decode cX0_whole 2 = .ok (.invokevirtual 68, 3) := by decide +kernel
theorem dX0_whole_5 : decode cX0_whole 5 = .ok (.ifCond .ne 11, 3) := by decide +kernel
theorem dX0_whole_8 : decode cX0_whole 8 = .ok (.aload_n 0, 1) := by decide +kernel
theorem dX0_whole_9 : decode cX0_whole 9 = .ok (.iload_n 1, 1) := by decide +kernel
theorem dX0_whole_10 : decode cX0_whole 10 = .ok (.invokevirtual 46, 3) := by decide +kernel
theorem dX0_whole_13 : decode cX0_whole 13 = .ok (.ifCond .eq 7, 3) := by decide +kernel
theorem dX0_whole_16 : decode cX0_whole 16 = .ok (.sipush 9999, 3) := by decide +kernel
theorem dX0_whole_19 : decode cX0_whole 19 = .ok (.ireturn, 1) := by decide +kernel
theorem dX0_whole_20 : decode cX0_whole 20 = .ok (.aload_n 0, 1) := by decide +kernel
theorem dX0_whole_21 : decode cX0_whole 21 = .ok (.iload_n 1, 1) := by decide +kernel
theorem dX0_whole_22 : decode cX0_whole 22 = .ok (.invokevirtual 50, 3) := by decide +kernel
theorem dX0_whole_25 : decode cX0_whole 25 = .ok (.ifCond .eq 20, 3) := by decide +kernel
theorem dX0_whole_28 : decode cX0_whole 28 = .ok (.iload_n 1, 1) := by decide +kernel
theorem dX0_whole_29 : decode cX0_whole 29 = .ok (.sipush 128, 3) := by decide +kernel
theorem dX0_whole_32 : decode cX0_whole 32 = .ok (.if_icmp .ge 9, 3) := by decide +kernel
theorem dX0_whole_35 : decode cX0_whole 35 = .ok (.sipush 1000, 3) := by decide +kernel
theorem dX0_whole_38 : decode cX0_whole 38 = .ok (.goto 6, 3) := by decide +kernel
theorem dX0_whole_41 : decode cX0_whole 41 = .ok (.sipush (-1000), 3) := by decide +kernel
theorem dX0_whole_44 : decode cX0_whole 44 = .ok (.ireturn, 1) := by decide +kernel
theorem dX0_whole_45 : decode cX0_whole 45 = .ok (.aload_n 0, 1) := by decide +kernel
theorem dX0_whole_46 : decode cX0_whole 46 = .ok (.iload_n 1, 1) := by decide +kernel
theorem dX0_whole_47 : decode cX0_whole 47 = .ok (.invokevirtual 57, 3) := by decide +kernel
theorem dX0_whole_50 : decode cX0_whole 50 = .ok (.aload_n 0, 1) := by decide +kernel
theorem dX0_whole_51 : decode cX0_whole 51 = .ok (.getfield 16, 3) := by decide +kernel
theorem dX0_whole_54 : decode cX0_whole 54 = .ok (.aload_n 0, 1) := by decide +kernel
theorem dX0_whole_55 : decode cX0_whole 55 = .ok (.getfield 20, 3) := by decide +kernel
theorem dX0_whole_58 : decode cX0_whole 58 = .ok (.lshl, 1) := by decide +kernel
theorem dX0_whole_59 : decode cX0_whole 59 = .ok (.lstore_n 2, 1) := by decide +kernel
theorem dX0_whole_60 : decode cX0_whole 60 = .ok (.lload_n 2, 1) := by decide +kernel
theorem dX0_whole_61 : decode cX0_whole 61 = .ok (.bipush 9, 2) := by decide +kernel
theorem dX0_whole_63 : decode cX0_whole 63 = .ok (.lushr, 1) := by decide +kernel
theorem dX0_whole_64 : decode cX0_whole 64 = .ok (.lstore 4, 2) := by decide +kernel
theorem dX0_whole_66 : decode cX0_whole 66 = .ok (.lload_n 2, 1) := by decide +kernel
theorem dX0_whole_67 : decode cX0_whole 67 = .ok (.bipush 8, 2) := by decide +kernel
theorem dX0_whole_69 : decode cX0_whole 69 = .ok (.lushr, 1) := by decide +kernel
theorem dX0_whole_70 : decode cX0_whole 70 = .ok (.lconst 1, 1) := by decide +kernel
theorem dX0_whole_71 : decode cX0_whole 71 = .ok (.land, 1) := by decide +kernel
theorem dX0_whole_72 : decode cX0_whole 72 = .ok (.lconst 1, 1) := by decide +kernel
theorem dX0_whole_73 : decode cX0_whole 73 = .ok (.lcmp, 1) := by decide +kernel
theorem dX0_whole_74 : decode cX0_whole 74 = .ok (.ifCond .ne 7, 3) := by decide +kernel
theorem dX0_whole_77 : decode cX0_whole 77 = .ok (.iconst 1, 1) := by decide +kernel
theorem dX0_whole_78 : decode cX0_whole 78 = .ok (.goto 4, 3) := by decide +kernel
theorem dX0_whole_81 : decode cX0_whole 81 = .ok (.iconst 0, 1) := by decide +kernel
theorem dX0_whole_82 : decode cX0_whole 82 = .ok (.istore 6, 2) := by decide +kernel
theorem dX0_whole_84 : decode cX0_whole 84 = .ok (.lload_n 2, 1) := by decide +kernel
theorem dX0_whole_85 : decode cX0_whole 85 = .ok (.ldc2_w 87, 3) := by decide +kernel
theorem dX0_whole_88 : decode cX0_whole 88 = .ok (.land, 1) := by decide +kernel
theorem dX0_whole_89 : decode cX0_whole 89 = .ok (.lconst 0, 1) := by decide +kernel
theorem dX0_whole_90 : decode cX0_whole 90 = .ok (.lcmp, 1) := by decide +kernel
theorem dX0_whole_91 : decode cX0_whole 91 = .ok (.ifCond .eq 7, 3) := by decide +kernel
theorem dX0_whole_94 : decode cX0_whole 94 = .ok (.iconst 1, 1) := by decide +kernel
theorem dX0_whole_95 : decode cX0_whole 95 = .ok (.goto 4, 3) := by decide +kernel
theorem dX0_whole_98 : decode cX0_whole 98 = .ok (.iconst 0, 1) := by decide +kernel
theorem dX0_whole_99 : decode cX0_whole 99 = .ok (.istore 7, 2) := by decide +kernel
theorem dX0_whole_101 : decode cX0_whole 101 = .ok (.aload_n 0, 1) := by decide +kernel
theorem dX0_whole_102 : decode cX0_whole 102 = .ok (.aload_n 0, 1) := by decide +kernel
theorem dX0_whole_103 : decode cX0_whole 103 = .ok (.getfield 13, 3) := by decide +kernel
theorem dX0_whole_106 : decode cX0_whole 106 = .ok (.lload 4, 2) := by decide +kernel
theorem dX0_whole_108 : decode cX0_whole 108 = .ok (.iload 6, 2) := by decide +kernel
theorem dX0_whole_110 : decode cX0_whole 110 = .ok (.iload 7, 2) := by decide +kernel
theorem dX0_whole_112 : decode cX0_whole 112 = .ok (.invokevirtual 30, 3) := by decide +kernel
theorem dX0_whole_115 : decode cX0_whole 115 = .ok (.istore 8, 2) := by decide +kernel
theorem dX0_whole_117 : decode cX0_whole 117 = .ok (.lload 4, 2) := by decide +kernel
theorem dX0_whole_119 : decode cX0_whole 119 = .ok (.l2i, 1) := by decide +kernel
theorem dX0_whole_120 : decode cX0_whole 120 = .ok (.iload 8, 2) := by decide +kernel
theorem dX0_whole_122 : decode cX0_whole 122 = .ok (.ifCond .eq 7, 3) := by decide +kernel
theorem dX0_whole_125 : decode cX0_whole 125 = .ok (.iconst 1, 1) := by decide +kernel
theorem dX0_whole_126 : decode cX0_whole 126 = .ok (.goto 4, 3) := by decide +kernel
theorem dX0_whole_129 : decode cX0_whole 129 = .ok (.iconst 0, 1) := by decide +kernel
theorem dX0_whole_130 : decode cX0_whole 130 = .ok (.iadd, 1) := by decide +kernel
theorem dX0_whole_131 : decode cX0_whole 131 = .ok (.istore 9, 2) := by decide +kernel
theorem dX0_whole_133 : decode cX0_whole 133 = .ok (.aload_n 0, 1) := by decide +kernel
theorem dX0_whole_134 : decode cX0_whole 134 = .ok (.getfield 13, 3) := by decide +kernel
theorem dX0_whole_137 : decode cX0_whole 137 = .ok (.ifCond .ne 8, 3) := by decide +kernel
theorem dX0_whole_140 : decode cX0_whole 140 = .ok (.iload 9, 2) := by decide +kernel
theorem dX0_whole_142 : decode cX0_whole 142 = .ok (.goto 6, 3) := by decide +kernel
theorem dX0_whole_145 : decode cX0_whole 145 = .ok (.iload 9, 2) := by decide +kernel
theorem dX0_whole_147 : decode cX0_whole 147 = .ok (.ineg, 1) := by decide +kernel
theorem dX0_whole_148 : decode cX0_whole 148 = .ok (.ireturn, 1) := by decide +kernel
theorem dX0_pile_0 : decode cX0_pile 0 = .ok (.aload_n 0, 1) := by decide +kernel
theorem dX0_pile_1 : decode cX0_pile 1 = .ok (.iload_n 1, 1) := by decide +kernel
theorem dX0_pile_2 : decode cX0_pile 2 = .ok (.invokevirtual 68, 3) := by decide +kernel
theorem dX0_pile_5 : decode cX0_pile 5 = .ok (.ifCond .eq 5, 3) := by decide +kernel
theorem dX0_pile_8 : decode cX0_pile 8 = .ok (.iconst (-1), 1) := by decide +kernel
theorem dX0_pile_9 : decode cX0_pile 9 = .ok (.ireturn, 1) := by decide +kernel
theorem dX0_pile_10 : decode cX0_pile 10 = .ok (.aload_n 0, 1) := by decide +kernel
theorem dX0_pile_11 : decode cX0_pile 11 = .ok (.aload_n 0, 1) := by decide +kernel
theorem dX0_pile_12 : decode cX0_pile 12 = .ok (.aload_n 0, 1) := by decide +kernel
theorem dX0_pile_13 : decode cX0_pile 13 = .ok (.getfield 89, 3) := by decide +kernel
theorem dX0_pile_16 : decode cX0_pile 16 = .ok (.iload_n 1, 1) := by decide +kernel
theorem dX0_pile_17 : decode cX0_pile 17 = .ok (.invokevirtual 71, 3) := by decide +kernel
theorem dX0_pile_20 : decode cX0_pile 20 = .ok (.putfield 89, 3) := by decide +kernel
theorem dX0_pile_23 : decode cX0_pile 23 = .ok (.aload_n 0, 1) := by decide +kernel
theorem dX0_pile_24 : decode cX0_pile 24 = .ok (.getfield 89, 3) := by decide +kernel
theorem dX0_pile_27 : decode cX0_pile 27 = .ok (.ireturn, 1) := by decide +kernel
theorem dX0_pileProduct_0 : decode cX0_pileProduct 0 = .ok (.aload_n 0, 1) := by decide +kernel
theorem dX0_pileProduct_1 : decode cX0_pileProduct 1 = .ok (.iload_n 1, 1) := by decide +kernel
theorem dX0_pileProduct_2 : decode cX0_pileProduct 2 = .ok (.invokevirtual 68, 3) := by decide +kernel
theorem dX0_pileProduct_5 : decode cX0_pileProduct 5 = .ok (.ifCond .ne 11, 3) := by decide +kernel
theorem dX0_pileProduct_8 : decode cX0_pileProduct 8 = .ok (.aload_n 0, 1) := by decide +kernel
theorem dX0_pileProduct_9 : decode cX0_pileProduct 9 = .ok (.iload_n 2, 1) := by decide +kernel
theorem dX0_pileProduct_10 : decode cX0_pileProduct 10 = .ok (.invokevirtual 68, 3) := by decide +kernel
theorem dX0_pileProduct_13 : decode cX0_pileProduct 13 = .ok (.ifCond .eq 5, 3) := by decide +kernel
theorem dX0_pileProduct_16 : decode cX0_pileProduct 16 = .ok (.iconst (-1), 1) := by decide +kernel
theorem dX0_pileProduct_17 : decode cX0_pileProduct 17 = .ok (.ireturn, 1) := by decide +kernel
theorem dX0_pileProduct_18 : decode cX0_pileProduct 18 = .ok (.aload_n 0, 1) := by decide +kernel
theorem dX0_pileProduct_19 : decode cX0_pileProduct 19 = .ok (.aload_n 0, 1) := by decide +kernel
theorem dX0_pileProduct_20 : decode cX0_pileProduct 20 = .ok (.iload_n 1, 1) := by decide +kernel
theorem dX0_pileProduct_21 : decode cX0_pileProduct 21 = .ok (.iload_n 2, 1) := by decide +kernel
theorem dX0_pileProduct_22 : decode cX0_pileProduct 22 = .ok (.aload_n 0, 1) := by decide +kernel
theorem dX0_pileProduct_23 : decode cX0_pileProduct 23 = .ok (.getfield 89, 3) := by decide +kernel
theorem dX0_pileProduct_26 : decode cX0_pileProduct 26 = .ok (.invokevirtual 77, 3) := by decide +kernel
theorem dX0_pileProduct_29 : decode cX0_pileProduct 29 = .ok (.putfield 89, 3) := by decide +kernel
theorem dX0_pileProduct_32 : decode cX0_pileProduct 32 = .ok (.aload_n 0, 1) := by decide +kernel
theorem dX0_pileProduct_33 : decode cX0_pileProduct 33 = .ok (.getfield 89, 3) := by decide +kernel
theorem dX0_pileProduct_36 : decode cX0_pileProduct 36 = .ok (.ireturn, 1) := by decide +kernel
theorem dX0_store_0 : decode cX0_store 0 = .ok (.aload_n 0, 1) := by decide +kernel
theorem dX0_store_1 : decode cX0_store 1 = .ok (.iload_n 1, 1) := by decide +kernel
theorem dX0_store_2 : decode cX0_store 2 = .ok (.invokevirtual 68, 3) := by decide +kernel
theorem dX0_store_5 : decode cX0_store 5 = .ok (.ifCond .eq 5, 3) := by decide +kernel
theorem dX0_store_8 : decode cX0_store 8 = .ok (.iconst (-1), 1) := by decide +kernel
theorem dX0_store_9 : decode cX0_store 9 = .ok (.ireturn, 1) := by decide +kernel
theorem dX0_store_10 : decode cX0_store 10 = .ok (.aload_n 0, 1) := by decide +kernel
theorem dX0_store_11 : decode cX0_store 11 = .ok (.getfield 89, 3) := by decide +kernel
theorem dX0_store_14 : decode cX0_store 14 = .ok (.istore_n 2, 1) := by decide +kernel
theorem dX0_store_15 : decode cX0_store 15 = .ok (.aload_n 0, 1) := by decide +kernel
theorem dX0_store_16 : decode cX0_store 16 = .ok (.iload_n 1, 1) := by decide +kernel
theorem dX0_store_17 : decode cX0_store 17 = .ok (.putfield 89, 3) := by decide +kernel
theorem dX0_store_20 : decode cX0_store 20 = .ok (.iload_n 2, 1) := by decide +kernel
theorem dX0_store_21 : decode cX0_store 21 = .ok (.ireturn, 1) := by decide +kernel
end
section
set_option maxRecDepth 100000
theorem dX1_init_0 : decode cX1_init 0 = .ok (.aload_n 0, 1) := by decide +kernel
theorem dX1_init_1 : decode cX1_init 1 = .ok (.invokespecial 1, 3) := by decide +kernel
theorem dX1_init_4 : decode cX1_init 4 = .ok (.aload_n 0, 1) := by decide +kernel
theorem dX1_init_5 : decode cX1_init 5 = .ok (.bipush 121, 2) := by decide +kernel
theorem dX1_init_7 : decode cX1_init 7 = .ok (.newarray .int, 2) := by decide +kernel
theorem dX1_init_9 : decode cX1_init 9 = .ok (.putfield 7, 3) := by decide +kernel
theorem dX1_init_12 : decode cX1_init 12 = .ok (.iconst 0, 1) := by decide +kernel
theorem dX1_init_13 : decode cX1_init 13 = .ok (.istore_n 1, 1) := by decide +kernel
theorem dX1_init_14 : decode cX1_init 14 = .ok (.iload_n 1, 1) := by decide +kernel
theorem dX1_init_15 : decode cX1_init 15 = .ok (.bipush 121, 2) := by decide +kernel
theorem dX1_init_17 : decode cX1_init 17 = .ok (.if_icmp .ge 39, 3) := by decide +kernel
theorem dX1_init_20 : decode cX1_init 20 = .ok (.aload_n 0, 1) := by decide +kernel
theorem dX1_init_21 : decode cX1_init 21 = .ok (.getfield 7, 3) := by decide +kernel
theorem dX1_init_24 : decode cX1_init 24 = .ok (.iload_n 1, 1) := by decide +kernel
theorem dX1_init_25 : decode cX1_init 25 = .ok (.iload_n 1, 1) := by decide +kernel
theorem dX1_init_26 : decode cX1_init 26 = .ok (.bipush 8, 2) := by decide +kernel
theorem dX1_init_28 : decode cX1_init 28 = .ok (.if_icmp .ge 7, 3) := by decide +kernel
theorem dX1_init_31 : decode cX1_init 31 = .ok (.iload_n 1, 1) := by decide +kernel
theorem dX1_init_32 : decode cX1_init 32 = .ok (.goto 17, 3) := by decide +kernel
theorem dX1_init_35 : decode cX1_init 35 = .ok (.bipush 8, 2) := by decide +kernel
theorem dX1_init_37 : decode cX1_init 37 = .ok (.iload_n 1, 1) := by decide +kernel
theorem dX1_init_38 : decode cX1_init 38 = .ok (.bipush 8, 2) := by decide +kernel
theorem dX1_init_40 : decode cX1_init 40 = .ok (.irem, 1) := by decide +kernel
theorem dX1_init_41 : decode cX1_init 41 = .ok (.iadd, 1) := by decide +kernel
theorem dX1_init_42 : decode cX1_init 42 = .ok (.iload_n 1, 1) := by decide +kernel
theorem dX1_init_43 : decode cX1_init 43 = .ok (.bipush 8, 2) := by decide +kernel
theorem dX1_init_45 : decode cX1_init 45 = .ok (.idiv, 1) := by decide +kernel
theorem dX1_init_46 : decode cX1_init 46 = .ok (.iconst 1, 1) := by decide +kernel
theorem dX1_init_47 : decode cX1_init 47 = .ok (.isub, 1) := by decide +kernel
theorem dX1_init_48 : decode cX1_init 48 = .ok (.ishl, 1) := by decide +kernel
theorem dX1_init_49 : decode cX1_init 49 = .ok (.iastore, 1) := by decide +kernel
theorem dX1_init_50 : decode cX1_init 50 = .ok (.iinc 1 1, 3) := by decide +kernel
theorem dX1_init_53 : decode cX1_init 53 = .ok (.goto (-39), 3) := by decide +kernel
theorem dX1_init_56 : decode cX1_init 56 = .ok (.return_, 1) := by decide +kernel
theorem dX1_mode_0 : decode cX1_mode 0 = .ok (.iload_n 1, 1) := by decide +kernel
theorem dX1_mode_1 : decode cX1_mode 1 = .ok (.ifCond .lt 8, 3) := by decide +kernel
theorem dX1_mode_4 : decode cX1_mode 4 = .ok (.iload_n 1, 1) := by decide +kernel
theorem dX1_mode_5 : decode cX1_mode 5 = .ok (.iconst 3, 1) := by decide +kernel
theorem dX1_mode_6 : decode cX1_mode 6 = .ok (.if_icmp .le 5, 3) := by decide +kernel
theorem dX1_mode_9 : decode cX1_mode 9 = .ok (.iconst (-1), 1) := by decide +kernel
theorem dX1_mode_10 : decode cX1_mode 10 = .ok (.ireturn, 1) := by decide +kernel
theorem dX1_mode_11 : decode cX1_mode 11 = .ok (.aload_n 0, 1) := by decide +kernel
theorem dX1_mode_12 : decode cX1_mode 12 = .ok (.getfield 17, 3) := by decide +kernel
theorem dX1_mode_15 : decode cX1_mode 15 = .ok (.istore_n 2, 1) := by decide +kernel
theorem dX1_mode_16 : decode cX1_mode 16 = .ok (.aload_n 0, 1) := by decide +kernel
theorem dX1_mode_17 : decode cX1_mode 17 = .ok (.iload_n 1, 1) := by decide +kernel
theorem dX1_mode_18 : decode cX1_mode 18 = .ok (.putfield 17, 3) := by decide +kernel
theorem dX1_mode_21 : decode cX1_mode 21 = .ok (.iload_n 2, 1) := by decide +kernel
theorem dX1_mode_22 : decode cX1_mode 22 = .ok (.ireturn, 1) := by decide +kernel
theorem dX1_notes_0 : decode cX1_notes 0 = .ok (.aload_n 0, 1) := by decide +kernel
theorem dX1_notes_1 : decode cX1_notes 1 = .ok (.getfield 21, 3) := by decide +kernel
theorem dX1_notes_4 : decode cX1_notes 4 = .ok (.ireturn, 1) := by decide +kernel
theorem dX1_clear_0 : decode cX1_clear 0 = .ok (.aload_n 0, 1) := by decide +kernel
theorem dX1_clear_1 : decode cX1_clear 1 = .ok (.getfield 21, 3) := by decide +kernel
theorem dX1_clear_4 : decode cX1_clear 4 = .ok (.istore_n 1, 1) := by decide +kernel
theorem dX1_clear_5 : decode cX1_clear 5 = .ok (.aload_n 0, 1) := by decide +kernel
theorem dX1_clear_6 : decode cX1_clear 6 = .ok (.iconst 0, 1) := by decide +kernel
theorem dX1_clear_7 : decode cX1_clear 7 = .ok (.putfield 21, 3) := by decide +kernel
theorem dX1_clear_10 : decode cX1_clear 10 = .ok (.iload_n 1, 1) := by decide +kernel
theorem dX1_clear_11 : decode cX1_clear 11 = .ok (.ireturn, 1) := by decide +kernel
theorem dX1_add_0 : decode cX1_add 0 = .ok (.aload_n 0, 1) := by decide +kernel
theorem dX1_add_1 : decode cX1_add 1 = .ok (.iload_n 1, 1) := by decide +kernel
theorem dX1_add_2 : decode cX1_add 2 = .ok (.invokevirtual 57, 3) := by decide +kernel
theorem dX1_add_5 : decode cX1_add 5 = .ok (.ifCond .eq 11, 3) := by decide +kernel
theorem dX1_add_8 : decode cX1_add 8 = .ok (.aload_n 0, 1) := by decide +kernel
theorem dX1_add_9 : decode cX1_add 9 = .ok (.iload_n 2, 1) := by decide +kernel
theorem dX1_add_10 : decode cX1_add 10 = .ok (.invokevirtual 57, 3) := by decide +kernel
theorem dX1_add_13 : decode cX1_add 13 = .ok (.ifCond .ne 5, 3) := by decide +kernel
theorem dX1_add_16 : decode cX1_add 16 = .ok (.iconst (-1), 1) := by decide +kernel
theorem dX1_add_17 : decode cX1_add 17 = .ok (.ireturn, 1) := by decide +kernel
theorem dX1_add_18 : decode cX1_add 18 = .ok (.aload_n 0, 1) := by decide +kernel
theorem dX1_add_19 : decode cX1_add 19 = .ok (.iload_n 1, 1) := by decide +kernel
theorem dX1_add_20 : decode cX1_add 20 = .ok (.invokevirtual 60, 3) := by decide +kernel
theorem dX1_add_23 : decode cX1_add 23 = .ok (.ifCond .ne 11, 3) := by decide +kernel
theorem dX1_add_26 : decode cX1_add 26 = .ok (.aload_n 0, 1) := by decide +kernel
theorem dX1_add_27 : decode cX1_add 27 = .ok (.iload_n 2, 1) := by decide +kernel
theorem dX1_add_28 : decode cX1_add 28 = .ok (.invokevirtual 60, 3) := by decide +kernel
theorem dX1_add_31 : decode cX1_add 31 = .ok (.ifCond .eq 6, 3) := by decide +kernel
theorem dX1_add_34 : decode cX1_add 34 = .ok (.bipush 124, 2) := by decide +kernel
theorem dX1_add_36 : decode cX1_add 36 = .ok (.ireturn, 1) := by decide +kernel
theorem dX1_add_37 : decode cX1_add 37 = .ok (.aload_n 0, 1) := by decide +kernel
theorem dX1_add_38 : decode cX1_add 38 = .ok (.iload_n 1, 1) := by decide +kernel
theorem dX1_add_39 : decode cX1_add 39 = .ok (.invokevirtual 63, 3) := by decide +kernel
theorem dX1_add_42 : decode cX1_add 42 = .ok (.ifCond .eq 25, 3) := by decide +kernel
theorem dX1_add_45 : decode cX1_add 45 = .ok (.aload_n 0, 1) := by decide +kernel
theorem dX1_add_46 : decode cX1_add 46 = .ok (.iload_n 2, 1) := by decide +kernel
theorem dX1_add_47 : decode cX1_add 47 = .ok (.invokevirtual 63, 3) := by decide +kernel
theorem dX1_add_50 : decode cX1_add 50 = .ok (.ifCond .eq 15, 3) := by decide +kernel
theorem dX1_add_53 : decode cX1_add 53 = .ok (.iload_n 1, 1) := by decide +kernel
theorem dX1_add_54 : decode cX1_add 54 = .ok (.iload_n 2, 1) := by decide +kernel
theorem dX1_add_55 : decode cX1_add 55 = .ok (.if_icmp .eq 10, 3) := by decide +kernel
theorem dX1_add_58 : decode cX1_add 58 = .ok (.aload_n 0, 1) := by decide +kernel
theorem dX1_add_59 : decode cX1_add 59 = .ok (.invokevirtual 66, 3) := by decide +kernel
theorem dX1_add_62 : decode cX1_add 62 = .ok (.goto 4, 3) := by decide +kernel
theorem dX1_add_65 : decode cX1_add 65 = .ok (.iload_n 1, 1) := by decide +kernel
theorem dX1_add_66 : decode cX1_add 66 = .ok (.ireturn, 1) := by decide +kernel
theorem dX1_add_67 : decode cX1_add 67 = .ok (.aload_n 0, 1) := by decide +kernel
theorem dX1_add_68 : decode cX1_add 68 = .ok (.iload_n 2, 1) := by decide +kernel
theorem dX1_add_69 : decode cX1_add 69 = .ok (.invokevirtual 63, 3) := by decide +kernel
theorem dX1_add_72 : decode cX1_add 72 = .ok (.ifCond .eq 7, 3) := by decide +kernel
theorem dX1_add_75 : decode cX1_add 75 = .ok (.iload_n 2, 1) := by decide +kernel
theorem dX1_add_76 : decode cX1_add 76 = .ok (.goto 20, 3) := by decide +kernel
theorem dX1_add_79 : decode cX1_add 79 = .ok (.aload_n 0, 1) := by decide +kernel
theorem dX1_add_80 : decode cX1_add 80 = .ok (.aload_n 0, 1) := by decide +kernel
theorem dX1_add_81 : decode cX1_add 81 = .ok (.iload_n 1, 1) := by decide +kernel
theorem dX1_add_82 : decode cX1_add 82 = .ok (.invokevirtual 42, 3) := by decide +kernel
theorem dX1_add_85 : decode cX1_add 85 = .ok (.i2l, 1) := by decide +kernel
theorem dX1_add_86 : decode cX1_add 86 = .ok (.lconst 1, 1) := by decide +kernel
theorem dX1_add_87 : decode cX1_add 87 = .ok (.aload_n 0, 1) := by decide +kernel
theorem dX1_add_88 : decode cX1_add 88 = .ok (.iload_n 1, 1) := by decide +kernel
theorem dX1_add_89 : decode cX1_add 89 = .ok (.invokevirtual 13, 3) := by decide +kernel
theorem dX1_add_92 : decode cX1_add 92 = .ok (.iload_n 2, 1) := by decide +kernel
theorem dX1_add_93 : decode cX1_add 93 = .ok (.invokevirtual 70, 3) := by decide +kernel
theorem dX1_add_96 : decode cX1_add 96 = .ok (.ireturn, 1) := by decide +kernel
theorem dX1_isCode_0 : decode cX1_isCode 0 = .ok (.iload_n 1, 1) := by decide +kernel
theorem dX1_isCode_1 : decode cX1_isCode 1 = .ok (.ifCond .lt 14, 3) := by decide +kernel
theorem dX1_isCode_4 : decode cX1_isCode 4 = .ok (.iload_n 1, 1) := by decide +kernel
theorem dX1_isCode_5 : decode cX1_isCode 5 = .ok (.sipush 255, 3) := by decide +kernel
theorem dX1_isCode_8 : decode cX1_isCode 8 = .ok (.if_icmp .gt 7, 3) := by decide +kernel
theorem dX1_isCode_11 : decode cX1_isCode 11 = .ok (.iconst 1, 1) := by decide +kernel
theorem dX1_isCode_12 : decode cX1_isCode 12 = .ok (.goto 4, 3) := by decide +kernel
theorem dX1_isCode_15 : decode cX1_isCode 15 = .ok (.iconst 0, 1) := by decide +kernel
theorem dX1_isCode_16 : decode cX1_isCode 16 = .ok (.ireturn, 1) := by decide +kernel
theorem dX1_isNone_0 : decode cX1_isNone 0 = .ok (.iload_n 1, 1) := by decide +kernel
theorem dX1_isNone_1 : decode cX1_isNone 1 = .ok (.sipush 128, 3) := by decide +kernel
theorem dX1_isNone_4 : decode cX1_isNone 4 = .ok (.irem, 1) := by decide +kernel
theorem dX1_isNone_5 : decode cX1_isNone 5 = .ok (.bipush 120, 2) := by decide +kernel
theorem dX1_isNone_7 : decode cX1_isNone 7 = .ok (.if_icmp .le 7, 3) := by decide +kernel
theorem dX1_isNone_10 : decode cX1_isNone 10 = .ok (.iconst 1, 1) := by decide +kernel
theorem dX1_isNone_11 : decode cX1_isNone 11 = .ok (.goto 4, 3) := by decide +kernel
theorem dX1_isNone_14 : decode cX1_isNone 14 = .ok (.iconst 0, 1) := by decide +kernel
theorem dX1_isNone_15 : decode cX1_isNone 15 = .ok (.ireturn, 1) := by decide +kernel
theorem dX1_isInfinite_0 : decode cX1_isInfinite 0 = .ok (.iload_n 1, 1) := by decide +kernel
theorem dX1_isInfinite_1 : decode cX1_isInfinite 1 = .ok (.sipush 128, 3) := by decide +kernel
theorem dX1_isInfinite_4 : decode cX1_isInfinite 4 = .ok (.irem, 1) := by decide +kernel
theorem dX1_isInfinite_5 : decode cX1_isInfinite 5 = .ok (.bipush 120, 2) := by decide +kernel
theorem dX1_isInfinite_7 : decode cX1_isInfinite 7 = .ok (.if_icmp .ne 7, 3) := by decide +kernel
theorem dX1_isInfinite_10 : decode cX1_isInfinite 10 = .ok (.iconst 1, 1) := by decide +kernel
theorem dX1_isInfinite_11 : decode cX1_isInfinite 11 = .ok (.goto 4, 3) := by decide +kernel
theorem dX1_isInfinite_14 : decode cX1_isInfinite 14 = .ok (.iconst 0, 1) := by decide +kernel
theorem dX1_isInfinite_15 : decode cX1_isInfinite 15 = .ok (.ireturn, 1) := by decide +kernel
theorem dX1_senseless_0 : decode cX1_senseless 0 = .ok (.aload_n 0, 1) := by decide +kernel
theorem dX1_senseless_1 : decode cX1_senseless 1 = .ok (.aload_n 0, 1) := by decide +kernel
theorem dX1_senseless_2 : decode cX1_senseless 2 = .ok (.getfield 21, 3) := by decide +kernel
theorem dX1_senseless_5 : decode cX1_senseless 5 = .ok (.iconst 4, 1) := by decide +kernel
theorem dX1_senseless_6 : decode cX1_senseless 6 = .ok (.ior, 1) := by decide +kernel
theorem dX1_senseless_7 : decode cX1_senseless 7 = .ok (.putfield 21, 3) := by decide +kernel
theorem dX1_senseless_10 : decode cX1_senseless 10 = .ok (.bipush 124, 2) := by decide +kernel
theorem dX1_senseless_12 : decode cX1_senseless 12 = .ok (.ireturn, 1) := by decide +kernel
theorem dX1_valueOf_0 : decode cX1_valueOf 0 = .ok (.aload_n 0, 1) := by decide +kernel
theorem dX1_valueOf_1 : decode cX1_valueOf 1 = .ok (.iload_n 1, 1) := by decide +kernel
theorem dX1_valueOf_2 : decode cX1_valueOf 2 = .ok (.invokevirtual 13, 3) := by decide +kernel
theorem dX1_valueOf_5 : decode cX1_valueOf 5 = .ok (.ifCond .eq 17, 3) := by decide +kernel
theorem dX1_valueOf_8 : decode cX1_valueOf 8 = .ok (.aload_n 0, 1) := by decide +kernel
theorem dX1_valueOf_9 : decode cX1_valueOf 9 = .ok (.getfield 7, 3) := by decide +kernel
theorem dX1_valueOf_12 : decode cX1_valueOf 12 = .ok (.iload_n 1, 1) := by decide +kernel
theorem dX1_valueOf_13 : decode cX1_valueOf 13 = .ok (.sipush 128, 3) := by decide +kernel
theorem dX1_valueOf_16 : decode cX1_valueOf 16 = .ok (.irem, 1) := by decide +kernel
theorem dX1_valueOf_17 : decode cX1_valueOf 17 = .ok (.iaload, 1) := by decide +kernel
theorem dX1_valueOf_18 : decode cX1_valueOf 18 = .ok (.ineg, 1) := by decide +kernel
theorem dX1_valueOf_19 : decode cX1_valueOf 19 = .ok (.goto 13, 3) := by decide +kernel
theorem dX1_valueOf_22 : decode cX1_valueOf 22 = .ok (.aload_n 0, 1) := by decide +kernel
theorem dX1_valueOf_23 : decode cX1_valueOf 23 = .ok (.getfield 7, 3) := by decide +kernel
theorem dX1_valueOf_26 : decode cX1_valueOf 26 = .ok (.iload_n 1, 1) := by decide +kernel
theorem dX1_valueOf_27 : decode cX1_valueOf 27 = .ok (.sipush 128, 3) := by decide +kernel
theorem dX1_valueOf_30 : decode cX1_valueOf 30 = .ok (.irem, 1) := by decide +kernel
theorem dX1_valueOf_31 : decode cX1_valueOf 31 = .ok (.iaload, 1) := by decide +kernel
theorem dX1_valueOf_32 : decode cX1_valueOf 32 = .ok (.ireturn, 1) := by decide +kernel
theorem dX1_isNegative_0 : decode cX1_isNegative 0 = .ok (.iload_n 1, 1) := by decide +kernel
theorem dX1_isNegative_1 : decode cX1_isNegative 1 = .ok (.bipush 127, 2) := by decide +kernel
theorem dX1_isNegative_3 : decode cX1_isNegative 3 = .ok (.if_icmp .le 7, 3) := by decide +kernel
theorem dX1_isNegative_6 : decode cX1_isNegative 6 = .ok (.iconst 1, 1) := by decide +kernel
theorem dX1_isNegative_7 : decode cX1_isNegative 7 = .ok (.goto 4, 3) := by decide +kernel
theorem dX1_isNegative_10 : decode cX1_isNegative 10 = .ok (.iconst 0, 1) := by decide +kernel
theorem dX1_isNegative_11 : decode cX1_isNegative 11 = .ok (.ireturn, 1) := by decide +kernel
theorem dX1_finiteSum_0 : decode cX1_finiteSum 0 = .ok (.lload_n 1, 1) := by decide +kernel
theorem dX1_finiteSum_1 : decode cX1_finiteSum 1 = .ok (.aload_n 0, 1) := by decide +kernel
theorem dX1_finiteSum_2 : decode cX1_finiteSum 2 = .ok (.iload 6, 2) := by decide +kernel
theorem dX1_finiteSum_4 : decode cX1_finiteSum 4 = .ok (.invokevirtual 42, 3) := by decide +kernel
theorem dX1_finiteSum_7 : decode cX1_finiteSum 7 = .ok (.i2l, 1) := by decide +kernel
theorem dX1_finiteSum_8 : decode cX1_finiteSum 8 = .ok (.lload_n 3, 1) := by decide +kernel
theorem dX1_finiteSum_9 : decode cX1_finiteSum 9 = .ok (.lmul, 1) := by decide +kernel
theorem dX1_finiteSum_10 : decode cX1_finiteSum 10 = .ok (.ladd, 1) := by decide +kernel
theorem dX1_finiteSum_11 : decode cX1_finiteSum 11 = .ok (.lstore 7, 2) := by decide +kernel
theorem dX1_finiteSum_13 : decode cX1_finiteSum 13 = .ok (.lload 7, 2) := by decide +kernel
theorem dX1_finiteSum_15 : decode cX1_finiteSum 15 = .ok (.lconst 0, 1) := by decide +kernel
theorem dX1_finiteSum_16 : decode cX1_finiteSum 16 = .ok (.lcmp, 1) := by decide +kernel
theorem dX1_finiteSum_17 : decode cX1_finiteSum 17 = .ok (.ifCond .ne 76, 3) := by decide +kernel
theorem dX1_finiteSum_20 : decode cX1_finiteSum 20 = .ok (.lload_n 1, 1) := by decide +kernel
theorem dX1_finiteSum_21 : decode cX1_finiteSum 21 = .ok (.lconst 0, 1) := by decide +kernel
theorem dX1_finiteSum_22 : decode cX1_finiteSum 22 = .ok (.lcmp, 1) := by decide +kernel
theorem dX1_finiteSum_23 : decode cX1_finiteSum 23 = .ok (.ifCond .ne 16, 3) := by decide +kernel
theorem dX1_finiteSum_26 : decode cX1_finiteSum 26 = .ok (.aload_n 0, 1) := by decide +kernel
theorem dX1_finiteSum_27 : decode cX1_finiteSum 27 = .ok (.iload 6, 2) := by decide +kernel
theorem dX1_finiteSum_29 : decode cX1_finiteSum 29 = .ok (.invokevirtual 46, 3) := by decide +kernel
theorem dX1_finiteSum_32 : decode cX1_finiteSum 32 = .ok (.ifCond .eq 7, 3) := by decide +kernel
theorem dX1_finiteSum_35 : decode cX1_finiteSum 35 = .ok (.iconst 1, 1) := by decide +kernel
theorem dX1_finiteSum_36 : decode cX1_finiteSum 36 = .ok (.goto 4, 3) := by decide +kernel
theorem dX1_finiteSum_39 : decode cX1_finiteSum 39 = .ok (.iconst 0, 1) := by decide +kernel
theorem dX1_finiteSum_40 : decode cX1_finiteSum 40 = .ok (.istore 9, 2) := by decide +kernel
theorem dX1_finiteSum_42 : decode cX1_finiteSum 42 = .ok (.iload 9, 2) := by decide +kernel
theorem dX1_finiteSum_44 : decode cX1_finiteSum 44 = .ok (.ifCond .eq 18, 3) := by decide +kernel
theorem dX1_finiteSum_47 : decode cX1_finiteSum 47 = .ok (.iload 5, 2) := by decide +kernel
theorem dX1_finiteSum_49 : decode cX1_finiteSum 49 = .ok (.aload_n 0, 1) := by decide +kernel
theorem dX1_finiteSum_50 : decode cX1_finiteSum 50 = .ok (.iload 6, 2) := by decide +kernel
theorem dX1_finiteSum_52 : decode cX1_finiteSum 52 = .ok (.invokevirtual 13, 3) := by decide +kernel
theorem dX1_finiteSum_55 : decode cX1_finiteSum 55 = .ok (.if_icmp .ne 7, 3) := by decide +kernel
theorem dX1_finiteSum_58 : decode cX1_finiteSum 58 = .ok (.iconst 1, 1) := by decide +kernel
theorem dX1_finiteSum_59 : decode cX1_finiteSum 59 = .ok (.goto 4, 3) := by decide +kernel
theorem dX1_finiteSum_62 : decode cX1_finiteSum 62 = .ok (.iconst 0, 1) := by decide +kernel
theorem dX1_finiteSum_63 : decode cX1_finiteSum 63 = .ok (.istore 10, 2) := by decide +kernel
theorem dX1_finiteSum_65 : decode cX1_finiteSum 65 = .ok (.aload_n 0, 1) := by decide +kernel
theorem dX1_finiteSum_66 : decode cX1_finiteSum 66 = .ok (.iload 10, 2) := by decide +kernel
theorem dX1_finiteSum_68 : decode cX1_finiteSum 68 = .ok (.ifCond .eq 8, 3) := by decide +kernel
theorem dX1_finiteSum_71 : decode cX1_finiteSum 71 = .ok (.iload 5, 2) := by decide +kernel
theorem dX1_finiteSum_73 : decode cX1_finiteSum 73 = .ok (.goto 16, 3) := by decide +kernel
theorem dX1_finiteSum_76 : decode cX1_finiteSum 76 = .ok (.aload_n 0, 1) := by decide +kernel
theorem dX1_finiteSum_77 : decode cX1_finiteSum 77 = .ok (.getfield 17, 3) := by decide +kernel
theorem dX1_finiteSum_80 : decode cX1_finiteSum 80 = .ok (.iconst 3, 1) := by decide +kernel
theorem dX1_finiteSum_81 : decode cX1_finiteSum 81 = .ok (.if_icmp .ne 7, 3) := by decide +kernel
theorem dX1_finiteSum_84 : decode cX1_finiteSum 84 = .ok (.iconst 1, 1) := by decide +kernel
theorem dX1_finiteSum_85 : decode cX1_finiteSum 85 = .ok (.goto 4, 3) := by decide +kernel
theorem dX1_finiteSum_88 : decode cX1_finiteSum 88 = .ok (.iconst 0, 1) := by decide +kernel
theorem dX1_finiteSum_89 : decode cX1_finiteSum 89 = .ok (.invokevirtual 49, 3) := by decide +kernel
theorem dX1_finiteSum_92 : decode cX1_finiteSum 92 = .ok (.ireturn, 1) := by decide +kernel
theorem dX1_finiteSum_93 : decode cX1_finiteSum 93 = .ok (.aload_n 0, 1) := by decide +kernel
theorem dX1_finiteSum_94 : decode cX1_finiteSum 94 = .ok (.lload 7, 2) := by decide +kernel
theorem dX1_finiteSum_96 : decode cX1_finiteSum 96 = .ok (.lconst 0, 1) := by decide +kernel
theorem dX1_finiteSum_97 : decode cX1_finiteSum 97 = .ok (.lcmp, 1) := by decide +kernel
theorem dX1_finiteSum_98 : decode cX1_finiteSum 98 = .ok (.ifCond .ge 9, 3) := by decide +kernel
theorem dX1_finiteSum_101 : decode cX1_finiteSum 101 = .ok (.lload 7, 2) := by decide +kernel
theorem dX1_finiteSum_103 : decode cX1_finiteSum 103 = .ok (.lneg, 1) := by decide +kernel
theorem dX1_finiteSum_104 : decode cX1_finiteSum 104 = .ok (.goto 5, 3) := by decide +kernel
theorem dX1_finiteSum_107 : decode cX1_finiteSum 107 = .ok (.lload 7, 2) := by decide +kernel
theorem dX1_finiteSum_109 : decode cX1_finiteSum 109 = .ok (.lload_n 3, 1) := by decide +kernel
theorem dX1_finiteSum_110 : decode cX1_finiteSum 110 = .ok (.lload 7, 2) := by decide +kernel
theorem dX1_finiteSum_112 : decode cX1_finiteSum 112 = .ok (.lconst 0, 1) := by decide +kernel
theorem dX1_finiteSum_113 : decode cX1_finiteSum 113 = .ok (.lcmp, 1) := by decide +kernel
theorem dX1_finiteSum_114 : decode cX1_finiteSum 114 = .ok (.ifCond .ge 7, 3) := by decide +kernel
theorem dX1_finiteSum_117 : decode cX1_finiteSum 117 = .ok (.iconst 1, 1) := by decide +kernel
theorem dX1_finiteSum_118 : decode cX1_finiteSum 118 = .ok (.goto 4, 3) := by decide +kernel
theorem dX1_finiteSum_121 : decode cX1_finiteSum 121 = .ok (.iconst 0, 1) := by decide +kernel
theorem dX1_finiteSum_122 : decode cX1_finiteSum 122 = .ok (.invokevirtual 53, 3) := by decide +kernel
theorem dX1_finiteSum_125 : decode cX1_finiteSum 125 = .ok (.ireturn, 1) := by decide +kernel
theorem dX1_isZero_0 : decode cX1_isZero 0 = .ok (.iload_n 1, 1) := by decide +kernel
theorem dX1_isZero_1 : decode cX1_isZero 1 = .ok (.sipush 128, 3) := by decide +kernel
theorem dX1_isZero_4 : decode cX1_isZero 4 = .ok (.irem, 1) := by decide +kernel
theorem dX1_isZero_5 : decode cX1_isZero 5 = .ok (.ifCond .ne 7, 3) := by decide +kernel
theorem dX1_isZero_8 : decode cX1_isZero 8 = .ok (.iconst 1, 1) := by decide +kernel
theorem dX1_isZero_9 : decode cX1_isZero 9 = .ok (.goto 4, 3) := by decide +kernel
theorem dX1_isZero_12 : decode cX1_isZero 12 = .ok (.iconst 0, 1) := by decide +kernel
theorem dX1_isZero_13 : decode cX1_isZero 13 = .ok (.ireturn, 1) := by decide +kernel
theorem dX1_zero_0 : decode cX1_zero 0 = .ok (.iload_n 1, 1) := by decide +kernel
theorem dX1_zero_1 : decode cX1_zero 1 = .ok (.ifCond .eq 9, 3) := by decide +kernel
theorem dX1_zero_4 : decode cX1_zero 4 = .ok (.sipush 128, 3) := by decide +kernel
theorem dX1_zero_7 : decode cX1_zero 7 = .ok (.goto 4, 3) := by decide +kernel
theorem dX1_zero_10 : decode cX1_zero 10 = .ok (.iconst 0, 1) := by decide +kernel
theorem dX1_zero_11 : decode cX1_zero 11 = .ok (.ireturn, 1) := by decide +kernel
theorem dX1_round_0 : decode cX1_round 0 = .ok (.iconst 0, 1) := by decide +kernel
theorem dX1_round_1 : decode cX1_round 1 = .ok (.istore 6, 2) := by decide +kernel
theorem dX1_round_3 : decode cX1_round 3 = .ok (.iload 6, 2) := by decide +kernel
theorem dX1_round_5 : decode cX1_round 5 = .ok (.bipush 119, 2) := by decide +kernel
theorem dX1_round_7 : decode cX1_round 7 = .ok (.if_icmp .ge 26, 3) := by decide +kernel
theorem dX1_round_10 : decode cX1_round 10 = .ok (.aload_n 0, 1) := by decide +kernel
theorem dX1_round_11 : decode cX1_round 11 = .ok (.getfield 7, 3) := by decide +kernel
theorem dX1_round_14 : decode cX1_round 14 = .ok (.iload 6, 2) := by decide +kernel
theorem dX1_round_16 : decode cX1_round 16 = .ok (.iconst 1, 1) := by decide +kernel
theorem dX1_round_17 : decode cX1_round 17 = .ok (.iadd, 1) := by decide +kernel
theorem dX1_round_18 : decode cX1_round 18 = .ok (.iaload, 1) := by decide +kernel
theorem dX1_round_19 : decode cX1_round 19 = .ok (.i2l, 1) := by decide +kernel
theorem dX1_round_20 : decode cX1_round 20 = .ok (.lload_n 3, 1) := by decide +kernel
theorem dX1_round_21 : decode cX1_round 21 = .ok (.lmul, 1) := by decide +kernel
theorem dX1_round_22 : decode cX1_round 22 = .ok (.lload_n 1, 1) := by decide +kernel
theorem dX1_round_23 : decode cX1_round 23 = .ok (.lcmp, 1) := by decide +kernel
theorem dX1_round_24 : decode cX1_round 24 = .ok (.ifCond .gt 9, 3) := by decide +kernel
theorem dX1_round_27 : decode cX1_round 27 = .ok (.iinc 6 1, 3) := by decide +kernel
theorem dX1_round_30 : decode cX1_round 30 = .ok (.goto (-27), 3) := by decide +kernel
theorem dX1_round_33 : decode cX1_round 33 = .ok (.aload_n 0, 1) := by decide +kernel
theorem dX1_round_34 : decode cX1_round 34 = .ok (.ldc2_w 32, 3) := by decide +kernel
theorem dX1_round_37 : decode cX1_round 37 = .ok (.lload_n 1, 1) := by decide +kernel
theorem dX1_round_38 : decode cX1_round 38 = .ok (.lmul, 1) := by decide +kernel
theorem dX1_round_39 : decode cX1_round 39 = .ok (.aload_n 0, 1) := by decide +kernel
theorem dX1_round_40 : decode cX1_round 40 = .ok (.getfield 7, 3) := by decide +kernel
theorem dX1_round_43 : decode cX1_round 43 = .ok (.iload 6, 2) := by decide +kernel
theorem dX1_round_45 : decode cX1_round 45 = .ok (.iaload, 1) := by decide +kernel
theorem dX1_round_46 : decode cX1_round 46 = .ok (.aload_n 0, 1) := by decide +kernel
theorem dX1_round_47 : decode cX1_round 47 = .ok (.getfield 7, 3) := by decide +kernel
theorem dX1_round_50 : decode cX1_round 50 = .ok (.iload 6, 2) := by decide +kernel
theorem dX1_round_52 : decode cX1_round 52 = .ok (.iconst 1, 1) := by decide +kernel
theorem dX1_round_53 : decode cX1_round 53 = .ok (.iadd, 1) := by decide +kernel
theorem dX1_round_54 : decode cX1_round 54 = .ok (.iaload, 1) := by decide +kernel
theorem dX1_round_55 : decode cX1_round 55 = .ok (.iadd, 1) := by decide +kernel
theorem dX1_round_56 : decode cX1_round 56 = .ok (.i2l, 1) := by decide +kernel
theorem dX1_round_57 : decode cX1_round 57 = .ok (.lload_n 3, 1) := by decide +kernel
theorem dX1_round_58 : decode cX1_round 58 = .ok (.lmul, 1) := by decide +kernel
theorem dX1_round_59 : decode cX1_round 59 = .ok (.lsub, 1) := by decide +kernel
theorem dX1_round_60 : decode cX1_round 60 = .ok (.invokevirtual 34, 3) := by decide +kernel
theorem dX1_round_63 : decode cX1_round 63 = .ok (.istore 7, 2) := by decide +kernel
theorem dX1_round_65 : decode cX1_round 65 = .ok (.aload_n 0, 1) := by decide +kernel
theorem dX1_round_66 : decode cX1_round 66 = .ok (.getfield 7, 3) := by decide +kernel
theorem dX1_round_69 : decode cX1_round 69 = .ok (.iload 6, 2) := by decide +kernel
theorem dX1_round_71 : decode cX1_round 71 = .ok (.iaload, 1) := by decide +kernel
theorem dX1_round_72 : decode cX1_round 72 = .ok (.i2l, 1) := by decide +kernel
theorem dX1_round_73 : decode cX1_round 73 = .ok (.lload_n 3, 1) := by decide +kernel
theorem dX1_round_74 : decode cX1_round 74 = .ok (.lmul, 1) := by decide +kernel
theorem dX1_round_75 : decode cX1_round 75 = .ok (.lload_n 1, 1) := by decide +kernel
theorem dX1_round_76 : decode cX1_round 76 = .ok (.lcmp, 1) := by decide +kernel
theorem dX1_round_77 : decode cX1_round 77 = .ok (.ifCond .ne 7, 3) := by decide +kernel
theorem dX1_round_80 : decode cX1_round 80 = .ok (.iconst 1, 1) := by decide +kernel
theorem dX1_round_81 : decode cX1_round 81 = .ok (.goto 4, 3) := by decide +kernel
theorem dX1_round_84 : decode cX1_round 84 = .ok (.iconst 0, 1) := by decide +kernel
theorem dX1_round_85 : decode cX1_round 85 = .ok (.istore 8, 2) := by decide +kernel
theorem dX1_round_87 : decode cX1_round 87 = .ok (.lload_n 1, 1) := by decide +kernel
theorem dX1_round_88 : decode cX1_round 88 = .ok (.aload_n 0, 1) := by decide +kernel
theorem dX1_round_89 : decode cX1_round 89 = .ok (.getfield 7, 3) := by decide +kernel
theorem dX1_round_92 : decode cX1_round 92 = .ok (.bipush 120, 2) := by decide +kernel
theorem dX1_round_94 : decode cX1_round 94 = .ok (.iaload, 1) := by decide +kernel
theorem dX1_round_95 : decode cX1_round 95 = .ok (.i2l, 1) := by decide +kernel
theorem dX1_round_96 : decode cX1_round 96 = .ok (.lload_n 3, 1) := by decide +kernel
theorem dX1_round_97 : decode cX1_round 97 = .ok (.lmul, 1) := by decide +kernel
theorem dX1_round_98 : decode cX1_round 98 = .ok (.lcmp, 1) := by decide +kernel
theorem dX1_round_99 : decode cX1_round 99 = .ok (.ifCond .lt 7, 3) := by decide +kernel
theorem dX1_round_102 : decode cX1_round 102 = .ok (.iconst 1, 1) := by decide +kernel
theorem dX1_round_103 : decode cX1_round 103 = .ok (.goto 4, 3) := by decide +kernel
theorem dX1_round_106 : decode cX1_round 106 = .ok (.iconst 0, 1) := by decide +kernel
theorem dX1_round_107 : decode cX1_round 107 = .ok (.istore 9, 2) := by decide +kernel
theorem dX1_round_109 : decode cX1_round 109 = .ok (.aload_n 0, 1) := by decide +kernel
theorem dX1_round_110 : decode cX1_round 110 = .ok (.iload 6, 2) := by decide +kernel
theorem dX1_round_112 : decode cX1_round 112 = .ok (.iload 7, 2) := by decide +kernel
theorem dX1_round_114 : decode cX1_round 114 = .ok (.iload 8, 2) := by decide +kernel
theorem dX1_round_116 : decode cX1_round 116 = .ok (.iload 9, 2) := by decide +kernel
theorem dX1_round_118 : decode cX1_round 118 = .ok (.iload 5, 2) := by decide +kernel
theorem dX1_round_120 : decode cX1_round 120 = .ok (.invokevirtual 38, 3) := by decide +kernel
theorem dX1_round_123 : decode cX1_round 123 = .ok (.ireturn, 1) := by decide +kernel
theorem dX1_sign_0 : decode cX1_sign 0 = .ok (.lload_n 1, 1) := by decide +kernel
theorem dX1_sign_1 : decode cX1_sign 1 = .ok (.lconst 0, 1) := by decide +kernel
theorem dX1_sign_2 : decode cX1_sign 2 = .ok (.lcmp, 1) := by decide +kernel
theorem dX1_sign_3 : decode cX1_sign 3 = .ok (.ifCond .ge 7, 3) := by decide +kernel
theorem dX1_sign_6 : decode cX1_sign 6 = .ok (.iconst (-1), 1) := by decide +kernel
theorem dX1_sign_7 : decode cX1_sign 7 = .ok (.goto 14, 3) := by decide +kernel
theorem dX1_sign_10 : decode cX1_sign 10 = .ok (.lload_n 1, 1) := by decide +kernel
theorem dX1_sign_11 : decode cX1_sign 11 = .ok (.lconst 0, 1) := by decide +kernel
theorem dX1_sign_12 : decode cX1_sign 12 = .ok (.lcmp, 1) := by decide +kernel
theorem dX1_sign_13 : decode cX1_sign 13 = .ok (.ifCond .le 7, 3) := by decide +kernel
theorem dX1_sign_16 : decode cX1_sign 16 = .ok (.iconst 1, 1) := by decide +kernel
theorem dX1_sign_17 : decode cX1_sign 17 = .ok (.goto 4, 3) := by decide +kernel
theorem dX1_sign_20 : decode cX1_sign 20 = .ok (.iconst 0, 1) := by decide +kernel
theorem dX1_sign_21 : decode cX1_sign 21 = .ok (.ireturn, 1) := by decide +kernel
theorem dX1_choose_0 : decode cX1_choose 0 = .ok (.aload_n 0, 1) := by decide +kernel
theorem dX1_choose_1 : decode cX1_choose 1 = .ok (.getfield 17, 3) := by decide +kernel
theorem dX1_choose_4 : decode cX1_choose 4 = .ok (.ifCond .ne 26, 3) := by decide +kernel
theorem dX1_choose_7 : decode cX1_choose 7 = .ok (.iload_n 2, 1) := by decide +kernel
theorem dX1_choose_8 : decode cX1_choose 8 = .ok (.ifCond .gt 14, 3) := by decide +kernel
theorem dX1_choose_11 : decode cX1_choose 11 = .ok (.iload_n 2, 1) := by decide +kernel
theorem dX1_choose_12 : decode cX1_choose 12 = .ok (.ifCond .ne 14, 3) := by decide +kernel
theorem dX1_choose_15 : decode cX1_choose 15 = .ok (.iload_n 1, 1) := by decide +kernel
theorem dX1_choose_16 : decode cX1_choose 16 = .ok (.iconst 2, 1) := by decide +kernel
theorem dX1_choose_17 : decode cX1_choose 17 = .ok (.irem, 1) := by decide +kernel
theorem dX1_choose_18 : decode cX1_choose 18 = .ok (.iconst 1, 1) := by decide +kernel
theorem dX1_choose_19 : decode cX1_choose 19 = .ok (.if_icmp .ne 7, 3) := by decide +kernel
theorem dX1_choose_22 : decode cX1_choose 22 = .ok (.iconst 1, 1) := by decide +kernel
theorem dX1_choose_23 : decode cX1_choose 23 = .ok (.goto 13, 3) := by decide +kernel
theorem dX1_choose_26 : decode cX1_choose 26 = .ok (.iconst 0, 1) := by decide +kernel
theorem dX1_choose_27 : decode cX1_choose 27 = .ok (.goto 9, 3) := by decide +kernel
theorem dX1_choose_30 : decode cX1_choose 30 = .ok (.aload_n 0, 1) := by decide +kernel
theorem dX1_choose_31 : decode cX1_choose 31 = .ok (.iload 5, 2) := by decide +kernel
theorem dX1_choose_33 : decode cX1_choose 33 = .ok (.invokevirtual 24, 3) := by decide +kernel
theorem dX1_choose_36 : decode cX1_choose 36 = .ok (.istore 6, 2) := by decide +kernel
theorem dX1_choose_38 : decode cX1_choose 38 = .ok (.iload 6, 2) := by decide +kernel
theorem dX1_choose_40 : decode cX1_choose 40 = .ok (.ifCond .eq 13, 3) := by decide +kernel
theorem dX1_choose_43 : decode cX1_choose 43 = .ok (.iload_n 3, 1) := by decide +kernel
theorem dX1_choose_44 : decode cX1_choose 44 = .ok (.ifCond .ne 9, 3) := by decide +kernel
theorem dX1_choose_47 : decode cX1_choose 47 = .ok (.iload_n 1, 1) := by decide +kernel
theorem dX1_choose_48 : decode cX1_choose 48 = .ok (.iconst 1, 1) := by decide +kernel
theorem dX1_choose_49 : decode cX1_choose 49 = .ok (.iadd, 1) := by decide +kernel
theorem dX1_choose_50 : decode cX1_choose 50 = .ok (.goto 4, 3) := by decide +kernel
theorem dX1_choose_53 : decode cX1_choose 53 = .ok (.iload_n 1, 1) := by decide +kernel
theorem dX1_choose_54 : decode cX1_choose 54 = .ok (.istore 7, 2) := by decide +kernel
theorem dX1_choose_56 : decode cX1_choose 56 = .ok (.iload_n 3, 1) := by decide +kernel
theorem dX1_choose_57 : decode cX1_choose 57 = .ok (.ifCond .eq 10, 3) := by decide +kernel
theorem dX1_choose_60 : decode cX1_choose 60 = .ok (.iload 7, 2) := by decide +kernel
theorem dX1_choose_62 : decode cX1_choose 62 = .ok (.bipush 120, 2) := by decide +kernel
theorem dX1_choose_64 : decode cX1_choose 64 = .ok (.if_icmp .ne 13, 3) := by decide +kernel
theorem dX1_choose_67 : decode cX1_choose 67 = .ok (.aload_n 0, 1) := by decide +kernel
theorem dX1_choose_68 : decode cX1_choose 68 = .ok (.aload_n 0, 1) := by decide +kernel
theorem dX1_choose_69 : decode cX1_choose 69 = .ok (.getfield 21, 3) := by decide +kernel
theorem dX1_choose_72 : decode cX1_choose 72 = .ok (.iconst 1, 1) := by decide +kernel
theorem dX1_choose_73 : decode cX1_choose 73 = .ok (.ior, 1) := by decide +kernel
theorem dX1_choose_74 : decode cX1_choose 74 = .ok (.putfield 21, 3) := by decide +kernel
theorem dX1_choose_77 : decode cX1_choose 77 = .ok (.iload 7, 2) := by decide +kernel
theorem dX1_choose_79 : decode cX1_choose 79 = .ok (.bipush 120, 2) := by decide +kernel
theorem dX1_choose_81 : decode cX1_choose 81 = .ok (.if_icmp .eq 8, 3) := by decide +kernel
theorem dX1_choose_84 : decode cX1_choose 84 = .ok (.iload 4, 2) := by decide +kernel
theorem dX1_choose_86 : decode cX1_choose 86 = .ok (.ifCond .eq 13, 3) := by decide +kernel
theorem dX1_choose_89 : decode cX1_choose 89 = .ok (.aload_n 0, 1) := by decide +kernel
theorem dX1_choose_90 : decode cX1_choose 90 = .ok (.aload_n 0, 1) := by decide +kernel
theorem dX1_choose_91 : decode cX1_choose 91 = .ok (.getfield 21, 3) := by decide +kernel
theorem dX1_choose_94 : decode cX1_choose 94 = .ok (.iconst 2, 1) := by decide +kernel
theorem dX1_choose_95 : decode cX1_choose 95 = .ok (.ior, 1) := by decide +kernel
theorem dX1_choose_96 : decode cX1_choose 96 = .ok (.putfield 21, 3) := by decide +kernel
theorem dX1_choose_99 : decode cX1_choose 99 = .ok (.aload_n 0, 1) := by decide +kernel
theorem dX1_choose_100 : decode cX1_choose 100 = .ok (.iload 7, 2) := by decide +kernel
theorem dX1_choose_102 : decode cX1_choose 102 = .ok (.iload 5, 2) := by decide +kernel
theorem dX1_choose_104 : decode cX1_choose 104 = .ok (.invokevirtual 28, 3) := by decide +kernel
theorem dX1_choose_107 : decode cX1_choose 107 = .ok (.ireturn, 1) := by decide +kernel
theorem dX1_goesUp_0 : decode cX1_goesUp 0 = .ok (.aload_n 0, 1) := by decide +kernel
theorem dX1_goesUp_1 : decode cX1_goesUp 1 = .ok (.getfield 17, 3) := by decide +kernel
theorem dX1_goesUp_4 : decode cX1_goesUp 4 = .ok (.iconst 2, 1) := by decide +kernel
theorem dX1_goesUp_5 : decode cX1_goesUp 5 = .ok (.if_icmp .ne 7, 3) := by decide +kernel
theorem dX1_goesUp_8 : decode cX1_goesUp 8 = .ok (.iload_n 1, 1) := by decide +kernel
theorem dX1_goesUp_9 : decode cX1_goesUp 9 = .ok (.ifCond .eq 15, 3) := by decide +kernel
theorem dX1_goesUp_12 : decode cX1_goesUp 12 = .ok (.aload_n 0, 1) := by decide +kernel
theorem dX1_goesUp_13 : decode cX1_goesUp 13 = .ok (.getfield 17, 3) := by decide +kernel
theorem dX1_goesUp_16 : decode cX1_goesUp 16 = .ok (.iconst 3, 1) := by decide +kernel
theorem dX1_goesUp_17 : decode cX1_goesUp 17 = .ok (.if_icmp .ne 11, 3) := by decide +kernel
theorem dX1_goesUp_20 : decode cX1_goesUp 20 = .ok (.iload_n 1, 1) := by decide +kernel
theorem dX1_goesUp_21 : decode cX1_goesUp 21 = .ok (.ifCond .eq 7, 3) := by decide +kernel
theorem dX1_goesUp_24 : decode cX1_goesUp 24 = .ok (.iconst 1, 1) := by decide +kernel
theorem dX1_goesUp_25 : decode cX1_goesUp 25 = .ok (.goto 4, 3) := by decide +kernel
theorem dX1_goesUp_28 : decode cX1_goesUp 28 = .ok (.iconst 0, 1) := by decide +kernel
theorem dX1_goesUp_29 : decode cX1_goesUp 29 = .ok (.ireturn, 1) := by decide +kernel
theorem dX1_signed_0 : decode cX1_signed 0 = .ok (.iload_n 2, 1) := by decide +kernel
theorem dX1_signed_1 : decode cX1_signed 1 = .ok (.ifCond .eq 11, 3) := by decide +kernel
theorem dX1_signed_4 : decode cX1_signed 4 = .ok (.sipush 128, 3) := by decide +kernel
theorem dX1_signed_7 : decode cX1_signed 7 = .ok (.iload_n 1, 1) := by decide +kernel
theorem dX1_signed_8 : decode cX1_signed 8 = .ok (.iadd, 1) := by decide +kernel
theorem dX1_signed_9 : decode cX1_signed 9 = .ok (.goto 4, 3) := by decide +kernel
theorem dX1_signed_12 : decode cX1_signed 12 = .ok (.iload_n 1, 1) := by decide +kernel
theorem dX1_signed_13 : decode cX1_signed 13 = .ok (.ireturn, 1) := by decide +kernel
theorem dX1_subtract_0 : decode cX1_subtract 0 = .ok (.aload_n 0, 1) := by decide +kernel
theorem dX1_subtract_1 : decode cX1_subtract 1 = .ok (.iload_n 2, 1) := by decide +kernel
theorem dX1_subtract_2 : decode cX1_subtract 2 = .ok (.invokevirtual 57, 3) := by decide +kernel
theorem dX1_subtract_5 : decode cX1_subtract 5 = .ok (.ifCond .eq 28, 3) := by decide +kernel
theorem dX1_subtract_8 : decode cX1_subtract 8 = .ok (.aload_n 0, 1) := by decide +kernel
theorem dX1_subtract_9 : decode cX1_subtract 9 = .ok (.iload_n 1, 1) := by decide +kernel
theorem dX1_subtract_10 : decode cX1_subtract 10 = .ok (.aload_n 0, 1) := by decide +kernel
theorem dX1_subtract_11 : decode cX1_subtract 11 = .ok (.iload_n 2, 1) := by decide +kernel
theorem dX1_subtract_12 : decode cX1_subtract 12 = .ok (.invokevirtual 60, 3) := by decide +kernel
theorem dX1_subtract_15 : decode cX1_subtract 15 = .ok (.ifCond .eq 7, 3) := by decide +kernel
theorem dX1_subtract_18 : decode cX1_subtract 18 = .ok (.iload_n 2, 1) := by decide +kernel
theorem dX1_subtract_19 : decode cX1_subtract 19 = .ok (.goto 8, 3) := by decide +kernel
theorem dX1_subtract_22 : decode cX1_subtract 22 = .ok (.iload_n 2, 1) := by decide +kernel
theorem dX1_subtract_23 : decode cX1_subtract 23 = .ok (.sipush 128, 3) := by decide +kernel
theorem dX1_subtract_26 : decode cX1_subtract 26 = .ok (.ixor, 1) := by decide +kernel
theorem dX1_subtract_27 : decode cX1_subtract 27 = .ok (.invokevirtual 74, 3) := by decide +kernel
theorem dX1_subtract_30 : decode cX1_subtract 30 = .ok (.goto 4, 3) := by decide +kernel
theorem dX1_subtract_33 : decode cX1_subtract 33 = .ok (.iconst (-1), 1) := by decide +kernel
theorem dX1_subtract_34 : decode cX1_subtract 34 = .ok (.ireturn, 1) := by decide +kernel
theorem dX1_multiply_0 : decode cX1_multiply 0 = .ok (.aload_n 0, 1) := by decide +kernel
theorem dX1_multiply_1 : decode cX1_multiply 1 = .ok (.iload_n 1, 1) := by decide +kernel
end
section
set_option maxRecDepth 100000
theorem dX1_multiply_2 : decode cX1_multiply 2 = .ok (.invokevirtual 57, 3) := by decide +kernel
theorem dX1_multiply_5 : decode cX1_multiply 5 = .ok (.ifCond .eq 11, 3) := by decide +kernel
theorem dX1_multiply_8 : decode cX1_multiply 8 = .ok (.aload_n 0, 1) := by decide +kernel
theorem dX1_multiply_9 : decode cX1_multiply 9 = .ok (.iload_n 2, 1) := by decide +kernel
theorem dX1_multiply_10 : decode cX1_multiply 10 = .ok (.invokevirtual 57, 3) := by decide +kernel
theorem dX1_multiply_13 : decode cX1_multiply 13 = .ok (.ifCond .ne 5, 3) := by decide +kernel
theorem dX1_multiply_16 : decode cX1_multiply 16 = .ok (.iconst (-1), 1) := by decide +kernel
theorem dX1_multiply_17 : decode cX1_multiply 17 = .ok (.ireturn, 1) := by decide +kernel
theorem dX1_multiply_18 : decode cX1_multiply 18 = .ok (.aload_n 0, 1) := by decide +kernel
theorem dX1_multiply_19 : decode cX1_multiply 19 = .ok (.iload_n 1, 1) := by decide +kernel
theorem dX1_multiply_20 : decode cX1_multiply 20 = .ok (.invokevirtual 60, 3) := by decide +kernel
theorem dX1_multiply_23 : decode cX1_multiply 23 = .ok (.ifCond .ne 11, 3) := by decide +kernel
theorem dX1_multiply_26 : decode cX1_multiply 26 = .ok (.aload_n 0, 1) := by decide +kernel
theorem dX1_multiply_27 : decode cX1_multiply 27 = .ok (.iload_n 2, 1) := by decide +kernel
theorem dX1_multiply_28 : decode cX1_multiply 28 = .ok (.invokevirtual 60, 3) := by decide +kernel
theorem dX1_multiply_31 : decode cX1_multiply 31 = .ok (.ifCond .eq 6, 3) := by decide +kernel
theorem dX1_multiply_34 : decode cX1_multiply 34 = .ok (.bipush 124, 2) := by decide +kernel
theorem dX1_multiply_36 : decode cX1_multiply 36 = .ok (.ireturn, 1) := by decide +kernel
theorem dX1_multiply_37 : decode cX1_multiply 37 = .ok (.aload_n 0, 1) := by decide +kernel
theorem dX1_multiply_38 : decode cX1_multiply 38 = .ok (.iload_n 1, 1) := by decide +kernel
theorem dX1_multiply_39 : decode cX1_multiply 39 = .ok (.invokevirtual 13, 3) := by decide +kernel
theorem dX1_multiply_42 : decode cX1_multiply 42 = .ok (.aload_n 0, 1) := by decide +kernel
theorem dX1_multiply_43 : decode cX1_multiply 43 = .ok (.iload_n 2, 1) := by decide +kernel
theorem dX1_multiply_44 : decode cX1_multiply 44 = .ok (.invokevirtual 13, 3) := by decide +kernel
theorem dX1_multiply_47 : decode cX1_multiply 47 = .ok (.if_icmp .eq 7, 3) := by decide +kernel
theorem dX1_multiply_50 : decode cX1_multiply 50 = .ok (.iconst 1, 1) := by decide +kernel
theorem dX1_multiply_51 : decode cX1_multiply 51 = .ok (.goto 4, 3) := by decide +kernel
theorem dX1_multiply_54 : decode cX1_multiply 54 = .ok (.iconst 0, 1) := by decide +kernel
theorem dX1_multiply_55 : decode cX1_multiply 55 = .ok (.istore_n 3, 1) := by decide +kernel
theorem dX1_multiply_56 : decode cX1_multiply 56 = .ok (.aload_n 0, 1) := by decide +kernel
theorem dX1_multiply_57 : decode cX1_multiply 57 = .ok (.iload_n 1, 1) := by decide +kernel
theorem dX1_multiply_58 : decode cX1_multiply 58 = .ok (.invokevirtual 63, 3) := by decide +kernel
theorem dX1_multiply_61 : decode cX1_multiply 61 = .ok (.ifCond .ne 11, 3) := by decide +kernel
theorem dX1_multiply_64 : decode cX1_multiply 64 = .ok (.aload_n 0, 1) := by decide +kernel
theorem dX1_multiply_65 : decode cX1_multiply 65 = .ok (.iload_n 2, 1) := by decide +kernel
theorem dX1_multiply_66 : decode cX1_multiply 66 = .ok (.invokevirtual 63, 3) := by decide +kernel
theorem dX1_multiply_69 : decode cX1_multiply 69 = .ok (.ifCond .eq 34, 3) := by decide +kernel
theorem dX1_multiply_72 : decode cX1_multiply 72 = .ok (.aload_n 0, 1) := by decide +kernel
theorem dX1_multiply_73 : decode cX1_multiply 73 = .ok (.iload_n 1, 1) := by decide +kernel
theorem dX1_multiply_74 : decode cX1_multiply 74 = .ok (.invokevirtual 46, 3) := by decide +kernel
theorem dX1_multiply_77 : decode cX1_multiply 77 = .ok (.ifCond .ne 11, 3) := by decide +kernel
theorem dX1_multiply_80 : decode cX1_multiply 80 = .ok (.aload_n 0, 1) := by decide +kernel
theorem dX1_multiply_81 : decode cX1_multiply 81 = .ok (.iload_n 2, 1) := by decide +kernel
theorem dX1_multiply_82 : decode cX1_multiply 82 = .ok (.invokevirtual 46, 3) := by decide +kernel
theorem dX1_multiply_85 : decode cX1_multiply 85 = .ok (.ifCond .eq 10, 3) := by decide +kernel
theorem dX1_multiply_88 : decode cX1_multiply 88 = .ok (.aload_n 0, 1) := by decide +kernel
theorem dX1_multiply_89 : decode cX1_multiply 89 = .ok (.invokevirtual 66, 3) := by decide +kernel
theorem dX1_multiply_92 : decode cX1_multiply 92 = .ok (.goto 10, 3) := by decide +kernel
theorem dX1_multiply_95 : decode cX1_multiply 95 = .ok (.aload_n 0, 1) := by decide +kernel
theorem dX1_multiply_96 : decode cX1_multiply 96 = .ok (.bipush 120, 2) := by decide +kernel
theorem dX1_multiply_98 : decode cX1_multiply 98 = .ok (.iload_n 3, 1) := by decide +kernel
theorem dX1_multiply_99 : decode cX1_multiply 99 = .ok (.invokevirtual 28, 3) := by decide +kernel
theorem dX1_multiply_102 : decode cX1_multiply 102 = .ok (.ireturn, 1) := by decide +kernel
theorem dX1_multiply_103 : decode cX1_multiply 103 = .ok (.aload_n 0, 1) := by decide +kernel
theorem dX1_multiply_104 : decode cX1_multiply 104 = .ok (.getfield 7, 3) := by decide +kernel
theorem dX1_multiply_107 : decode cX1_multiply 107 = .ok (.iload_n 1, 1) := by decide +kernel
theorem dX1_multiply_108 : decode cX1_multiply 108 = .ok (.sipush 128, 3) := by decide +kernel
theorem dX1_multiply_111 : decode cX1_multiply 111 = .ok (.irem, 1) := by decide +kernel
theorem dX1_multiply_112 : decode cX1_multiply 112 = .ok (.iaload, 1) := by decide +kernel
theorem dX1_multiply_113 : decode cX1_multiply 113 = .ok (.i2l, 1) := by decide +kernel
theorem dX1_multiply_114 : decode cX1_multiply 114 = .ok (.aload_n 0, 1) := by decide +kernel
theorem dX1_multiply_115 : decode cX1_multiply 115 = .ok (.getfield 7, 3) := by decide +kernel
theorem dX1_multiply_118 : decode cX1_multiply 118 = .ok (.iload_n 2, 1) := by decide +kernel
theorem dX1_multiply_119 : decode cX1_multiply 119 = .ok (.sipush 128, 3) := by decide +kernel
theorem dX1_multiply_122 : decode cX1_multiply 122 = .ok (.irem, 1) := by decide +kernel
theorem dX1_multiply_123 : decode cX1_multiply 123 = .ok (.iaload, 1) := by decide +kernel
theorem dX1_multiply_124 : decode cX1_multiply 124 = .ok (.i2l, 1) := by decide +kernel
theorem dX1_multiply_125 : decode cX1_multiply 125 = .ok (.lmul, 1) := by decide +kernel
theorem dX1_multiply_126 : decode cX1_multiply 126 = .ok (.lstore 4, 2) := by decide +kernel
theorem dX1_multiply_128 : decode cX1_multiply 128 = .ok (.lload 4, 2) := by decide +kernel
theorem dX1_multiply_130 : decode cX1_multiply 130 = .ok (.lconst 0, 1) := by decide +kernel
theorem dX1_multiply_131 : decode cX1_multiply 131 = .ok (.lcmp, 1) := by decide +kernel
theorem dX1_multiply_132 : decode cX1_multiply 132 = .ok (.ifCond .ne 11, 3) := by decide +kernel
theorem dX1_multiply_135 : decode cX1_multiply 135 = .ok (.aload_n 0, 1) := by decide +kernel
theorem dX1_multiply_136 : decode cX1_multiply 136 = .ok (.iload_n 3, 1) := by decide +kernel
theorem dX1_multiply_137 : decode cX1_multiply 137 = .ok (.invokevirtual 49, 3) := by decide +kernel
theorem dX1_multiply_140 : decode cX1_multiply 140 = .ok (.goto 13, 3) := by decide +kernel
theorem dX1_multiply_143 : decode cX1_multiply 143 = .ok (.aload_n 0, 1) := by decide +kernel
theorem dX1_multiply_144 : decode cX1_multiply 144 = .ok (.lload 4, 2) := by decide +kernel
theorem dX1_multiply_146 : decode cX1_multiply 146 = .ok (.ldc2_w 78, 3) := by decide +kernel
theorem dX1_multiply_149 : decode cX1_multiply 149 = .ok (.iload_n 3, 1) := by decide +kernel
theorem dX1_multiply_150 : decode cX1_multiply 150 = .ok (.invokevirtual 53, 3) := by decide +kernel
theorem dX1_multiply_153 : decode cX1_multiply 153 = .ok (.ireturn, 1) := by decide +kernel
theorem dX1_divide_0 : decode cX1_divide 0 = .ok (.aload_n 0, 1) := by decide +kernel
theorem dX1_divide_1 : decode cX1_divide 1 = .ok (.iload_n 1, 1) := by decide +kernel
theorem dX1_divide_2 : decode cX1_divide 2 = .ok (.invokevirtual 57, 3) := by decide +kernel
theorem dX1_divide_5 : decode cX1_divide 5 = .ok (.ifCond .eq 11, 3) := by decide +kernel
theorem dX1_divide_8 : decode cX1_divide 8 = .ok (.aload_n 0, 1) := by decide +kernel
theorem dX1_divide_9 : decode cX1_divide 9 = .ok (.iload_n 2, 1) := by decide +kernel
theorem dX1_divide_10 : decode cX1_divide 10 = .ok (.invokevirtual 57, 3) := by decide +kernel
theorem dX1_divide_13 : decode cX1_divide 13 = .ok (.ifCond .ne 5, 3) := by decide +kernel
theorem dX1_divide_16 : decode cX1_divide 16 = .ok (.iconst (-1), 1) := by decide +kernel
theorem dX1_divide_17 : decode cX1_divide 17 = .ok (.ireturn, 1) := by decide +kernel
theorem dX1_divide_18 : decode cX1_divide 18 = .ok (.aload_n 0, 1) := by decide +kernel
theorem dX1_divide_19 : decode cX1_divide 19 = .ok (.iload_n 1, 1) := by decide +kernel
theorem dX1_divide_20 : decode cX1_divide 20 = .ok (.invokevirtual 60, 3) := by decide +kernel
theorem dX1_divide_23 : decode cX1_divide 23 = .ok (.ifCond .ne 11, 3) := by decide +kernel
theorem dX1_divide_26 : decode cX1_divide 26 = .ok (.aload_n 0, 1) := by decide +kernel
theorem dX1_divide_27 : decode cX1_divide 27 = .ok (.iload_n 2, 1) := by decide +kernel
theorem dX1_divide_28 : decode cX1_divide 28 = .ok (.invokevirtual 60, 3) := by decide +kernel
theorem dX1_divide_31 : decode cX1_divide 31 = .ok (.ifCond .eq 6, 3) := by decide +kernel
theorem dX1_divide_34 : decode cX1_divide 34 = .ok (.bipush 124, 2) := by decide +kernel
theorem dX1_divide_36 : decode cX1_divide 36 = .ok (.ireturn, 1) := by decide +kernel
theorem dX1_divide_37 : decode cX1_divide 37 = .ok (.aload_n 0, 1) := by decide +kernel
theorem dX1_divide_38 : decode cX1_divide 38 = .ok (.iload_n 1, 1) := by decide +kernel
theorem dX1_divide_39 : decode cX1_divide 39 = .ok (.invokevirtual 13, 3) := by decide +kernel
theorem dX1_divide_42 : decode cX1_divide 42 = .ok (.aload_n 0, 1) := by decide +kernel
theorem dX1_divide_43 : decode cX1_divide 43 = .ok (.iload_n 2, 1) := by decide +kernel
theorem dX1_divide_44 : decode cX1_divide 44 = .ok (.invokevirtual 13, 3) := by decide +kernel
theorem dX1_divide_47 : decode cX1_divide 47 = .ok (.if_icmp .eq 7, 3) := by decide +kernel
theorem dX1_divide_50 : decode cX1_divide 50 = .ok (.iconst 1, 1) := by decide +kernel
theorem dX1_divide_51 : decode cX1_divide 51 = .ok (.goto 4, 3) := by decide +kernel
theorem dX1_divide_54 : decode cX1_divide 54 = .ok (.iconst 0, 1) := by decide +kernel
theorem dX1_divide_55 : decode cX1_divide 55 = .ok (.istore_n 3, 1) := by decide +kernel
theorem dX1_divide_56 : decode cX1_divide 56 = .ok (.aload_n 0, 1) := by decide +kernel
theorem dX1_divide_57 : decode cX1_divide 57 = .ok (.iload_n 1, 1) := by decide +kernel
theorem dX1_divide_58 : decode cX1_divide 58 = .ok (.invokevirtual 46, 3) := by decide +kernel
theorem dX1_divide_61 : decode cX1_divide 61 = .ok (.ifCond .eq 11, 3) := by decide +kernel
theorem dX1_divide_64 : decode cX1_divide 64 = .ok (.aload_n 0, 1) := by decide +kernel
theorem dX1_divide_65 : decode cX1_divide 65 = .ok (.iload_n 2, 1) := by decide +kernel
theorem dX1_divide_66 : decode cX1_divide 66 = .ok (.invokevirtual 46, 3) := by decide +kernel
theorem dX1_divide_69 : decode cX1_divide 69 = .ok (.ifCond .ne 19, 3) := by decide +kernel
theorem dX1_divide_72 : decode cX1_divide 72 = .ok (.aload_n 0, 1) := by decide +kernel
theorem dX1_divide_73 : decode cX1_divide 73 = .ok (.iload_n 1, 1) := by decide +kernel
theorem dX1_divide_74 : decode cX1_divide 74 = .ok (.invokevirtual 63, 3) := by decide +kernel
theorem dX1_divide_77 : decode cX1_divide 77 = .ok (.ifCond .eq 16, 3) := by decide +kernel
theorem dX1_divide_80 : decode cX1_divide 80 = .ok (.aload_n 0, 1) := by decide +kernel
theorem dX1_divide_81 : decode cX1_divide 81 = .ok (.iload_n 2, 1) := by decide +kernel
theorem dX1_divide_82 : decode cX1_divide 82 = .ok (.invokevirtual 63, 3) := by decide +kernel
theorem dX1_divide_85 : decode cX1_divide 85 = .ok (.ifCond .eq 8, 3) := by decide +kernel
theorem dX1_divide_88 : decode cX1_divide 88 = .ok (.aload_n 0, 1) := by decide +kernel
theorem dX1_divide_89 : decode cX1_divide 89 = .ok (.invokevirtual 66, 3) := by decide +kernel
theorem dX1_divide_92 : decode cX1_divide 92 = .ok (.ireturn, 1) := by decide +kernel
theorem dX1_divide_93 : decode cX1_divide 93 = .ok (.aload_n 0, 1) := by decide +kernel
theorem dX1_divide_94 : decode cX1_divide 94 = .ok (.iload_n 1, 1) := by decide +kernel
theorem dX1_divide_95 : decode cX1_divide 95 = .ok (.invokevirtual 63, 3) := by decide +kernel
theorem dX1_divide_98 : decode cX1_divide 98 = .ok (.ifCond .eq 11, 3) := by decide +kernel
theorem dX1_divide_101 : decode cX1_divide 101 = .ok (.aload_n 0, 1) := by decide +kernel
theorem dX1_divide_102 : decode cX1_divide 102 = .ok (.bipush 120, 2) := by decide +kernel
theorem dX1_divide_104 : decode cX1_divide 104 = .ok (.iload_n 3, 1) := by decide +kernel
theorem dX1_divide_105 : decode cX1_divide 105 = .ok (.invokevirtual 28, 3) := by decide +kernel
theorem dX1_divide_108 : decode cX1_divide 108 = .ok (.ireturn, 1) := by decide +kernel
theorem dX1_divide_109 : decode cX1_divide 109 = .ok (.aload_n 0, 1) := by decide +kernel
theorem dX1_divide_110 : decode cX1_divide 110 = .ok (.iload_n 2, 1) := by decide +kernel
theorem dX1_divide_111 : decode cX1_divide 111 = .ok (.invokevirtual 63, 3) := by decide +kernel
theorem dX1_divide_114 : decode cX1_divide 114 = .ok (.ifCond .ne 11, 3) := by decide +kernel
theorem dX1_divide_117 : decode cX1_divide 117 = .ok (.aload_n 0, 1) := by decide +kernel
theorem dX1_divide_118 : decode cX1_divide 118 = .ok (.iload_n 1, 1) := by decide +kernel
theorem dX1_divide_119 : decode cX1_divide 119 = .ok (.invokevirtual 46, 3) := by decide +kernel
theorem dX1_divide_122 : decode cX1_divide 122 = .ok (.ifCond .eq 9, 3) := by decide +kernel
theorem dX1_divide_125 : decode cX1_divide 125 = .ok (.aload_n 0, 1) := by decide +kernel
theorem dX1_divide_126 : decode cX1_divide 126 = .ok (.iload_n 3, 1) := by decide +kernel
theorem dX1_divide_127 : decode cX1_divide 127 = .ok (.invokevirtual 49, 3) := by decide +kernel
theorem dX1_divide_130 : decode cX1_divide 130 = .ok (.ireturn, 1) := by decide +kernel
theorem dX1_divide_131 : decode cX1_divide 131 = .ok (.aload_n 0, 1) := by decide +kernel
theorem dX1_divide_132 : decode cX1_divide 132 = .ok (.iload_n 2, 1) := by decide +kernel
theorem dX1_divide_133 : decode cX1_divide 133 = .ok (.invokevirtual 46, 3) := by decide +kernel
theorem dX1_divide_136 : decode cX1_divide 136 = .ok (.ifCond .eq 22, 3) := by decide +kernel
theorem dX1_divide_139 : decode cX1_divide 139 = .ok (.aload_n 0, 1) := by decide +kernel
theorem dX1_divide_140 : decode cX1_divide 140 = .ok (.aload_n 0, 1) := by decide +kernel
theorem dX1_divide_141 : decode cX1_divide 141 = .ok (.getfield 21, 3) := by decide +kernel
theorem dX1_divide_144 : decode cX1_divide 144 = .ok (.bipush 8, 2) := by decide +kernel
theorem dX1_divide_146 : decode cX1_divide 146 = .ok (.ior, 1) := by decide +kernel
theorem dX1_divide_147 : decode cX1_divide 147 = .ok (.putfield 21, 3) := by decide +kernel
theorem dX1_divide_150 : decode cX1_divide 150 = .ok (.aload_n 0, 1) := by decide +kernel
theorem dX1_divide_151 : decode cX1_divide 151 = .ok (.bipush 120, 2) := by decide +kernel
theorem dX1_divide_153 : decode cX1_divide 153 = .ok (.iload_n 3, 1) := by decide +kernel
theorem dX1_divide_154 : decode cX1_divide 154 = .ok (.invokevirtual 28, 3) := by decide +kernel
theorem dX1_divide_157 : decode cX1_divide 157 = .ok (.ireturn, 1) := by decide +kernel
theorem dX1_divide_158 : decode cX1_divide 158 = .ok (.ldc2_w 78, 3) := by decide +kernel
theorem dX1_divide_161 : decode cX1_divide 161 = .ok (.aload_n 0, 1) := by decide +kernel
theorem dX1_divide_162 : decode cX1_divide 162 = .ok (.getfield 7, 3) := by decide +kernel
theorem dX1_divide_165 : decode cX1_divide 165 = .ok (.iload_n 1, 1) := by decide +kernel
theorem dX1_divide_166 : decode cX1_divide 166 = .ok (.sipush 128, 3) := by decide +kernel
theorem dX1_divide_169 : decode cX1_divide 169 = .ok (.irem, 1) := by decide +kernel
theorem dX1_divide_170 : decode cX1_divide 170 = .ok (.iaload, 1) := by decide +kernel
theorem dX1_divide_171 : decode cX1_divide 171 = .ok (.i2l, 1) := by decide +kernel
theorem dX1_divide_172 : decode cX1_divide 172 = .ok (.lmul, 1) := by decide +kernel
theorem dX1_divide_173 : decode cX1_divide 173 = .ok (.lstore 4, 2) := by decide +kernel
theorem dX1_divide_175 : decode cX1_divide 175 = .ok (.aload_n 0, 1) := by decide +kernel
theorem dX1_divide_176 : decode cX1_divide 176 = .ok (.lload 4, 2) := by decide +kernel
theorem dX1_divide_178 : decode cX1_divide 178 = .ok (.aload_n 0, 1) := by decide +kernel
theorem dX1_divide_179 : decode cX1_divide 179 = .ok (.getfield 7, 3) := by decide +kernel
theorem dX1_divide_182 : decode cX1_divide 182 = .ok (.iload_n 2, 1) := by decide +kernel
theorem dX1_divide_183 : decode cX1_divide 183 = .ok (.sipush 128, 3) := by decide +kernel
theorem dX1_divide_186 : decode cX1_divide 186 = .ok (.irem, 1) := by decide +kernel
theorem dX1_divide_187 : decode cX1_divide 187 = .ok (.iaload, 1) := by decide +kernel
theorem dX1_divide_188 : decode cX1_divide 188 = .ok (.i2l, 1) := by decide +kernel
theorem dX1_divide_189 : decode cX1_divide 189 = .ok (.iload_n 3, 1) := by decide +kernel
theorem dX1_divide_190 : decode cX1_divide 190 = .ok (.invokevirtual 53, 3) := by decide +kernel
theorem dX1_divide_193 : decode cX1_divide 193 = .ok (.ireturn, 1) := by decide +kernel
theorem dX1_root_0 : decode cX1_root 0 = .ok (.aload_n 0, 1) := by decide +kernel
theorem dX1_root_1 : decode cX1_root 1 = .ok (.iload_n 1, 1) := by decide +kernel
theorem dX1_root_2 : decode cX1_root 2 = .ok (.invokevirtual 57, 3) := by decide +kernel
theorem dX1_root_5 : decode cX1_root 5 = .ok (.ifCond .ne 5, 3) := by decide +kernel
theorem dX1_root_8 : decode cX1_root 8 = .ok (.iconst (-1), 1) := by decide +kernel
theorem dX1_root_9 : decode cX1_root 9 = .ok (.ireturn, 1) := by decide +kernel
theorem dX1_root_10 : decode cX1_root 10 = .ok (.aload_n 0, 1) := by decide +kernel
theorem dX1_root_11 : decode cX1_root 11 = .ok (.iload_n 1, 1) := by decide +kernel
theorem dX1_root_12 : decode cX1_root 12 = .ok (.invokevirtual 60, 3) := by decide +kernel
theorem dX1_root_15 : decode cX1_root 15 = .ok (.ifCond .eq 6, 3) := by decide +kernel
theorem dX1_root_18 : decode cX1_root 18 = .ok (.bipush 124, 2) := by decide +kernel
theorem dX1_root_20 : decode cX1_root 20 = .ok (.ireturn, 1) := by decide +kernel
theorem dX1_root_21 : decode cX1_root 21 = .ok (.aload_n 0, 1) := by decide +kernel
theorem dX1_root_22 : decode cX1_root 22 = .ok (.iload_n 1, 1) := by decide +kernel
theorem dX1_root_23 : decode cX1_root 23 = .ok (.invokevirtual 46, 3) := by decide +kernel
theorem dX1_root_26 : decode cX1_root 26 = .ok (.ifCond .ne 9, 3) := by decide +kernel
theorem dX1_root_29 : decode cX1_root 29 = .ok (.iload_n 1, 1) := by decide +kernel
theorem dX1_root_30 : decode cX1_root 30 = .ok (.bipush 120, 2) := by decide +kernel
theorem dX1_root_32 : decode cX1_root 32 = .ok (.if_icmp .ne 5, 3) := by decide +kernel
theorem dX1_root_35 : decode cX1_root 35 = .ok (.iload_n 1, 1) := by decide +kernel
theorem dX1_root_36 : decode cX1_root 36 = .ok (.ireturn, 1) := by decide +kernel
theorem dX1_root_37 : decode cX1_root 37 = .ok (.aload_n 0, 1) := by decide +kernel
theorem dX1_root_38 : decode cX1_root 38 = .ok (.iload_n 1, 1) := by decide +kernel
theorem dX1_root_39 : decode cX1_root 39 = .ok (.invokevirtual 13, 3) := by decide +kernel
theorem dX1_root_42 : decode cX1_root 42 = .ok (.ifCond .eq 8, 3) := by decide +kernel
theorem dX1_root_45 : decode cX1_root 45 = .ok (.aload_n 0, 1) := by decide +kernel
theorem dX1_root_46 : decode cX1_root 46 = .ok (.invokevirtual 66, 3) := by decide +kernel
theorem dX1_root_49 : decode cX1_root 49 = .ok (.ireturn, 1) := by decide +kernel
theorem dX1_root_50 : decode cX1_root 50 = .ok (.ldc2_w 78, 3) := by decide +kernel
theorem dX1_root_53 : decode cX1_root 53 = .ok (.aload_n 0, 1) := by decide +kernel
theorem dX1_root_54 : decode cX1_root 54 = .ok (.getfield 7, 3) := by decide +kernel
theorem dX1_root_57 : decode cX1_root 57 = .ok (.iload_n 1, 1) := by decide +kernel
theorem dX1_root_58 : decode cX1_root 58 = .ok (.iaload, 1) := by decide +kernel
theorem dX1_root_59 : decode cX1_root 59 = .ok (.i2l, 1) := by decide +kernel
theorem dX1_root_60 : decode cX1_root 60 = .ok (.lmul, 1) := by decide +kernel
theorem dX1_root_61 : decode cX1_root 61 = .ok (.lstore_n 2, 1) := by decide +kernel
theorem dX1_root_62 : decode cX1_root 62 = .ok (.iconst 0, 1) := by decide +kernel
theorem dX1_root_63 : decode cX1_root 63 = .ok (.istore 4, 2) := by decide +kernel
theorem dX1_root_65 : decode cX1_root 65 = .ok (.iload 4, 2) := by decide +kernel
theorem dX1_root_67 : decode cX1_root 67 = .ok (.bipush 119, 2) := by decide +kernel
theorem dX1_root_69 : decode cX1_root 69 = .ok (.if_icmp .ge 35, 3) := by decide +kernel
theorem dX1_root_72 : decode cX1_root 72 = .ok (.aload_n 0, 1) := by decide +kernel
theorem dX1_root_73 : decode cX1_root 73 = .ok (.getfield 7, 3) := by decide +kernel
theorem dX1_root_76 : decode cX1_root 76 = .ok (.iload 4, 2) := by decide +kernel
theorem dX1_root_78 : decode cX1_root 78 = .ok (.iconst 1, 1) := by decide +kernel
theorem dX1_root_79 : decode cX1_root 79 = .ok (.iadd, 1) := by decide +kernel
theorem dX1_root_80 : decode cX1_root 80 = .ok (.iaload, 1) := by decide +kernel
theorem dX1_root_81 : decode cX1_root 81 = .ok (.i2l, 1) := by decide +kernel
theorem dX1_root_82 : decode cX1_root 82 = .ok (.aload_n 0, 1) := by decide +kernel
theorem dX1_root_83 : decode cX1_root 83 = .ok (.getfield 7, 3) := by decide +kernel
theorem dX1_root_86 : decode cX1_root 86 = .ok (.iload 4, 2) := by decide +kernel
theorem dX1_root_88 : decode cX1_root 88 = .ok (.iconst 1, 1) := by decide +kernel
theorem dX1_root_89 : decode cX1_root 89 = .ok (.iadd, 1) := by decide +kernel
theorem dX1_root_90 : decode cX1_root 90 = .ok (.iaload, 1) := by decide +kernel
theorem dX1_root_91 : decode cX1_root 91 = .ok (.i2l, 1) := by decide +kernel
theorem dX1_root_92 : decode cX1_root 92 = .ok (.lmul, 1) := by decide +kernel
theorem dX1_root_93 : decode cX1_root 93 = .ok (.lload_n 2, 1) := by decide +kernel
theorem dX1_root_94 : decode cX1_root 94 = .ok (.lcmp, 1) := by decide +kernel
theorem dX1_root_95 : decode cX1_root 95 = .ok (.ifCond .gt 9, 3) := by decide +kernel
theorem dX1_root_98 : decode cX1_root 98 = .ok (.iinc 4 1, 3) := by decide +kernel
theorem dX1_root_101 : decode cX1_root 101 = .ok (.goto (-36), 3) := by decide +kernel
theorem dX1_root_104 : decode cX1_root 104 = .ok (.aload_n 0, 1) := by decide +kernel
theorem dX1_root_105 : decode cX1_root 105 = .ok (.getfield 7, 3) := by decide +kernel
theorem dX1_root_108 : decode cX1_root 108 = .ok (.iload 4, 2) := by decide +kernel
theorem dX1_root_110 : decode cX1_root 110 = .ok (.iaload, 1) := by decide +kernel
theorem dX1_root_111 : decode cX1_root 111 = .ok (.aload_n 0, 1) := by decide +kernel
theorem dX1_root_112 : decode cX1_root 112 = .ok (.getfield 7, 3) := by decide +kernel
theorem dX1_root_115 : decode cX1_root 115 = .ok (.iload 4, 2) := by decide +kernel
theorem dX1_root_117 : decode cX1_root 117 = .ok (.iconst 1, 1) := by decide +kernel
theorem dX1_root_118 : decode cX1_root 118 = .ok (.iadd, 1) := by decide +kernel
theorem dX1_root_119 : decode cX1_root 119 = .ok (.iaload, 1) := by decide +kernel
theorem dX1_root_120 : decode cX1_root 120 = .ok (.iadd, 1) := by decide +kernel
theorem dX1_root_121 : decode cX1_root 121 = .ok (.i2l, 1) := by decide +kernel
theorem dX1_root_122 : decode cX1_root 122 = .ok (.lstore 5, 2) := by decide +kernel
theorem dX1_root_124 : decode cX1_root 124 = .ok (.aload_n 0, 1) := by decide +kernel
theorem dX1_root_125 : decode cX1_root 125 = .ok (.ldc2_w 80, 3) := by decide +kernel
theorem dX1_root_128 : decode cX1_root 128 = .ok (.lload_n 2, 1) := by decide +kernel
theorem dX1_root_129 : decode cX1_root 129 = .ok (.lmul, 1) := by decide +kernel
theorem dX1_root_130 : decode cX1_root 130 = .ok (.lload 5, 2) := by decide +kernel
theorem dX1_root_132 : decode cX1_root 132 = .ok (.lload 5, 2) := by decide +kernel
theorem dX1_root_134 : decode cX1_root 134 = .ok (.lmul, 1) := by decide +kernel
theorem dX1_root_135 : decode cX1_root 135 = .ok (.lsub, 1) := by decide +kernel
theorem dX1_root_136 : decode cX1_root 136 = .ok (.invokevirtual 34, 3) := by decide +kernel
theorem dX1_root_139 : decode cX1_root 139 = .ok (.istore 7, 2) := by decide +kernel
theorem dX1_root_141 : decode cX1_root 141 = .ok (.aload_n 0, 1) := by decide +kernel
theorem dX1_root_142 : decode cX1_root 142 = .ok (.getfield 7, 3) := by decide +kernel
theorem dX1_root_145 : decode cX1_root 145 = .ok (.iload 4, 2) := by decide +kernel
theorem dX1_root_147 : decode cX1_root 147 = .ok (.iaload, 1) := by decide +kernel
theorem dX1_root_148 : decode cX1_root 148 = .ok (.i2l, 1) := by decide +kernel
theorem dX1_root_149 : decode cX1_root 149 = .ok (.aload_n 0, 1) := by decide +kernel
theorem dX1_root_150 : decode cX1_root 150 = .ok (.getfield 7, 3) := by decide +kernel
theorem dX1_root_153 : decode cX1_root 153 = .ok (.iload 4, 2) := by decide +kernel
theorem dX1_root_155 : decode cX1_root 155 = .ok (.iaload, 1) := by decide +kernel
theorem dX1_root_156 : decode cX1_root 156 = .ok (.i2l, 1) := by decide +kernel
theorem dX1_root_157 : decode cX1_root 157 = .ok (.lmul, 1) := by decide +kernel
theorem dX1_root_158 : decode cX1_root 158 = .ok (.lload_n 2, 1) := by decide +kernel
theorem dX1_root_159 : decode cX1_root 159 = .ok (.lcmp, 1) := by decide +kernel
theorem dX1_root_160 : decode cX1_root 160 = .ok (.ifCond .ne 7, 3) := by decide +kernel
theorem dX1_root_163 : decode cX1_root 163 = .ok (.iconst 1, 1) := by decide +kernel
theorem dX1_root_164 : decode cX1_root 164 = .ok (.goto 4, 3) := by decide +kernel
theorem dX1_root_167 : decode cX1_root 167 = .ok (.iconst 0, 1) := by decide +kernel
theorem dX1_root_168 : decode cX1_root 168 = .ok (.istore 8, 2) := by decide +kernel
theorem dX1_root_170 : decode cX1_root 170 = .ok (.aload_n 0, 1) := by decide +kernel
theorem dX1_root_171 : decode cX1_root 171 = .ok (.iload 4, 2) := by decide +kernel
theorem dX1_root_173 : decode cX1_root 173 = .ok (.iload 7, 2) := by decide +kernel
theorem dX1_root_175 : decode cX1_root 175 = .ok (.iload 8, 2) := by decide +kernel
theorem dX1_root_177 : decode cX1_root 177 = .ok (.iconst 0, 1) := by decide +kernel
theorem dX1_root_178 : decode cX1_root 178 = .ok (.iconst 0, 1) := by decide +kernel
theorem dX1_root_179 : decode cX1_root 179 = .ok (.invokevirtual 38, 3) := by decide +kernel
theorem dX1_root_182 : decode cX1_root 182 = .ok (.ireturn, 1) := by decide +kernel
theorem dX1_together_0 : decode cX1_together 0 = .ok (.aload_n 0, 1) := by decide +kernel
theorem dX1_together_1 : decode cX1_together 1 = .ok (.iload_n 1, 1) := by decide +kernel
theorem dX1_together_2 : decode cX1_together 2 = .ok (.invokevirtual 57, 3) := by decide +kernel
theorem dX1_together_5 : decode cX1_together 5 = .ok (.ifCond .eq 19, 3) := by decide +kernel
theorem dX1_together_8 : decode cX1_together 8 = .ok (.aload_n 0, 1) := by decide +kernel
theorem dX1_together_9 : decode cX1_together 9 = .ok (.iload_n 2, 1) := by decide +kernel
theorem dX1_together_10 : decode cX1_together 10 = .ok (.invokevirtual 57, 3) := by decide +kernel
theorem dX1_together_13 : decode cX1_together 13 = .ok (.ifCond .eq 11, 3) := by decide +kernel
theorem dX1_together_16 : decode cX1_together 16 = .ok (.aload_n 0, 1) := by decide +kernel
theorem dX1_together_17 : decode cX1_together 17 = .ok (.iload_n 3, 1) := by decide +kernel
theorem dX1_together_18 : decode cX1_together 18 = .ok (.invokevirtual 57, 3) := by decide +kernel
theorem dX1_together_21 : decode cX1_together 21 = .ok (.ifCond .ne 5, 3) := by decide +kernel
theorem dX1_together_24 : decode cX1_together 24 = .ok (.iconst (-1), 1) := by decide +kernel
theorem dX1_together_25 : decode cX1_together 25 = .ok (.ireturn, 1) := by decide +kernel
theorem dX1_together_26 : decode cX1_together 26 = .ok (.aload_n 0, 1) := by decide +kernel
theorem dX1_together_27 : decode cX1_together 27 = .ok (.iload_n 1, 1) := by decide +kernel
theorem dX1_together_28 : decode cX1_together 28 = .ok (.invokevirtual 60, 3) := by decide +kernel
theorem dX1_together_31 : decode cX1_together 31 = .ok (.ifCond .ne 19, 3) := by decide +kernel
theorem dX1_together_34 : decode cX1_together 34 = .ok (.aload_n 0, 1) := by decide +kernel
theorem dX1_together_35 : decode cX1_together 35 = .ok (.iload_n 2, 1) := by decide +kernel
theorem dX1_together_36 : decode cX1_together 36 = .ok (.invokevirtual 60, 3) := by decide +kernel
theorem dX1_together_39 : decode cX1_together 39 = .ok (.ifCond .ne 11, 3) := by decide +kernel
theorem dX1_together_42 : decode cX1_together 42 = .ok (.aload_n 0, 1) := by decide +kernel
theorem dX1_together_43 : decode cX1_together 43 = .ok (.iload_n 3, 1) := by decide +kernel
theorem dX1_together_44 : decode cX1_together 44 = .ok (.invokevirtual 60, 3) := by decide +kernel
theorem dX1_together_47 : decode cX1_together 47 = .ok (.ifCond .eq 6, 3) := by decide +kernel
theorem dX1_together_50 : decode cX1_together 50 = .ok (.bipush 124, 2) := by decide +kernel
theorem dX1_together_52 : decode cX1_together 52 = .ok (.ireturn, 1) := by decide +kernel
theorem dX1_together_53 : decode cX1_together 53 = .ok (.aload_n 0, 1) := by decide +kernel
theorem dX1_together_54 : decode cX1_together 54 = .ok (.iload_n 1, 1) := by decide +kernel
theorem dX1_together_55 : decode cX1_together 55 = .ok (.invokevirtual 13, 3) := by decide +kernel
theorem dX1_together_58 : decode cX1_together 58 = .ok (.aload_n 0, 1) := by decide +kernel
theorem dX1_together_59 : decode cX1_together 59 = .ok (.iload_n 2, 1) := by decide +kernel
theorem dX1_together_60 : decode cX1_together 60 = .ok (.invokevirtual 13, 3) := by decide +kernel
theorem dX1_together_63 : decode cX1_together 63 = .ok (.if_icmp .eq 7, 3) := by decide +kernel
theorem dX1_together_66 : decode cX1_together 66 = .ok (.iconst 1, 1) := by decide +kernel
theorem dX1_together_67 : decode cX1_together 67 = .ok (.goto 4, 3) := by decide +kernel
theorem dX1_together_70 : decode cX1_together 70 = .ok (.iconst 0, 1) := by decide +kernel
theorem dX1_together_71 : decode cX1_together 71 = .ok (.istore 4, 2) := by decide +kernel
theorem dX1_together_73 : decode cX1_together 73 = .ok (.aload_n 0, 1) := by decide +kernel
theorem dX1_together_74 : decode cX1_together 74 = .ok (.iload_n 1, 1) := by decide +kernel
theorem dX1_together_75 : decode cX1_together 75 = .ok (.invokevirtual 63, 3) := by decide +kernel
theorem dX1_together_78 : decode cX1_together 78 = .ok (.ifCond .ne 11, 3) := by decide +kernel
theorem dX1_together_81 : decode cX1_together 81 = .ok (.aload_n 0, 1) := by decide +kernel
theorem dX1_together_82 : decode cX1_together 82 = .ok (.iload_n 2, 1) := by decide +kernel
theorem dX1_together_83 : decode cX1_together 83 = .ok (.invokevirtual 63, 3) := by decide +kernel
theorem dX1_together_86 : decode cX1_together 86 = .ok (.ifCond .eq 65, 3) := by decide +kernel
theorem dX1_together_89 : decode cX1_together 89 = .ok (.aload_n 0, 1) := by decide +kernel
theorem dX1_together_90 : decode cX1_together 90 = .ok (.bipush 120, 2) := by decide +kernel
theorem dX1_together_92 : decode cX1_together 92 = .ok (.iload 4, 2) := by decide +kernel
theorem dX1_together_94 : decode cX1_together 94 = .ok (.invokevirtual 28, 3) := by decide +kernel
theorem dX1_together_97 : decode cX1_together 97 = .ok (.istore 5, 2) := by decide +kernel
theorem dX1_together_99 : decode cX1_together 99 = .ok (.aload_n 0, 1) := by decide +kernel
theorem dX1_together_100 : decode cX1_together 100 = .ok (.iload_n 3, 1) := by decide +kernel
theorem dX1_together_101 : decode cX1_together 101 = .ok (.invokevirtual 63, 3) := by decide +kernel
theorem dX1_together_104 : decode cX1_together 104 = .ok (.ifCond .eq 13, 3) := by decide +kernel
theorem dX1_together_107 : decode cX1_together 107 = .ok (.iload_n 3, 1) := by decide +kernel
theorem dX1_together_108 : decode cX1_together 108 = .ok (.iload 5, 2) := by decide +kernel
theorem dX1_together_110 : decode cX1_together 110 = .ok (.if_icmp .eq 7, 3) := by decide +kernel
theorem dX1_together_113 : decode cX1_together 113 = .ok (.iconst 1, 1) := by decide +kernel
theorem dX1_together_114 : decode cX1_together 114 = .ok (.goto 4, 3) := by decide +kernel
theorem dX1_together_117 : decode cX1_together 117 = .ok (.iconst 0, 1) := by decide +kernel
theorem dX1_together_118 : decode cX1_together 118 = .ok (.istore 6, 2) := by decide +kernel
theorem dX1_together_120 : decode cX1_together 120 = .ok (.aload_n 0, 1) := by decide +kernel
theorem dX1_together_121 : decode cX1_together 121 = .ok (.iload_n 1, 1) := by decide +kernel
theorem dX1_together_122 : decode cX1_together 122 = .ok (.invokevirtual 46, 3) := by decide +kernel
theorem dX1_together_125 : decode cX1_together 125 = .ok (.ifCond .ne 16, 3) := by decide +kernel
theorem dX1_together_128 : decode cX1_together 128 = .ok (.aload_n 0, 1) := by decide +kernel
theorem dX1_together_129 : decode cX1_together 129 = .ok (.iload_n 2, 1) := by decide +kernel
theorem dX1_together_130 : decode cX1_together 130 = .ok (.invokevirtual 46, 3) := by decide +kernel
theorem dX1_together_133 : decode cX1_together 133 = .ok (.ifCond .ne 8, 3) := by decide +kernel
theorem dX1_together_136 : decode cX1_together 136 = .ok (.iload 6, 2) := by decide +kernel
theorem dX1_together_138 : decode cX1_together 138 = .ok (.ifCond .eq 10, 3) := by decide +kernel
theorem dX1_together_141 : decode cX1_together 141 = .ok (.aload_n 0, 1) := by decide +kernel
theorem dX1_together_142 : decode cX1_together 142 = .ok (.invokevirtual 66, 3) := by decide +kernel
theorem dX1_together_145 : decode cX1_together 145 = .ok (.goto 5, 3) := by decide +kernel
theorem dX1_together_148 : decode cX1_together 148 = .ok (.iload 5, 2) := by decide +kernel
theorem dX1_together_150 : decode cX1_together 150 = .ok (.ireturn, 1) := by decide +kernel
theorem dX1_together_151 : decode cX1_together 151 = .ok (.aload_n 0, 1) := by decide +kernel
theorem dX1_together_152 : decode cX1_together 152 = .ok (.iload_n 3, 1) := by decide +kernel
theorem dX1_together_153 : decode cX1_together 153 = .ok (.invokevirtual 63, 3) := by decide +kernel
theorem dX1_together_156 : decode cX1_together 156 = .ok (.ifCond .eq 5, 3) := by decide +kernel
theorem dX1_together_159 : decode cX1_together 159 = .ok (.iload_n 3, 1) := by decide +kernel
theorem dX1_together_160 : decode cX1_together 160 = .ok (.ireturn, 1) := by decide +kernel
theorem dX1_together_161 : decode cX1_together 161 = .ok (.aload_n 0, 1) := by decide +kernel
theorem dX1_together_162 : decode cX1_together 162 = .ok (.getfield 7, 3) := by decide +kernel
theorem dX1_together_165 : decode cX1_together 165 = .ok (.iload_n 1, 1) := by decide +kernel
theorem dX1_together_166 : decode cX1_together 166 = .ok (.sipush 128, 3) := by decide +kernel
theorem dX1_together_169 : decode cX1_together 169 = .ok (.irem, 1) := by decide +kernel
theorem dX1_together_170 : decode cX1_together 170 = .ok (.iaload, 1) := by decide +kernel
theorem dX1_together_171 : decode cX1_together 171 = .ok (.i2l, 1) := by decide +kernel
theorem dX1_together_172 : decode cX1_together 172 = .ok (.aload_n 0, 1) := by decide +kernel
theorem dX1_together_173 : decode cX1_together 173 = .ok (.getfield 7, 3) := by decide +kernel
theorem dX1_together_176 : decode cX1_together 176 = .ok (.iload_n 2, 1) := by decide +kernel
theorem dX1_together_177 : decode cX1_together 177 = .ok (.sipush 128, 3) := by decide +kernel
theorem dX1_together_180 : decode cX1_together 180 = .ok (.irem, 1) := by decide +kernel
theorem dX1_together_181 : decode cX1_together 181 = .ok (.iaload, 1) := by decide +kernel
theorem dX1_together_182 : decode cX1_together 182 = .ok (.i2l, 1) := by decide +kernel
theorem dX1_together_183 : decode cX1_together 183 = .ok (.lmul, 1) := by decide +kernel
theorem dX1_together_184 : decode cX1_together 184 = .ok (.lstore 5, 2) := by decide +kernel
theorem dX1_together_186 : decode cX1_together 186 = .ok (.aload_n 0, 1) := by decide +kernel
theorem dX1_together_187 : decode cX1_together 187 = .ok (.iload 4, 2) := by decide +kernel
theorem dX1_together_189 : decode cX1_together 189 = .ok (.ifCond .eq 9, 3) := by decide +kernel
theorem dX1_together_192 : decode cX1_together 192 = .ok (.lload 5, 2) := by decide +kernel
theorem dX1_together_194 : decode cX1_together 194 = .ok (.lneg, 1) := by decide +kernel
theorem dX1_together_195 : decode cX1_together 195 = .ok (.goto 5, 3) := by decide +kernel
theorem dX1_together_198 : decode cX1_together 198 = .ok (.lload 5, 2) := by decide +kernel
theorem dX1_together_200 : decode cX1_together 200 = .ok (.ldc2_w 78, 3) := by decide +kernel
theorem dX1_together_203 : decode cX1_together 203 = .ok (.iload 4, 2) := by decide +kernel
theorem dX1_together_205 : decode cX1_together 205 = .ok (.iload_n 3, 1) := by decide +kernel
theorem dX1_together_206 : decode cX1_together 206 = .ok (.invokevirtual 70, 3) := by decide +kernel
theorem dX1_together_209 : decode cX1_together 209 = .ok (.ireturn, 1) := by decide +kernel
theorem dX1_compare_0 : decode cX1_compare 0 = .ok (.aload_n 0, 1) := by decide +kernel
theorem dX1_compare_1 : decode cX1_compare 1 = .ok (.iload_n 1, 1) := by decide +kernel
theorem dX1_compare_2 : decode cX1_compare 2 = .ok (.invokevirtual 57, 3) := by decide +kernel
theorem dX1_compare_5 : decode cX1_compare 5 = .ok (.ifCond .eq 11, 3) := by decide +kernel
theorem dX1_compare_8 : decode cX1_compare 8 = .ok (.aload_n 0, 1) := by decide +kernel
theorem dX1_compare_9 : decode cX1_compare 9 = .ok (.iload_n 2, 1) := by decide +kernel
theorem dX1_compare_10 : decode cX1_compare 10 = .ok (.invokevirtual 57, 3) := by decide +kernel
theorem dX1_compare_13 : decode cX1_compare 13 = .ok (.ifCond .ne 5, 3) := by decide +kernel
theorem dX1_compare_16 : decode cX1_compare 16 = .ok (.iconst (-1), 1) := by decide +kernel
theorem dX1_compare_17 : decode cX1_compare 17 = .ok (.ireturn, 1) := by decide +kernel
theorem dX1_compare_18 : decode cX1_compare 18 = .ok (.aload_n 0, 1) := by decide +kernel
theorem dX1_compare_19 : decode cX1_compare 19 = .ok (.iload_n 1, 1) := by decide +kernel
theorem dX1_compare_20 : decode cX1_compare 20 = .ok (.invokevirtual 60, 3) := by decide +kernel
theorem dX1_compare_23 : decode cX1_compare 23 = .ok (.ifCond .ne 11, 3) := by decide +kernel
theorem dX1_compare_26 : decode cX1_compare 26 = .ok (.aload_n 0, 1) := by decide +kernel
theorem dX1_compare_27 : decode cX1_compare 27 = .ok (.iload_n 2, 1) := by decide +kernel
theorem dX1_compare_28 : decode cX1_compare 28 = .ok (.invokevirtual 60, 3) := by decide +kernel
theorem dX1_compare_31 : decode cX1_compare 31 = .ok (.ifCond .eq 5, 3) := by decide +kernel
theorem dX1_compare_34 : decode cX1_compare 34 = .ok (.iconst 2, 1) := by decide +kernel
theorem dX1_compare_35 : decode cX1_compare 35 = .ok (.ireturn, 1) := by decide +kernel
theorem dX1_compare_36 : decode cX1_compare 36 = .ok (.aload_n 0, 1) := by decide +kernel
theorem dX1_compare_37 : decode cX1_compare 37 = .ok (.aload_n 0, 1) := by decide +kernel
theorem dX1_compare_38 : decode cX1_compare 38 = .ok (.iload_n 1, 1) := by decide +kernel
theorem dX1_compare_39 : decode cX1_compare 39 = .ok (.invokevirtual 42, 3) := by decide +kernel
theorem dX1_compare_42 : decode cX1_compare 42 = .ok (.aload_n 0, 1) := by decide +kernel
theorem dX1_compare_43 : decode cX1_compare 43 = .ok (.iload_n 2, 1) := by decide +kernel
theorem dX1_compare_44 : decode cX1_compare 44 = .ok (.invokevirtual 42, 3) := by decide +kernel
theorem dX1_compare_47 : decode cX1_compare 47 = .ok (.isub, 1) := by decide +kernel
theorem dX1_compare_48 : decode cX1_compare 48 = .ok (.i2l, 1) := by decide +kernel
theorem dX1_compare_49 : decode cX1_compare 49 = .ok (.invokevirtual 34, 3) := by decide +kernel
theorem dX1_compare_52 : decode cX1_compare 52 = .ok (.ireturn, 1) := by decide +kernel
theorem dX1_from_0 : decode cX1_from 0 = .ok (.iload_n 1, 1) := by decide +kernel
theorem dX1_from_1 : decode cX1_from 1 = .ok (.ldc 82, 2) := by decide +kernel
theorem dX1_from_3 : decode cX1_from 3 = .ok (.if_icmp .lt 9, 3) := by decide +kernel
theorem dX1_from_6 : decode cX1_from 6 = .ok (.iload_n 1, 1) := by decide +kernel
theorem dX1_from_7 : decode cX1_from 7 = .ok (.ldc 83, 2) := by decide +kernel
theorem dX1_from_9 : decode cX1_from 9 = .ok (.if_icmp .le 5, 3) := by decide +kernel
end
section
set_option maxRecDepth 100000
theorem dX1_from_12 : decode cX1_from 12 = .ok (.iconst (-1), 1) := by decide +kernel
theorem dX1_from_13 : decode cX1_from 13 = .ok (.ireturn, 1) := by decide +kernel
theorem dX1_from_14 : decode cX1_from 14 = .ok (.iload_n 1, 1) := by decide +kernel
theorem dX1_from_15 : decode cX1_from 15 = .ok (.ifCond .ge 9, 3) := by decide +kernel
theorem dX1_from_18 : decode cX1_from 18 = .ok (.iload_n 1, 1) := by decide +kernel
theorem dX1_from_19 : decode cX1_from 19 = .ok (.ineg, 1) := by decide +kernel
theorem dX1_from_20 : decode cX1_from 20 = .ok (.i2l, 1) := by decide +kernel
theorem dX1_from_21 : decode cX1_from 21 = .ok (.goto 5, 3) := by decide +kernel
theorem dX1_from_24 : decode cX1_from 24 = .ok (.iload_n 1, 1) := by decide +kernel
theorem dX1_from_25 : decode cX1_from 25 = .ok (.i2l, 1) := by decide +kernel
theorem dX1_from_26 : decode cX1_from 26 = .ok (.lstore_n 2, 1) := by decide +kernel
theorem dX1_from_27 : decode cX1_from 27 = .ok (.iload_n 1, 1) := by decide +kernel
theorem dX1_from_28 : decode cX1_from 28 = .ok (.ifCond .ne 7, 3) := by decide +kernel
theorem dX1_from_31 : decode cX1_from 31 = .ok (.iconst 0, 1) := by decide +kernel
theorem dX1_from_32 : decode cX1_from 32 = .ok (.goto 22, 3) := by decide +kernel
theorem dX1_from_35 : decode cX1_from 35 = .ok (.aload_n 0, 1) := by decide +kernel
theorem dX1_from_36 : decode cX1_from 36 = .ok (.ldc2_w 78, 3) := by decide +kernel
theorem dX1_from_39 : decode cX1_from 39 = .ok (.lload_n 2, 1) := by decide +kernel
theorem dX1_from_40 : decode cX1_from 40 = .ok (.lmul, 1) := by decide +kernel
theorem dX1_from_41 : decode cX1_from 41 = .ok (.lconst 1, 1) := by decide +kernel
theorem dX1_from_42 : decode cX1_from 42 = .ok (.iload_n 1, 1) := by decide +kernel
theorem dX1_from_43 : decode cX1_from 43 = .ok (.ifCond .ge 7, 3) := by decide +kernel
theorem dX1_from_46 : decode cX1_from 46 = .ok (.iconst 1, 1) := by decide +kernel
theorem dX1_from_47 : decode cX1_from 47 = .ok (.goto 4, 3) := by decide +kernel
theorem dX1_from_50 : decode cX1_from 50 = .ok (.iconst 0, 1) := by decide +kernel
theorem dX1_from_51 : decode cX1_from 51 = .ok (.invokevirtual 53, 3) := by decide +kernel
theorem dX1_from_54 : decode cX1_from 54 = .ok (.ireturn, 1) := by decide +kernel
theorem dX1_whole_0 : decode cX1_whole 0 = .ok (.aload_n 0, 1) := by decide +kernel
theorem dX1_whole_1 : decode cX1_whole 1 = .ok (.iload_n 1, 1) := by decide +kernel
theorem dX1_whole_2 : decode cX1_whole 2 = .ok (.invokevirtual 57, 3) := by decide +kernel
theorem dX1_whole_5 : decode cX1_whole 5 = .ok (.ifCond .eq 11, 3) := by decide +kernel
theorem dX1_whole_8 : decode cX1_whole 8 = .ok (.aload_n 0, 1) := by decide +kernel
theorem dX1_whole_9 : decode cX1_whole 9 = .ok (.iload_n 1, 1) := by decide +kernel
theorem dX1_whole_10 : decode cX1_whole 10 = .ok (.invokevirtual 60, 3) := by decide +kernel
theorem dX1_whole_13 : decode cX1_whole 13 = .ok (.ifCond .eq 7, 3) := by decide +kernel
theorem dX1_whole_16 : decode cX1_whole 16 = .ok (.sipush 9999, 3) := by decide +kernel
theorem dX1_whole_19 : decode cX1_whole 19 = .ok (.ireturn, 1) := by decide +kernel
theorem dX1_whole_20 : decode cX1_whole 20 = .ok (.aload_n 0, 1) := by decide +kernel
theorem dX1_whole_21 : decode cX1_whole 21 = .ok (.iload_n 1, 1) := by decide +kernel
theorem dX1_whole_22 : decode cX1_whole 22 = .ok (.invokevirtual 63, 3) := by decide +kernel
theorem dX1_whole_25 : decode cX1_whole 25 = .ok (.ifCond .eq 21, 3) := by decide +kernel
theorem dX1_whole_28 : decode cX1_whole 28 = .ok (.aload_n 0, 1) := by decide +kernel
theorem dX1_whole_29 : decode cX1_whole 29 = .ok (.iload_n 1, 1) := by decide +kernel
theorem dX1_whole_30 : decode cX1_whole 30 = .ok (.invokevirtual 13, 3) := by decide +kernel
theorem dX1_whole_33 : decode cX1_whole 33 = .ok (.ifCond .eq 9, 3) := by decide +kernel
theorem dX1_whole_36 : decode cX1_whole 36 = .ok (.sipush (-1000), 3) := by decide +kernel
theorem dX1_whole_39 : decode cX1_whole 39 = .ok (.goto 6, 3) := by decide +kernel
theorem dX1_whole_42 : decode cX1_whole 42 = .ok (.sipush 1000, 3) := by decide +kernel
theorem dX1_whole_45 : decode cX1_whole 45 = .ok (.ireturn, 1) := by decide +kernel
theorem dX1_whole_46 : decode cX1_whole 46 = .ok (.aload_n 0, 1) := by decide +kernel
theorem dX1_whole_47 : decode cX1_whole 47 = .ok (.getfield 7, 3) := by decide +kernel
theorem dX1_whole_50 : decode cX1_whole 50 = .ok (.iload_n 1, 1) := by decide +kernel
theorem dX1_whole_51 : decode cX1_whole 51 = .ok (.sipush 128, 3) := by decide +kernel
theorem dX1_whole_54 : decode cX1_whole 54 = .ok (.irem, 1) := by decide +kernel
theorem dX1_whole_55 : decode cX1_whole 55 = .ok (.iaload, 1) := by decide +kernel
theorem dX1_whole_56 : decode cX1_whole 56 = .ok (.istore_n 2, 1) := by decide +kernel
theorem dX1_whole_57 : decode cX1_whole 57 = .ok (.iload_n 2, 1) := by decide +kernel
theorem dX1_whole_58 : decode cX1_whole 58 = .ok (.sipush 512, 3) := by decide +kernel
theorem dX1_whole_61 : decode cX1_whole 61 = .ok (.idiv, 1) := by decide +kernel
theorem dX1_whole_62 : decode cX1_whole 62 = .ok (.istore_n 3, 1) := by decide +kernel
theorem dX1_whole_63 : decode cX1_whole 63 = .ok (.iload_n 2, 1) := by decide +kernel
theorem dX1_whole_64 : decode cX1_whole 64 = .ok (.sipush 512, 3) := by decide +kernel
theorem dX1_whole_67 : decode cX1_whole 67 = .ok (.irem, 1) := by decide +kernel
theorem dX1_whole_68 : decode cX1_whole 68 = .ok (.istore 4, 2) := by decide +kernel
theorem dX1_whole_70 : decode cX1_whole 70 = .ok (.aload_n 0, 1) := by decide +kernel
theorem dX1_whole_71 : decode cX1_whole 71 = .ok (.getfield 17, 3) := by decide +kernel
theorem dX1_whole_74 : decode cX1_whole 74 = .ok (.ifCond .ne 34, 3) := by decide +kernel
theorem dX1_whole_77 : decode cX1_whole 77 = .ok (.iload 4, 2) := by decide +kernel
theorem dX1_whole_79 : decode cX1_whole 79 = .ok (.sipush 256, 3) := by decide +kernel
theorem dX1_whole_82 : decode cX1_whole 82 = .ok (.if_icmp .gt 18, 3) := by decide +kernel
theorem dX1_whole_85 : decode cX1_whole 85 = .ok (.iload 4, 2) := by decide +kernel
theorem dX1_whole_87 : decode cX1_whole 87 = .ok (.sipush 256, 3) := by decide +kernel
theorem dX1_whole_90 : decode cX1_whole 90 = .ok (.if_icmp .ne 14, 3) := by decide +kernel
theorem dX1_whole_93 : decode cX1_whole 93 = .ok (.iload_n 3, 1) := by decide +kernel
theorem dX1_whole_94 : decode cX1_whole 94 = .ok (.iconst 2, 1) := by decide +kernel
theorem dX1_whole_95 : decode cX1_whole 95 = .ok (.irem, 1) := by decide +kernel
theorem dX1_whole_96 : decode cX1_whole 96 = .ok (.iconst 1, 1) := by decide +kernel
theorem dX1_whole_97 : decode cX1_whole 97 = .ok (.if_icmp .ne 7, 3) := by decide +kernel
theorem dX1_whole_100 : decode cX1_whole 100 = .ok (.iconst 1, 1) := by decide +kernel
theorem dX1_whole_101 : decode cX1_whole 101 = .ok (.goto 29, 3) := by decide +kernel
theorem dX1_whole_104 : decode cX1_whole 104 = .ok (.iconst 0, 1) := by decide +kernel
theorem dX1_whole_105 : decode cX1_whole 105 = .ok (.goto 25, 3) := by decide +kernel
theorem dX1_whole_108 : decode cX1_whole 108 = .ok (.iload 4, 2) := by decide +kernel
theorem dX1_whole_110 : decode cX1_whole 110 = .ok (.ifCond .le 19, 3) := by decide +kernel
theorem dX1_whole_113 : decode cX1_whole 113 = .ok (.aload_n 0, 1) := by decide +kernel
theorem dX1_whole_114 : decode cX1_whole 114 = .ok (.aload_n 0, 1) := by decide +kernel
theorem dX1_whole_115 : decode cX1_whole 115 = .ok (.iload_n 1, 1) := by decide +kernel
theorem dX1_whole_116 : decode cX1_whole 116 = .ok (.invokevirtual 13, 3) := by decide +kernel
theorem dX1_whole_119 : decode cX1_whole 119 = .ok (.invokevirtual 24, 3) := by decide +kernel
theorem dX1_whole_122 : decode cX1_whole 122 = .ok (.ifCond .eq 7, 3) := by decide +kernel
theorem dX1_whole_125 : decode cX1_whole 125 = .ok (.iconst 1, 1) := by decide +kernel
theorem dX1_whole_126 : decode cX1_whole 126 = .ok (.goto 4, 3) := by decide +kernel
theorem dX1_whole_129 : decode cX1_whole 129 = .ok (.iconst 0, 1) := by decide +kernel
theorem dX1_whole_130 : decode cX1_whole 130 = .ok (.istore 5, 2) := by decide +kernel
theorem dX1_whole_132 : decode cX1_whole 132 = .ok (.iload 5, 2) := by decide +kernel
theorem dX1_whole_134 : decode cX1_whole 134 = .ok (.ifCond .eq 9, 3) := by decide +kernel
theorem dX1_whole_137 : decode cX1_whole 137 = .ok (.iload_n 3, 1) := by decide +kernel
theorem dX1_whole_138 : decode cX1_whole 138 = .ok (.iconst 1, 1) := by decide +kernel
theorem dX1_whole_139 : decode cX1_whole 139 = .ok (.iadd, 1) := by decide +kernel
theorem dX1_whole_140 : decode cX1_whole 140 = .ok (.goto 4, 3) := by decide +kernel
theorem dX1_whole_143 : decode cX1_whole 143 = .ok (.iload_n 3, 1) := by decide +kernel
theorem dX1_whole_144 : decode cX1_whole 144 = .ok (.istore 6, 2) := by decide +kernel
theorem dX1_whole_146 : decode cX1_whole 146 = .ok (.aload_n 0, 1) := by decide +kernel
theorem dX1_whole_147 : decode cX1_whole 147 = .ok (.iload_n 1, 1) := by decide +kernel
theorem dX1_whole_148 : decode cX1_whole 148 = .ok (.invokevirtual 13, 3) := by decide +kernel
theorem dX1_whole_151 : decode cX1_whole 151 = .ok (.ifCond .eq 9, 3) := by decide +kernel
theorem dX1_whole_154 : decode cX1_whole 154 = .ok (.iload 6, 2) := by decide +kernel
theorem dX1_whole_156 : decode cX1_whole 156 = .ok (.ineg, 1) := by decide +kernel
theorem dX1_whole_157 : decode cX1_whole 157 = .ok (.goto 5, 3) := by decide +kernel
theorem dX1_whole_160 : decode cX1_whole 160 = .ok (.iload 6, 2) := by decide +kernel
theorem dX1_whole_162 : decode cX1_whole 162 = .ok (.ireturn, 1) := by decide +kernel
theorem dX1_pile_0 : decode cX1_pile 0 = .ok (.aload_n 0, 1) := by decide +kernel
theorem dX1_pile_1 : decode cX1_pile 1 = .ok (.iload_n 1, 1) := by decide +kernel
theorem dX1_pile_2 : decode cX1_pile 2 = .ok (.invokevirtual 57, 3) := by decide +kernel
theorem dX1_pile_5 : decode cX1_pile 5 = .ok (.ifCond .ne 5, 3) := by decide +kernel
theorem dX1_pile_8 : decode cX1_pile 8 = .ok (.iconst (-1), 1) := by decide +kernel
theorem dX1_pile_9 : decode cX1_pile 9 = .ok (.ireturn, 1) := by decide +kernel
theorem dX1_pile_10 : decode cX1_pile 10 = .ok (.aload_n 0, 1) := by decide +kernel
theorem dX1_pile_11 : decode cX1_pile 11 = .ok (.aload_n 0, 1) := by decide +kernel
theorem dX1_pile_12 : decode cX1_pile 12 = .ok (.aload_n 0, 1) := by decide +kernel
theorem dX1_pile_13 : decode cX1_pile 13 = .ok (.getfield 84, 3) := by decide +kernel
theorem dX1_pile_16 : decode cX1_pile 16 = .ok (.iload_n 1, 1) := by decide +kernel
theorem dX1_pile_17 : decode cX1_pile 17 = .ok (.invokevirtual 74, 3) := by decide +kernel
theorem dX1_pile_20 : decode cX1_pile 20 = .ok (.putfield 84, 3) := by decide +kernel
theorem dX1_pile_23 : decode cX1_pile 23 = .ok (.aload_n 0, 1) := by decide +kernel
theorem dX1_pile_24 : decode cX1_pile 24 = .ok (.getfield 84, 3) := by decide +kernel
theorem dX1_pile_27 : decode cX1_pile 27 = .ok (.ireturn, 1) := by decide +kernel
theorem dX1_pileProduct_0 : decode cX1_pileProduct 0 = .ok (.aload_n 0, 1) := by decide +kernel
theorem dX1_pileProduct_1 : decode cX1_pileProduct 1 = .ok (.iload_n 1, 1) := by decide +kernel
theorem dX1_pileProduct_2 : decode cX1_pileProduct 2 = .ok (.invokevirtual 57, 3) := by decide +kernel
theorem dX1_pileProduct_5 : decode cX1_pileProduct 5 = .ok (.ifCond .eq 11, 3) := by decide +kernel
theorem dX1_pileProduct_8 : decode cX1_pileProduct 8 = .ok (.aload_n 0, 1) := by decide +kernel
theorem dX1_pileProduct_9 : decode cX1_pileProduct 9 = .ok (.iload_n 2, 1) := by decide +kernel
theorem dX1_pileProduct_10 : decode cX1_pileProduct 10 = .ok (.invokevirtual 57, 3) := by decide +kernel
theorem dX1_pileProduct_13 : decode cX1_pileProduct 13 = .ok (.ifCond .ne 5, 3) := by decide +kernel
theorem dX1_pileProduct_16 : decode cX1_pileProduct 16 = .ok (.iconst (-1), 1) := by decide +kernel
theorem dX1_pileProduct_17 : decode cX1_pileProduct 17 = .ok (.ireturn, 1) := by decide +kernel
theorem dX1_pileProduct_18 : decode cX1_pileProduct 18 = .ok (.aload_n 0, 1) := by decide +kernel
theorem dX1_pileProduct_19 : decode cX1_pileProduct 19 = .ok (.aload_n 0, 1) := by decide +kernel
theorem dX1_pileProduct_20 : decode cX1_pileProduct 20 = .ok (.iload_n 1, 1) := by decide +kernel
theorem dX1_pileProduct_21 : decode cX1_pileProduct 21 = .ok (.iload_n 2, 1) := by decide +kernel
theorem dX1_pileProduct_22 : decode cX1_pileProduct 22 = .ok (.aload_n 0, 1) := by decide +kernel
theorem dX1_pileProduct_23 : decode cX1_pileProduct 23 = .ok (.getfield 84, 3) := by decide +kernel
theorem dX1_pileProduct_26 : decode cX1_pileProduct 26 = .ok (.invokevirtual 87, 3) := by decide +kernel
theorem dX1_pileProduct_29 : decode cX1_pileProduct 29 = .ok (.putfield 84, 3) := by decide +kernel
theorem dX1_pileProduct_32 : decode cX1_pileProduct 32 = .ok (.aload_n 0, 1) := by decide +kernel
theorem dX1_pileProduct_33 : decode cX1_pileProduct 33 = .ok (.getfield 84, 3) := by decide +kernel
theorem dX1_pileProduct_36 : decode cX1_pileProduct 36 = .ok (.ireturn, 1) := by decide +kernel
theorem dX1_store_0 : decode cX1_store 0 = .ok (.aload_n 0, 1) := by decide +kernel
theorem dX1_store_1 : decode cX1_store 1 = .ok (.iload_n 1, 1) := by decide +kernel
theorem dX1_store_2 : decode cX1_store 2 = .ok (.invokevirtual 57, 3) := by decide +kernel
theorem dX1_store_5 : decode cX1_store 5 = .ok (.ifCond .ne 5, 3) := by decide +kernel
theorem dX1_store_8 : decode cX1_store 8 = .ok (.iconst (-1), 1) := by decide +kernel
theorem dX1_store_9 : decode cX1_store 9 = .ok (.ireturn, 1) := by decide +kernel
theorem dX1_store_10 : decode cX1_store 10 = .ok (.aload_n 0, 1) := by decide +kernel
theorem dX1_store_11 : decode cX1_store 11 = .ok (.getfield 84, 3) := by decide +kernel
theorem dX1_store_14 : decode cX1_store 14 = .ok (.istore_n 2, 1) := by decide +kernel
theorem dX1_store_15 : decode cX1_store 15 = .ok (.aload_n 0, 1) := by decide +kernel
theorem dX1_store_16 : decode cX1_store 16 = .ok (.iload_n 1, 1) := by decide +kernel
theorem dX1_store_17 : decode cX1_store 17 = .ok (.putfield 84, 3) := by decide +kernel
theorem dX1_store_20 : decode cX1_store 20 = .ok (.iload_n 2, 1) := by decide +kernel
theorem dX1_store_21 : decode cX1_store 21 = .ok (.ireturn, 1) := by decide +kernel
end
section
set_option maxRecDepth 100000
theorem dL_law_0 : decode cL_law 0 = .ok (.new 7, 3) := by decide +kernel
theorem dL_law_3 : decode cL_law 3 = .ok (.dup, 1) := by decide +kernel
theorem dL_law_4 : decode cL_law 4 = .ok (.invokespecial 9, 3) := by decide +kernel
theorem dL_law_7 : decode cL_law 7 = .ok (.astore_n 1, 1) := by decide +kernel
theorem dL_law_8 : decode cL_law 8 = .ok (.new 10, 3) := by decide +kernel
theorem dL_law_11 : decode cL_law 11 = .ok (.dup, 1) := by decide +kernel
theorem dL_law_12 : decode cL_law 12 = .ok (.invokespecial 12, 3) := by decide +kernel
theorem dL_law_15 : decode cL_law 15 = .ok (.astore_n 2, 1) := by decide +kernel
theorem dL_law_16 : decode cL_law 16 = .ok (.iconst 0, 1) := by decide +kernel
theorem dL_law_17 : decode cL_law 17 = .ok (.istore_n 3, 1) := by decide +kernel
theorem dL_law_18 : decode cL_law 18 = .ok (.iload_n 3, 1) := by decide +kernel
theorem dL_law_19 : decode cL_law 19 = .ok (.aload_n 0, 1) := by decide +kernel
theorem dL_law_20 : decode cL_law 20 = .ok (.arraylength, 1) := by decide +kernel
theorem dL_law_21 : decode cL_law 21 = .ok (.iconst 4, 1) := by decide +kernel
theorem dL_law_22 : decode cL_law 22 = .ok (.isub, 1) := by decide +kernel
theorem dL_law_23 : decode cL_law 23 = .ok (.if_icmp .gt 496, 3) := by decide +kernel
theorem dL_law_26 : decode cL_law 26 = .ok (.aload_n 0, 1) := by decide +kernel
theorem dL_law_27 : decode cL_law 27 = .ok (.iload_n 3, 1) := by decide +kernel
theorem dL_law_28 : decode cL_law 28 = .ok (.iaload, 1) := by decide +kernel
theorem dL_law_29 : decode cL_law 29 = .ok (.bipush 15, 2) := by decide +kernel
theorem dL_law_31 : decode cL_law 31 = .ok (.iand, 1) := by decide +kernel
theorem dL_law_32 : decode cL_law 32 = .ok (.tableswitch 481 0 14 #[76, 99, 112, 125, 158, 191, 224, 257, 280, 323, 356, 379, 402, 425, 458], 76) := by decide +kernel
theorem dL_law_108 : decode cL_law 108 = .ok (.aload_n 1, 1) := by decide +kernel
theorem dL_law_109 : decode cL_law 109 = .ok (.aload_n 0, 1) := by decide +kernel
theorem dL_law_110 : decode cL_law 110 = .ok (.iload_n 3, 1) := by decide +kernel
theorem dL_law_111 : decode cL_law 111 = .ok (.iconst 1, 1) := by decide +kernel
theorem dL_law_112 : decode cL_law 112 = .ok (.iadd, 1) := by decide +kernel
theorem dL_law_113 : decode cL_law 113 = .ok (.iaload, 1) := by decide +kernel
theorem dL_law_114 : decode cL_law 114 = .ok (.invokevirtual 13, 3) := by decide +kernel
theorem dL_law_117 : decode cL_law 117 = .ok (.aload_n 2, 1) := by decide +kernel
theorem dL_law_118 : decode cL_law 118 = .ok (.aload_n 0, 1) := by decide +kernel
theorem dL_law_119 : decode cL_law 119 = .ok (.iload_n 3, 1) := by decide +kernel
theorem dL_law_120 : decode cL_law 120 = .ok (.iconst 1, 1) := by decide +kernel
theorem dL_law_121 : decode cL_law 121 = .ok (.iadd, 1) := by decide +kernel
theorem dL_law_122 : decode cL_law 122 = .ok (.iaload, 1) := by decide +kernel
theorem dL_law_123 : decode cL_law 123 = .ok (.invokevirtual 17, 3) := by decide +kernel
theorem dL_law_126 : decode cL_law 126 = .ok (.if_icmp .eq 387, 3) := by decide +kernel
theorem dL_law_129 : decode cL_law 129 = .ok (.iconst 0, 1) := by decide +kernel
theorem dL_law_130 : decode cL_law 130 = .ok (.ireturn, 1) := by decide +kernel
theorem dL_law_131 : decode cL_law 131 = .ok (.aload_n 1, 1) := by decide +kernel
theorem dL_law_132 : decode cL_law 132 = .ok (.invokevirtual 18, 3) := by decide +kernel
theorem dL_law_135 : decode cL_law 135 = .ok (.aload_n 2, 1) := by decide +kernel
theorem dL_law_136 : decode cL_law 136 = .ok (.invokevirtual 22, 3) := by decide +kernel
theorem dL_law_139 : decode cL_law 139 = .ok (.if_icmp .eq 374, 3) := by decide +kernel
theorem dL_law_142 : decode cL_law 142 = .ok (.iconst 0, 1) := by decide +kernel
theorem dL_law_143 : decode cL_law 143 = .ok (.ireturn, 1) := by decide +kernel
theorem dL_law_144 : decode cL_law 144 = .ok (.aload_n 1, 1) := by decide +kernel
theorem dL_law_145 : decode cL_law 145 = .ok (.invokevirtual 23, 3) := by decide +kernel
theorem dL_law_148 : decode cL_law 148 = .ok (.aload_n 2, 1) := by decide +kernel
theorem dL_law_149 : decode cL_law 149 = .ok (.invokevirtual 26, 3) := by decide +kernel
theorem dL_law_152 : decode cL_law 152 = .ok (.if_icmp .eq 361, 3) := by decide +kernel
theorem dL_law_155 : decode cL_law 155 = .ok (.iconst 0, 1) := by decide +kernel
theorem dL_law_156 : decode cL_law 156 = .ok (.ireturn, 1) := by decide +kernel
theorem dL_law_157 : decode cL_law 157 = .ok (.aload_n 1, 1) := by decide +kernel
theorem dL_law_158 : decode cL_law 158 = .ok (.aload_n 0, 1) := by decide +kernel
theorem dL_law_159 : decode cL_law 159 = .ok (.iload_n 3, 1) := by decide +kernel
theorem dL_law_160 : decode cL_law 160 = .ok (.iconst 1, 1) := by decide +kernel
theorem dL_law_161 : decode cL_law 161 = .ok (.iadd, 1) := by decide +kernel
theorem dL_law_162 : decode cL_law 162 = .ok (.iaload, 1) := by decide +kernel
theorem dL_law_163 : decode cL_law 163 = .ok (.aload_n 0, 1) := by decide +kernel
theorem dL_law_164 : decode cL_law 164 = .ok (.iload_n 3, 1) := by decide +kernel
theorem dL_law_165 : decode cL_law 165 = .ok (.iconst 2, 1) := by decide +kernel
theorem dL_law_166 : decode cL_law 166 = .ok (.iadd, 1) := by decide +kernel
theorem dL_law_167 : decode cL_law 167 = .ok (.iaload, 1) := by decide +kernel
theorem dL_law_168 : decode cL_law 168 = .ok (.invokevirtual 27, 3) := by decide +kernel
theorem dL_law_171 : decode cL_law 171 = .ok (.aload_n 2, 1) := by decide +kernel
theorem dL_law_172 : decode cL_law 172 = .ok (.aload_n 0, 1) := by decide +kernel
theorem dL_law_173 : decode cL_law 173 = .ok (.iload_n 3, 1) := by decide +kernel
theorem dL_law_174 : decode cL_law 174 = .ok (.iconst 1, 1) := by decide +kernel
theorem dL_law_175 : decode cL_law 175 = .ok (.iadd, 1) := by decide +kernel
theorem dL_law_176 : decode cL_law 176 = .ok (.iaload, 1) := by decide +kernel
theorem dL_law_177 : decode cL_law 177 = .ok (.aload_n 0, 1) := by decide +kernel
theorem dL_law_178 : decode cL_law 178 = .ok (.iload_n 3, 1) := by decide +kernel
theorem dL_law_179 : decode cL_law 179 = .ok (.iconst 2, 1) := by decide +kernel
theorem dL_law_180 : decode cL_law 180 = .ok (.iadd, 1) := by decide +kernel
theorem dL_law_181 : decode cL_law 181 = .ok (.iaload, 1) := by decide +kernel
theorem dL_law_182 : decode cL_law 182 = .ok (.invokevirtual 31, 3) := by decide +kernel
theorem dL_law_185 : decode cL_law 185 = .ok (.if_icmp .eq 328, 3) := by decide +kernel
theorem dL_law_188 : decode cL_law 188 = .ok (.iconst 0, 1) := by decide +kernel
theorem dL_law_189 : decode cL_law 189 = .ok (.ireturn, 1) := by decide +kernel
theorem dL_law_190 : decode cL_law 190 = .ok (.aload_n 1, 1) := by decide +kernel
theorem dL_law_191 : decode cL_law 191 = .ok (.aload_n 0, 1) := by decide +kernel
theorem dL_law_192 : decode cL_law 192 = .ok (.iload_n 3, 1) := by decide +kernel
theorem dL_law_193 : decode cL_law 193 = .ok (.iconst 1, 1) := by decide +kernel
theorem dL_law_194 : decode cL_law 194 = .ok (.iadd, 1) := by decide +kernel
theorem dL_law_195 : decode cL_law 195 = .ok (.iaload, 1) := by decide +kernel
theorem dL_law_196 : decode cL_law 196 = .ok (.aload_n 0, 1) := by decide +kernel
theorem dL_law_197 : decode cL_law 197 = .ok (.iload_n 3, 1) := by decide +kernel
theorem dL_law_198 : decode cL_law 198 = .ok (.iconst 2, 1) := by decide +kernel
theorem dL_law_199 : decode cL_law 199 = .ok (.iadd, 1) := by decide +kernel
theorem dL_law_200 : decode cL_law 200 = .ok (.iaload, 1) := by decide +kernel
theorem dL_law_201 : decode cL_law 201 = .ok (.invokevirtual 32, 3) := by decide +kernel
theorem dL_law_204 : decode cL_law 204 = .ok (.aload_n 2, 1) := by decide +kernel
theorem dL_law_205 : decode cL_law 205 = .ok (.aload_n 0, 1) := by decide +kernel
theorem dL_law_206 : decode cL_law 206 = .ok (.iload_n 3, 1) := by decide +kernel
theorem dL_law_207 : decode cL_law 207 = .ok (.iconst 1, 1) := by decide +kernel
theorem dL_law_208 : decode cL_law 208 = .ok (.iadd, 1) := by decide +kernel
theorem dL_law_209 : decode cL_law 209 = .ok (.iaload, 1) := by decide +kernel
theorem dL_law_210 : decode cL_law 210 = .ok (.aload_n 0, 1) := by decide +kernel
theorem dL_law_211 : decode cL_law 211 = .ok (.iload_n 3, 1) := by decide +kernel
theorem dL_law_212 : decode cL_law 212 = .ok (.iconst 2, 1) := by decide +kernel
theorem dL_law_213 : decode cL_law 213 = .ok (.iadd, 1) := by decide +kernel
theorem dL_law_214 : decode cL_law 214 = .ok (.iaload, 1) := by decide +kernel
theorem dL_law_215 : decode cL_law 215 = .ok (.invokevirtual 35, 3) := by decide +kernel
theorem dL_law_218 : decode cL_law 218 = .ok (.if_icmp .eq 295, 3) := by decide +kernel
theorem dL_law_221 : decode cL_law 221 = .ok (.iconst 0, 1) := by decide +kernel
theorem dL_law_222 : decode cL_law 222 = .ok (.ireturn, 1) := by decide +kernel
theorem dL_law_223 : decode cL_law 223 = .ok (.aload_n 1, 1) := by decide +kernel
theorem dL_law_224 : decode cL_law 224 = .ok (.aload_n 0, 1) := by decide +kernel
theorem dL_law_225 : decode cL_law 225 = .ok (.iload_n 3, 1) := by decide +kernel
theorem dL_law_226 : decode cL_law 226 = .ok (.iconst 1, 1) := by decide +kernel
theorem dL_law_227 : decode cL_law 227 = .ok (.iadd, 1) := by decide +kernel
theorem dL_law_228 : decode cL_law 228 = .ok (.iaload, 1) := by decide +kernel
theorem dL_law_229 : decode cL_law 229 = .ok (.aload_n 0, 1) := by decide +kernel
theorem dL_law_230 : decode cL_law 230 = .ok (.iload_n 3, 1) := by decide +kernel
theorem dL_law_231 : decode cL_law 231 = .ok (.iconst 2, 1) := by decide +kernel
theorem dL_law_232 : decode cL_law 232 = .ok (.iadd, 1) := by decide +kernel
theorem dL_law_233 : decode cL_law 233 = .ok (.iaload, 1) := by decide +kernel
theorem dL_law_234 : decode cL_law 234 = .ok (.invokevirtual 36, 3) := by decide +kernel
theorem dL_law_237 : decode cL_law 237 = .ok (.aload_n 2, 1) := by decide +kernel
theorem dL_law_238 : decode cL_law 238 = .ok (.aload_n 0, 1) := by decide +kernel
theorem dL_law_239 : decode cL_law 239 = .ok (.iload_n 3, 1) := by decide +kernel
theorem dL_law_240 : decode cL_law 240 = .ok (.iconst 1, 1) := by decide +kernel
theorem dL_law_241 : decode cL_law 241 = .ok (.iadd, 1) := by decide +kernel
theorem dL_law_242 : decode cL_law 242 = .ok (.iaload, 1) := by decide +kernel
theorem dL_law_243 : decode cL_law 243 = .ok (.aload_n 0, 1) := by decide +kernel
theorem dL_law_244 : decode cL_law 244 = .ok (.iload_n 3, 1) := by decide +kernel
theorem dL_law_245 : decode cL_law 245 = .ok (.iconst 2, 1) := by decide +kernel
theorem dL_law_246 : decode cL_law 246 = .ok (.iadd, 1) := by decide +kernel
theorem dL_law_247 : decode cL_law 247 = .ok (.iaload, 1) := by decide +kernel
theorem dL_law_248 : decode cL_law 248 = .ok (.invokevirtual 39, 3) := by decide +kernel
theorem dL_law_251 : decode cL_law 251 = .ok (.if_icmp .eq 262, 3) := by decide +kernel
theorem dL_law_254 : decode cL_law 254 = .ok (.iconst 0, 1) := by decide +kernel
theorem dL_law_255 : decode cL_law 255 = .ok (.ireturn, 1) := by decide +kernel
theorem dL_law_256 : decode cL_law 256 = .ok (.aload_n 1, 1) := by decide +kernel
theorem dL_law_257 : decode cL_law 257 = .ok (.aload_n 0, 1) := by decide +kernel
theorem dL_law_258 : decode cL_law 258 = .ok (.iload_n 3, 1) := by decide +kernel
theorem dL_law_259 : decode cL_law 259 = .ok (.iconst 1, 1) := by decide +kernel
theorem dL_law_260 : decode cL_law 260 = .ok (.iadd, 1) := by decide +kernel
theorem dL_law_261 : decode cL_law 261 = .ok (.iaload, 1) := by decide +kernel
theorem dL_law_262 : decode cL_law 262 = .ok (.aload_n 0, 1) := by decide +kernel
theorem dL_law_263 : decode cL_law 263 = .ok (.iload_n 3, 1) := by decide +kernel
theorem dL_law_264 : decode cL_law 264 = .ok (.iconst 2, 1) := by decide +kernel
theorem dL_law_265 : decode cL_law 265 = .ok (.iadd, 1) := by decide +kernel
theorem dL_law_266 : decode cL_law 266 = .ok (.iaload, 1) := by decide +kernel
theorem dL_law_267 : decode cL_law 267 = .ok (.invokevirtual 40, 3) := by decide +kernel
theorem dL_law_270 : decode cL_law 270 = .ok (.aload_n 2, 1) := by decide +kernel
theorem dL_law_271 : decode cL_law 271 = .ok (.aload_n 0, 1) := by decide +kernel
theorem dL_law_272 : decode cL_law 272 = .ok (.iload_n 3, 1) := by decide +kernel
theorem dL_law_273 : decode cL_law 273 = .ok (.iconst 1, 1) := by decide +kernel
theorem dL_law_274 : decode cL_law 274 = .ok (.iadd, 1) := by decide +kernel
theorem dL_law_275 : decode cL_law 275 = .ok (.iaload, 1) := by decide +kernel
theorem dL_law_276 : decode cL_law 276 = .ok (.aload_n 0, 1) := by decide +kernel
theorem dL_law_277 : decode cL_law 277 = .ok (.iload_n 3, 1) := by decide +kernel
theorem dL_law_278 : decode cL_law 278 = .ok (.iconst 2, 1) := by decide +kernel
theorem dL_law_279 : decode cL_law 279 = .ok (.iadd, 1) := by decide +kernel
theorem dL_law_280 : decode cL_law 280 = .ok (.iaload, 1) := by decide +kernel
theorem dL_law_281 : decode cL_law 281 = .ok (.invokevirtual 43, 3) := by decide +kernel
theorem dL_law_284 : decode cL_law 284 = .ok (.if_icmp .eq 229, 3) := by decide +kernel
theorem dL_law_287 : decode cL_law 287 = .ok (.iconst 0, 1) := by decide +kernel
theorem dL_law_288 : decode cL_law 288 = .ok (.ireturn, 1) := by decide +kernel
theorem dL_law_289 : decode cL_law 289 = .ok (.aload_n 1, 1) := by decide +kernel
theorem dL_law_290 : decode cL_law 290 = .ok (.aload_n 0, 1) := by decide +kernel
theorem dL_law_291 : decode cL_law 291 = .ok (.iload_n 3, 1) := by decide +kernel
theorem dL_law_292 : decode cL_law 292 = .ok (.iconst 1, 1) := by decide +kernel
theorem dL_law_293 : decode cL_law 293 = .ok (.iadd, 1) := by decide +kernel
theorem dL_law_294 : decode cL_law 294 = .ok (.iaload, 1) := by decide +kernel
theorem dL_law_295 : decode cL_law 295 = .ok (.invokevirtual 44, 3) := by decide +kernel
theorem dL_law_298 : decode cL_law 298 = .ok (.aload_n 2, 1) := by decide +kernel
theorem dL_law_299 : decode cL_law 299 = .ok (.aload_n 0, 1) := by decide +kernel
theorem dL_law_300 : decode cL_law 300 = .ok (.iload_n 3, 1) := by decide +kernel
theorem dL_law_301 : decode cL_law 301 = .ok (.iconst 1, 1) := by decide +kernel
theorem dL_law_302 : decode cL_law 302 = .ok (.iadd, 1) := by decide +kernel
theorem dL_law_303 : decode cL_law 303 = .ok (.iaload, 1) := by decide +kernel
theorem dL_law_304 : decode cL_law 304 = .ok (.invokevirtual 47, 3) := by decide +kernel
theorem dL_law_307 : decode cL_law 307 = .ok (.if_icmp .eq 206, 3) := by decide +kernel
theorem dL_law_310 : decode cL_law 310 = .ok (.iconst 0, 1) := by decide +kernel
theorem dL_law_311 : decode cL_law 311 = .ok (.ireturn, 1) := by decide +kernel
theorem dL_law_312 : decode cL_law 312 = .ok (.aload_n 1, 1) := by decide +kernel
theorem dL_law_313 : decode cL_law 313 = .ok (.aload_n 0, 1) := by decide +kernel
theorem dL_law_314 : decode cL_law 314 = .ok (.iload_n 3, 1) := by decide +kernel
theorem dL_law_315 : decode cL_law 315 = .ok (.iconst 1, 1) := by decide +kernel
theorem dL_law_316 : decode cL_law 316 = .ok (.iadd, 1) := by decide +kernel
theorem dL_law_317 : decode cL_law 317 = .ok (.iaload, 1) := by decide +kernel
theorem dL_law_318 : decode cL_law 318 = .ok (.aload_n 0, 1) := by decide +kernel
theorem dL_law_319 : decode cL_law 319 = .ok (.iload_n 3, 1) := by decide +kernel
theorem dL_law_320 : decode cL_law 320 = .ok (.iconst 2, 1) := by decide +kernel
theorem dL_law_321 : decode cL_law 321 = .ok (.iadd, 1) := by decide +kernel
theorem dL_law_322 : decode cL_law 322 = .ok (.iaload, 1) := by decide +kernel
theorem dL_law_323 : decode cL_law 323 = .ok (.aload_n 0, 1) := by decide +kernel
theorem dL_law_324 : decode cL_law 324 = .ok (.iload_n 3, 1) := by decide +kernel
theorem dL_law_325 : decode cL_law 325 = .ok (.iconst 3, 1) := by decide +kernel
theorem dL_law_326 : decode cL_law 326 = .ok (.iadd, 1) := by decide +kernel
theorem dL_law_327 : decode cL_law 327 = .ok (.iaload, 1) := by decide +kernel
theorem dL_law_328 : decode cL_law 328 = .ok (.invokevirtual 48, 3) := by decide +kernel
theorem dL_law_331 : decode cL_law 331 = .ok (.aload_n 2, 1) := by decide +kernel
theorem dL_law_332 : decode cL_law 332 = .ok (.aload_n 0, 1) := by decide +kernel
theorem dL_law_333 : decode cL_law 333 = .ok (.iload_n 3, 1) := by decide +kernel
theorem dL_law_334 : decode cL_law 334 = .ok (.iconst 1, 1) := by decide +kernel
theorem dL_law_335 : decode cL_law 335 = .ok (.iadd, 1) := by decide +kernel
theorem dL_law_336 : decode cL_law 336 = .ok (.iaload, 1) := by decide +kernel
theorem dL_law_337 : decode cL_law 337 = .ok (.aload_n 0, 1) := by decide +kernel
theorem dL_law_338 : decode cL_law 338 = .ok (.iload_n 3, 1) := by decide +kernel
theorem dL_law_339 : decode cL_law 339 = .ok (.iconst 2, 1) := by decide +kernel
theorem dL_law_340 : decode cL_law 340 = .ok (.iadd, 1) := by decide +kernel
theorem dL_law_341 : decode cL_law 341 = .ok (.iaload, 1) := by decide +kernel
theorem dL_law_342 : decode cL_law 342 = .ok (.aload_n 0, 1) := by decide +kernel
theorem dL_law_343 : decode cL_law 343 = .ok (.iload_n 3, 1) := by decide +kernel
theorem dL_law_344 : decode cL_law 344 = .ok (.iconst 3, 1) := by decide +kernel
theorem dL_law_345 : decode cL_law 345 = .ok (.iadd, 1) := by decide +kernel
theorem dL_law_346 : decode cL_law 346 = .ok (.iaload, 1) := by decide +kernel
theorem dL_law_347 : decode cL_law 347 = .ok (.invokevirtual 52, 3) := by decide +kernel
theorem dL_law_350 : decode cL_law 350 = .ok (.if_icmp .eq 163, 3) := by decide +kernel
theorem dL_law_353 : decode cL_law 353 = .ok (.iconst 0, 1) := by decide +kernel
theorem dL_law_354 : decode cL_law 354 = .ok (.ireturn, 1) := by decide +kernel
theorem dL_law_355 : decode cL_law 355 = .ok (.aload_n 1, 1) := by decide +kernel
theorem dL_law_356 : decode cL_law 356 = .ok (.aload_n 0, 1) := by decide +kernel
theorem dL_law_357 : decode cL_law 357 = .ok (.iload_n 3, 1) := by decide +kernel
theorem dL_law_358 : decode cL_law 358 = .ok (.iconst 1, 1) := by decide +kernel
theorem dL_law_359 : decode cL_law 359 = .ok (.iadd, 1) := by decide +kernel
theorem dL_law_360 : decode cL_law 360 = .ok (.iaload, 1) := by decide +kernel
theorem dL_law_361 : decode cL_law 361 = .ok (.aload_n 0, 1) := by decide +kernel
theorem dL_law_362 : decode cL_law 362 = .ok (.iload_n 3, 1) := by decide +kernel
theorem dL_law_363 : decode cL_law 363 = .ok (.iconst 2, 1) := by decide +kernel
theorem dL_law_364 : decode cL_law 364 = .ok (.iadd, 1) := by decide +kernel
theorem dL_law_365 : decode cL_law 365 = .ok (.iaload, 1) := by decide +kernel
theorem dL_law_366 : decode cL_law 366 = .ok (.invokevirtual 53, 3) := by decide +kernel
theorem dL_law_369 : decode cL_law 369 = .ok (.aload_n 2, 1) := by decide +kernel
theorem dL_law_370 : decode cL_law 370 = .ok (.aload_n 0, 1) := by decide +kernel
theorem dL_law_371 : decode cL_law 371 = .ok (.iload_n 3, 1) := by decide +kernel
theorem dL_law_372 : decode cL_law 372 = .ok (.iconst 1, 1) := by decide +kernel
theorem dL_law_373 : decode cL_law 373 = .ok (.iadd, 1) := by decide +kernel
theorem dL_law_374 : decode cL_law 374 = .ok (.iaload, 1) := by decide +kernel
theorem dL_law_375 : decode cL_law 375 = .ok (.aload_n 0, 1) := by decide +kernel
theorem dL_law_376 : decode cL_law 376 = .ok (.iload_n 3, 1) := by decide +kernel
theorem dL_law_377 : decode cL_law 377 = .ok (.iconst 2, 1) := by decide +kernel
theorem dL_law_378 : decode cL_law 378 = .ok (.iadd, 1) := by decide +kernel
theorem dL_law_379 : decode cL_law 379 = .ok (.iaload, 1) := by decide +kernel
theorem dL_law_380 : decode cL_law 380 = .ok (.invokevirtual 56, 3) := by decide +kernel
theorem dL_law_383 : decode cL_law 383 = .ok (.if_icmp .eq 130, 3) := by decide +kernel
theorem dL_law_386 : decode cL_law 386 = .ok (.iconst 0, 1) := by decide +kernel
theorem dL_law_387 : decode cL_law 387 = .ok (.ireturn, 1) := by decide +kernel
theorem dL_law_388 : decode cL_law 388 = .ok (.aload_n 1, 1) := by decide +kernel
theorem dL_law_389 : decode cL_law 389 = .ok (.aload_n 0, 1) := by decide +kernel
theorem dL_law_390 : decode cL_law 390 = .ok (.iload_n 3, 1) := by decide +kernel
theorem dL_law_391 : decode cL_law 391 = .ok (.iconst 1, 1) := by decide +kernel
theorem dL_law_392 : decode cL_law 392 = .ok (.iadd, 1) := by decide +kernel
theorem dL_law_393 : decode cL_law 393 = .ok (.iaload, 1) := by decide +kernel
theorem dL_law_394 : decode cL_law 394 = .ok (.invokevirtual 57, 3) := by decide +kernel
theorem dL_law_397 : decode cL_law 397 = .ok (.aload_n 2, 1) := by decide +kernel
theorem dL_law_398 : decode cL_law 398 = .ok (.aload_n 0, 1) := by decide +kernel
theorem dL_law_399 : decode cL_law 399 = .ok (.iload_n 3, 1) := by decide +kernel
theorem dL_law_400 : decode cL_law 400 = .ok (.iconst 1, 1) := by decide +kernel
theorem dL_law_401 : decode cL_law 401 = .ok (.iadd, 1) := by decide +kernel
theorem dL_law_402 : decode cL_law 402 = .ok (.iaload, 1) := by decide +kernel
theorem dL_law_403 : decode cL_law 403 = .ok (.invokevirtual 60, 3) := by decide +kernel
theorem dL_law_406 : decode cL_law 406 = .ok (.if_icmp .eq 107, 3) := by decide +kernel
theorem dL_law_409 : decode cL_law 409 = .ok (.iconst 0, 1) := by decide +kernel
theorem dL_law_410 : decode cL_law 410 = .ok (.ireturn, 1) := by decide +kernel
theorem dL_law_411 : decode cL_law 411 = .ok (.aload_n 1, 1) := by decide +kernel
theorem dL_law_412 : decode cL_law 412 = .ok (.aload_n 0, 1) := by decide +kernel
theorem dL_law_413 : decode cL_law 413 = .ok (.iload_n 3, 1) := by decide +kernel
theorem dL_law_414 : decode cL_law 414 = .ok (.iconst 1, 1) := by decide +kernel
theorem dL_law_415 : decode cL_law 415 = .ok (.iadd, 1) := by decide +kernel
theorem dL_law_416 : decode cL_law 416 = .ok (.iaload, 1) := by decide +kernel
theorem dL_law_417 : decode cL_law 417 = .ok (.invokevirtual 61, 3) := by decide +kernel
theorem dL_law_420 : decode cL_law 420 = .ok (.aload_n 2, 1) := by decide +kernel
theorem dL_law_421 : decode cL_law 421 = .ok (.aload_n 0, 1) := by decide +kernel
theorem dL_law_422 : decode cL_law 422 = .ok (.iload_n 3, 1) := by decide +kernel
theorem dL_law_423 : decode cL_law 423 = .ok (.iconst 1, 1) := by decide +kernel
theorem dL_law_424 : decode cL_law 424 = .ok (.iadd, 1) := by decide +kernel
theorem dL_law_425 : decode cL_law 425 = .ok (.iaload, 1) := by decide +kernel
theorem dL_law_426 : decode cL_law 426 = .ok (.invokevirtual 64, 3) := by decide +kernel
theorem dL_law_429 : decode cL_law 429 = .ok (.if_icmp .eq 84, 3) := by decide +kernel
theorem dL_law_432 : decode cL_law 432 = .ok (.iconst 0, 1) := by decide +kernel
theorem dL_law_433 : decode cL_law 433 = .ok (.ireturn, 1) := by decide +kernel
theorem dL_law_434 : decode cL_law 434 = .ok (.aload_n 1, 1) := by decide +kernel
theorem dL_law_435 : decode cL_law 435 = .ok (.aload_n 0, 1) := by decide +kernel
theorem dL_law_436 : decode cL_law 436 = .ok (.iload_n 3, 1) := by decide +kernel
theorem dL_law_437 : decode cL_law 437 = .ok (.iconst 1, 1) := by decide +kernel
theorem dL_law_438 : decode cL_law 438 = .ok (.iadd, 1) := by decide +kernel
theorem dL_law_439 : decode cL_law 439 = .ok (.iaload, 1) := by decide +kernel
theorem dL_law_440 : decode cL_law 440 = .ok (.invokevirtual 65, 3) := by decide +kernel
theorem dL_law_443 : decode cL_law 443 = .ok (.aload_n 2, 1) := by decide +kernel
theorem dL_law_444 : decode cL_law 444 = .ok (.aload_n 0, 1) := by decide +kernel
theorem dL_law_445 : decode cL_law 445 = .ok (.iload_n 3, 1) := by decide +kernel
theorem dL_law_446 : decode cL_law 446 = .ok (.iconst 1, 1) := by decide +kernel
theorem dL_law_447 : decode cL_law 447 = .ok (.iadd, 1) := by decide +kernel
theorem dL_law_448 : decode cL_law 448 = .ok (.iaload, 1) := by decide +kernel
theorem dL_law_449 : decode cL_law 449 = .ok (.invokevirtual 68, 3) := by decide +kernel
theorem dL_law_452 : decode cL_law 452 = .ok (.if_icmp .eq 61, 3) := by decide +kernel
theorem dL_law_455 : decode cL_law 455 = .ok (.iconst 0, 1) := by decide +kernel
theorem dL_law_456 : decode cL_law 456 = .ok (.ireturn, 1) := by decide +kernel
theorem dL_law_457 : decode cL_law 457 = .ok (.aload_n 1, 1) := by decide +kernel
theorem dL_law_458 : decode cL_law 458 = .ok (.aload_n 0, 1) := by decide +kernel
theorem dL_law_459 : decode cL_law 459 = .ok (.iload_n 3, 1) := by decide +kernel
theorem dL_law_460 : decode cL_law 460 = .ok (.iconst 1, 1) := by decide +kernel
theorem dL_law_461 : decode cL_law 461 = .ok (.iadd, 1) := by decide +kernel
theorem dL_law_462 : decode cL_law 462 = .ok (.iaload, 1) := by decide +kernel
theorem dL_law_463 : decode cL_law 463 = .ok (.aload_n 0, 1) := by decide +kernel
theorem dL_law_464 : decode cL_law 464 = .ok (.iload_n 3, 1) := by decide +kernel
theorem dL_law_465 : decode cL_law 465 = .ok (.iconst 2, 1) := by decide +kernel
theorem dL_law_466 : decode cL_law 466 = .ok (.iadd, 1) := by decide +kernel
theorem dL_law_467 : decode cL_law 467 = .ok (.iaload, 1) := by decide +kernel
theorem dL_law_468 : decode cL_law 468 = .ok (.invokevirtual 69, 3) := by decide +kernel
theorem dL_law_471 : decode cL_law 471 = .ok (.aload_n 2, 1) := by decide +kernel
theorem dL_law_472 : decode cL_law 472 = .ok (.aload_n 0, 1) := by decide +kernel
theorem dL_law_473 : decode cL_law 473 = .ok (.iload_n 3, 1) := by decide +kernel
theorem dL_law_474 : decode cL_law 474 = .ok (.iconst 1, 1) := by decide +kernel
theorem dL_law_475 : decode cL_law 475 = .ok (.iadd, 1) := by decide +kernel
theorem dL_law_476 : decode cL_law 476 = .ok (.iaload, 1) := by decide +kernel
theorem dL_law_477 : decode cL_law 477 = .ok (.aload_n 0, 1) := by decide +kernel
theorem dL_law_478 : decode cL_law 478 = .ok (.iload_n 3, 1) := by decide +kernel
theorem dL_law_479 : decode cL_law 479 = .ok (.iconst 2, 1) := by decide +kernel
theorem dL_law_480 : decode cL_law 480 = .ok (.iadd, 1) := by decide +kernel
theorem dL_law_481 : decode cL_law 481 = .ok (.iaload, 1) := by decide +kernel
theorem dL_law_482 : decode cL_law 482 = .ok (.invokevirtual 72, 3) := by decide +kernel
theorem dL_law_485 : decode cL_law 485 = .ok (.if_icmp .eq 28, 3) := by decide +kernel
theorem dL_law_488 : decode cL_law 488 = .ok (.iconst 0, 1) := by decide +kernel
theorem dL_law_489 : decode cL_law 489 = .ok (.ireturn, 1) := by decide +kernel
theorem dL_law_490 : decode cL_law 490 = .ok (.aload_n 1, 1) := by decide +kernel
theorem dL_law_491 : decode cL_law 491 = .ok (.aload_n 0, 1) := by decide +kernel
theorem dL_law_492 : decode cL_law 492 = .ok (.iload_n 3, 1) := by decide +kernel
theorem dL_law_493 : decode cL_law 493 = .ok (.iconst 1, 1) := by decide +kernel
theorem dL_law_494 : decode cL_law 494 = .ok (.iadd, 1) := by decide +kernel
theorem dL_law_495 : decode cL_law 495 = .ok (.iaload, 1) := by decide +kernel
theorem dL_law_496 : decode cL_law 496 = .ok (.invokevirtual 73, 3) := by decide +kernel
theorem dL_law_499 : decode cL_law 499 = .ok (.aload_n 2, 1) := by decide +kernel
theorem dL_law_500 : decode cL_law 500 = .ok (.aload_n 0, 1) := by decide +kernel
theorem dL_law_501 : decode cL_law 501 = .ok (.iload_n 3, 1) := by decide +kernel
theorem dL_law_502 : decode cL_law 502 = .ok (.iconst 1, 1) := by decide +kernel
theorem dL_law_503 : decode cL_law 503 = .ok (.iadd, 1) := by decide +kernel
theorem dL_law_504 : decode cL_law 504 = .ok (.iaload, 1) := by decide +kernel
theorem dL_law_505 : decode cL_law 505 = .ok (.invokevirtual 76, 3) := by decide +kernel
theorem dL_law_508 : decode cL_law 508 = .ok (.if_icmp .eq 5, 3) := by decide +kernel
theorem dL_law_511 : decode cL_law 511 = .ok (.iconst 0, 1) := by decide +kernel
theorem dL_law_512 : decode cL_law 512 = .ok (.ireturn, 1) := by decide +kernel
theorem dL_law_513 : decode cL_law 513 = .ok (.iinc 3 4, 3) := by decide +kernel
theorem dL_law_516 : decode cL_law 516 = .ok (.goto (-498), 3) := by decide +kernel
theorem dL_law_519 : decode cL_law 519 = .ok (.iconst 1, 1) := by decide +kernel
theorem dL_law_520 : decode cL_law 520 = .ok (.ireturn, 1) := by decide +kernel
end
section
set_option maxRecDepth 100000
/-! the two worlds: class X0 (one cell of six fields), class X1 (one cell of four fields and its table of sizes) -/
abbrev vwCl : List vw_C := [(RX0, TX0, 6), (RX1, TX1, 4)]
abbrev SX : Type := Int32 × Int32 × Int32 × Int32 × Int64 × Int32
abbrev SM : Type := Int32 × Int32 × Int32
/-- the size of a code -/
def szN (c : Nat) : Nat := if c < 8 then c else (8 + c % 8) * 2 ^ (c / 8 - 1)
def szF (c : Nat) : Int32 := nI (szN c)
abbrev fX (u : SX) : List Value := [.int u.1, .int u.2.1, .int u.2.2.1, .int u.2.2.2.1, .long u.2.2.2.2.1, .int u.2.2.2.2.2]
abbrev fM (hs : Nat) (u : SM) : List Value := [.ref hs, .int u.1, .int u.2.1, .int u.2.2]
def wX (h : Nat) (u : SX) : va_W := [(h, .inr (0, fX u))]
def wM (h hs : Nat) (dA : ClassId) (u : SM) : va_W := [(h, .inr (1, fM hs u)), (hs, .inl (dA, 121, .inl szF))]
abbrev rmK (d : Nat) : Room := { frames := d, cells := 0, slots := 0, locals := 40 * d }
def g_At {σ : Type} (w : σ → va_W) (D : va_G) (A : Nat → Prop) (s : State) (u : σ) (H : Heap) (locs : List Loc) : Prop := va_P D vwCl (w u) H ∧ va_D A (w u) ∧ va_S A s.heap H locs
def g_Fx (own : String) (tys : List (ClassId × FieldType)) (cc : ByteArray) (nL : Nat) (rt : Option FieldType) (D : va_G) (A : Nat → Prop) (p : Program) (s : State) (m : MethodId) (args : Array Value) (meth : Method) (c : Code) : Prop :=
  p.tables.exec = Jvm.exec ∧ c.code = cc ∧ c.maxLocals = nL ∧ s.vm.findClass own = some m.cls ∧ (∀ w ∈ lw_all, w.before args s = true) ∧ va_K D vwCl tys s ∧ (∀ q : Nat, s.heap.size ≤ q → A q) ∧ meth.sig.returnType = rt ∧ meth.locks = false
def g_pre {σ : Type} (w : σ → va_W) (tys : List (ClassId × FieldType)) (D : va_G) (sz : Nat) (u : σ) : State → Prop := fun U => U.heap.size = sz ∧ va_P D vwCl (w u) U.heap ∧ va_K D vwCl tys U ∧ va_D (fun _ => True) (w u)
def g_B {σ : Type} (w : σ → va_W) (tys : List (ClassId × FieldType)) (D : va_G) (A : Nat → Prop) (u : σ) (t : State) : Prop := va_P D vwCl (w u) t.heap ∧ va_K D vwCl tys t ∧ va_D A (w u)
/-- a contract with an int (or boolean) answer: from the world w u, 'post answer u'' and the world w u' -/
def g_Met {σ : Type} (l : Launch) (y : MethodName) (cc : ByteArray) (nL : Nat) (rt : Option FieldType) (rm : Room) (w : σ → va_W) (tys : List (ClassId × FieldType)) (D : va_G) (u : σ) (av : List Value) (post : Int32 → σ → Prop) : Prop :=
  ∀ sz : Nat, Met l y (ws_ y cc nL rt) rm (va_Pc av (g_pre w tys D sz u)) (va_Qi post (g_B w tys D (va_A (w u) sz)) (va_A (w u) sz)) 0 0 (va_A (w u) sz)
/-- the same without an answer -/
def g_MetV {σ : Type} (l : Launch) (y : MethodName) (cc : ByteArray) (nL : Nat) (rm : Room) (w : σ → va_W) (tys : List (ClassId × FieldType)) (D : va_G) (u : σ) (av : List Value) (post : σ → Prop) : Prop :=
  ∀ sz : Nat, Met l y (ws_ y cc nL none) rm (va_Pc av (g_pre w tys D sz u)) (va_Qv post (g_B w tys D (va_A (w u) sz)) (va_A (w u) sz)) 0 0 (va_A (w u) sz)
/-! the posts: nothing changes; the notes change (the scratch fields as they come); mode, notes and store change -/
abbrev p_P {σ : Type} (v : Int32) (u : σ) : Int32 → σ → Prop := fun r u' => r = v ∧ u' = u
abbrev px_S (F : Int32 × Int32) (mo st : Int32) : Int32 → SX → Prop := fun r u' => ∃ (sg' : Int32) (fr' : Int64) (ex' : Int32), r = F.1 ∧ u' = (mo, F.2, st, sg', fr', ex')
abbrev px_T (F : Int32 × Int32 × Int32 × Int32) : Int32 → SX → Prop := fun r u' => ∃ (sg' : Int32) (fr' : Int64) (ex' : Int32), r = F.1 ∧ u' = (F.2.1, F.2.2.1, F.2.2.2, sg', fr', ex')
abbrev px_V (F : Int32 × Int64 × Int32) (mo no st : Int32) : SX → Prop := fun u' => u' = (mo, no, st, F.1, F.2.1, F.2.2)
abbrev pm_S (F : Int32 × Int32) (mo st : Int32) : Int32 → SM → Prop := fun r u' => r = F.1 ∧ u' = (mo, F.2, st)
abbrev pm_T (F : Int32 × Int32 × Int32 × Int32) : Int32 → SM → Prop := fun r u' => r = F.1 ∧ u' = (F.2.1, F.2.2.1, F.2.2.2)
/-- what a call of y out of the class own asks of the words -/
def g_Cq (own : String) (index : Nat) (y : MethodName) (bytes : ByteArray) (mL : Nat) (rt : Option FieldType) (n : Nat) : Prop :=
  Cond.methodLink own index y ∈ lw_all ∧ Cond.instanceMethod y ∈ lw_all ∧ Cond.selects y.cls y y ∈ lw_all ∧ Cond.initialized y.cls ∈ lw_all ∧ Cond.code y bytes mL rt ∈ lw_all ∧
  (y.cls = y.cls ∧ y.cls ≠ "java/lang/invoke/MethodHandle" ∧ y.cls ≠ "java/lang/invoke/VarHandle" ∧ (parseMethodDescriptor y.desc).map (fun d => d.parameters.length) = some n)
set_option maxHeartbeats 4000000 in
theorem g_enter {σ : Type} {w : σ → va_W} {tys : List (ClassId × FieldType)} {D : va_G} {l : Launch} {y : MethodName} {cc : ByteArray} {L : Nat} {rt : Option FieldType} {rm : Room} {u : σ} {av : List Value} {post : Int32 → σ → Prop} (hy : plainName y.cls = true) (hlen : (lg_sl av).length ≤ L)
    (body : ∀ (p : Program) (e : Env) (s : State) (m : MethodId) (args : Array Value) (below : List Frame) (meth : Method) (c : Code) (A : Nat → Prop) (ls : Array Slot), g_Fx y.cls tys cc L rt D A p s m args meth c → g_At w D A s u s.heap [] → lv_has ls L (lv_args 0 av) →
      W p l e rm s m args below meth c s.heap [] 0 0 (MQ below (va_Qi post (g_B w tys D A) A) args s 0 0 A) (F0 m 0 ls [])) : g_Met l y cc L rt rm w tys D u av post := by
  intro sz
  refine Met.ofW (cc := cc) (maxL := L) (ret := rt) hy rfl ?_
  intro p e s m args below meth c s₁ B hml hv
  obtain ⟨rfl, hsz, hP, hK, hD0⟩ := hv
  subst hsz
  have hts := atoms_spec (ws := ws_ y cc L rt) B.pre
  have hts : ∀ w ∈ lw_all, w.before _ s = true := fun w h => hts w (List.mem_cons_of_mem _ h)
  have hl := lv_entry av (n := L) hlen
  rw [lg_entry_eq]
  generalize (lg_sl av ++ List.replicate (L - (lg_sl av).length) Slot.unset).toArray = ls at hl ⊢
  exact body p e s m av.toArray below meth c (va_A (w u) s.heap.size) ls ⟨B.exec, B.bytes, hml, findClass_of_methodNamed B.named, hts, hK, fun q h => Or.inr h, B.returns, B.notSynchronized⟩ ⟨hP, hD0.self, va_S.rf⟩ hl
set_option maxHeartbeats 4000000 in
theorem g_enterV {σ : Type} {w : σ → va_W} {tys : List (ClassId × FieldType)} {D : va_G} {l : Launch} {y : MethodName} {cc : ByteArray} {L : Nat} {rm : Room} {u : σ} {av : List Value} {post : σ → Prop} (hy : plainName y.cls = true) (hlen : (lg_sl av).length ≤ L)
    (body : ∀ (p : Program) (e : Env) (s : State) (m : MethodId) (args : Array Value) (below : List Frame) (meth : Method) (c : Code) (A : Nat → Prop) (ls : Array Slot), g_Fx y.cls tys cc L none D A p s m args meth c → g_At w D A s u s.heap [] → lv_has ls L (lv_args 0 av) →
      W p l e rm s m args below meth c s.heap [] 0 0 (MQ below (va_Qv post (g_B w tys D A) A) args s 0 0 A) (F0 m 0 ls [])) : g_MetV l y cc L rm w tys D u av post := by
  intro sz
  refine Met.ofW (cc := cc) (maxL := L) (ret := none) hy rfl ?_
  intro p e s m args below meth c s₁ B hml hv
  obtain ⟨rfl, hsz, hP, hK, hD0⟩ := hv
  subst hsz
  have hts := atoms_spec (ws := ws_ y cc L none) B.pre
  have hts : ∀ w ∈ lw_all, w.before _ s = true := fun w h => hts w (List.mem_cons_of_mem _ h)
  have hl := lv_entry av (n := L) hlen
  rw [lg_entry_eq]
  generalize (lg_sl av ++ List.replicate (L - (lg_sl av).length) Slot.unset).toArray = ls at hl ⊢
  exact body p e s m av.toArray below meth c (va_A (w u) s.heap.size) ls ⟨B.exec, B.bytes, hml, findClass_of_methodNamed B.named, hts, hK, fun q h => Or.inr h, B.returns, B.notSynchronized⟩ ⟨hP, hD0.self, va_S.rf⟩ hl
section GEN
variable {p : Program} {l : Launch} {e : Env} {R : Room} {s : State} {m : MethodId} {args : Array Value} {below : List Frame} {meth : Method} {c : Code} {H : Heap} {locs : List Loc} {cells slots : Nat} {Q : State → Prop}
variable {σ : Type} {w : σ → va_W} {tys : List (ClassId × FieldType)} {D : va_G} {A : Nat → Prop} {own : String} {cc : ByteArray} {nL pc : Nat} {rt : Option FieldType} {ls : Array Slot} {rest : List Value}
theorem g_iret (F : g_Fx own tys cc nL (some .int) D A p s m args meth c) {u : σ} (hX : g_At w D A s u H locs) {post : Int32 → σ → Prop} {r : Int32} (hq : post r u) (hdg : decode cc pc = .ok (.ireturn, 1)) : W p l e R s m args below meth c H locs cells slots (MQ below (va_Qi post (g_B w tys D A) A) args s cells slots A) (F0 m pc ls [.int r]) := by
  obtain ⟨hx, hb, hml, hown, hts, hK, hA, hr, hlk⟩ := F
  obtain ⟨hP, hD, hS⟩ := hX
  exact W.iret hx hb hr (fun t ht hW => ⟨⟨r, u, rfl, hq, by rw [ht]; exact hP, va_K.moved hW.alike hK, hD⟩, hS.F ht⟩) hS.2.2 hdg (hlocks := hlk)
theorem g_zret (F : g_Fx own tys cc nL (some .boolean) D A p s m args meth c) {u : σ} (hX : g_At w D A s u H locs) {post : Int32 → σ → Prop} {r : Int32} (hn : narrow .boolean (.int r) = .int r) (hq : post r u) (hdg : decode cc pc = .ok (.ireturn, 1)) : W p l e R s m args below meth c H locs cells slots (MQ below (va_Qi post (g_B w tys D A) A) args s cells slots A) (F0 m pc ls [.int r]) := by
  obtain ⟨hx, hb, hml, hown, hts, hK, hA, hr, hlk⟩ := F
  obtain ⟨hP, hD, hS⟩ := hX
  exact W.zret hx hb hr hn (fun t ht hW => ⟨⟨r, u, rfl, hq, by rw [ht]; exact hP, va_K.moved hW.alike hK, hD⟩, hS.F ht⟩) hS.2.2 hdg (hlocks := hlk)
theorem g_vret (F : g_Fx own tys cc nL none D A p s m args meth c) {u : σ} (hX : g_At w D A s u H locs) {post : σ → Prop} (hq : post u) (hdg : decode cc pc = .ok (.return_, 1)) : W p l e R s m args below meth c H locs cells slots (MQ below (va_Qv post (g_B w tys D A) A) args s cells slots A) (F0 m pc ls []) := by
  obtain ⟨hx, hb, hml, hown, hts, hK, hA, hr, hlk⟩ := F
  obtain ⟨hP, hD, hS⟩ := hX
  exact W.vret hx hb hr (fun t ht hW => ⟨⟨u, rfl, hq, by rw [ht]; exact hP, va_K.moved hW.alike hK, hD⟩, hS.F ht⟩) hS.2.2 hdg (hlocks := hlk)
theorem g_call (F : g_Fx own tys cc nL rt D A p s m args meth c) {u : σ} (hX : g_At w D A s u H locs) {b : Nat} {y : MethodName} {bytes : ByteArray} {mL : Nat} {rt' : Option FieldType} {rm : Room} {As : List Value} {post : Int32 → σ → Prop}
    (hrecv : ∃ cell : Cell, H[b]? = some cell ∧ cell.vm.isStatics = false ∧ s.vm.findClass y.cls = some cell.cls) (hM : g_Met l y bytes mL rt' rm w tys D u (.ref b :: As) post) {index n : Nat} (cq : g_Cq own index y bytes mL rt' n)
    (hrm : rm.cells = 0 ∧ rm.slots = 0) (hR : rm.frames + 1 ≤ R.frames ∧ 8 + (mL + 11) + rm.locals ≤ R.locals) {st : List Value} (hn : As.length = n) (hsz : ls.size = nL) (hst : st = As.reverse ++ .ref b :: rest) (hW : (rest.map fun v => v.category).sum ≤ 8) (hdg : decode cc pc = .ok (.invokevirtual index, 3))
    (kk : ∀ (r : Int32) (u' : σ) (H1 : Heap) (locs1 : List Loc), post r u' → g_At w D A s u' H1 locs1 → W p l e R s m args below meth c H1 locs1 0 0 Q (F0 m (pc + 3) ls (.int r :: rest))) : W p l e R s m args below meth c H locs 0 0 Q (F0 m pc ls st) := by
  obtain ⟨hx, hb, hml, hown, hts, hK, hA, hr, hlk⟩ := F
  obtain ⟨hP, hD, hS⟩ := hX
  obtain ⟨q1, q2, q3, q4, q5, hd⟩ := cq
  have hFc : ∀ q, va_A (w u) H.size q → A q := by
    intro q h
    rcases h with ⟨k, e, h⟩ | h
    · exact hD.2 k (q, e) h
    · exact hA q (Nat.le_trans hS.1 h)
  refine va_calli (va_runV (As := As) (rest := rest) (C := y.cls) (b := b) ⟨hx, hb, hml, hown, hts⟩ (hM H.size) (cwV n hts (lw_V q1 q2 q3 q4 q5) rfl hrm.1 hrm.2 hd hR) ⟨fun a U g mk q => by obtain ⟨q0, q1, qP, qK, qD⟩ := q; exact ⟨q0, q1, qP, va_K.moved (u := U) (U := U.calling g mk a) (Vm.Alike.refl U.vm) qK, qD⟩, hrecv, fun U hU hW => ⟨rfl, by rw [hU], by rw [hU]; exact hP, va_K.moved hW.alike hK, hD.weaken (fun _ _ _ _ => trivial)⟩⟩ rfl hn hsz hst (lv_room hW) hdg ⟨Nat.zero_le _, Nat.zero_le _⟩) hS (fun q _ h => hFc q h) hFc (fun r u' t H1 locs1 ht hvm hpost hB hz1 hk1 hS1 => ?_)
  obtain ⟨hP1, hK1, hD1⟩ := hB
  rw [ht] at hP1
  exact kk r u' H1 locs1 hpost ⟨hP1, hD1.weaken (fun k q _ h => hFc q.1 h), hS1⟩
theorem g_callV (F : g_Fx own tys cc nL rt D A p s m args meth c) {u : σ} (hX : g_At w D A s u H locs) {b : Nat} {y : MethodName} {bytes : ByteArray} {mL : Nat} {rm : Room} {As : List Value} {post : σ → Prop}
    (hrecv : ∃ cell : Cell, H[b]? = some cell ∧ cell.vm.isStatics = false ∧ s.vm.findClass y.cls = some cell.cls) (hM : g_MetV l y bytes mL rm w tys D u (.ref b :: As) post) {index n : Nat} (cq : g_Cq own index y bytes mL none n)
    (hrm : rm.cells = 0 ∧ rm.slots = 0) (hR : rm.frames + 1 ≤ R.frames ∧ 8 + (mL + 11) + rm.locals ≤ R.locals) {st : List Value} (hn : As.length = n) (hsz : ls.size = nL) (hst : st = As.reverse ++ .ref b :: rest) (hW : (rest.map fun v => v.category).sum ≤ 8) (hdg : decode cc pc = .ok (.invokevirtual index, 3))
    (kk : ∀ (u' : σ) (H1 : Heap) (locs1 : List Loc), post u' → g_At w D A s u' H1 locs1 → W p l e R s m args below meth c H1 locs1 0 0 Q (F0 m (pc + 3) ls rest)) : W p l e R s m args below meth c H locs 0 0 Q (F0 m pc ls st) := by
  obtain ⟨hx, hb, hml, hown, hts, hK, hA, hr, hlk⟩ := F
  obtain ⟨hP, hD, hS⟩ := hX
  obtain ⟨q1, q2, q3, q4, q5, hd⟩ := cq
  have hFc : ∀ q, va_A (w u) H.size q → A q := by
    intro q h
    rcases h with ⟨k, e, h⟩ | h
    · exact hD.2 k (q, e) h
    · exact hA q (Nat.le_trans hS.1 h)
  refine va_callv (va_runV (As := As) (rest := rest) (C := y.cls) (b := b) ⟨hx, hb, hml, hown, hts⟩ (hM H.size) (cwV n hts (lw_V q1 q2 q3 q4 q5) rfl hrm.1 hrm.2 hd hR) ⟨fun a U g mk q => by obtain ⟨q0, q1, qP, qK, qD⟩ := q; exact ⟨q0, q1, qP, va_K.moved (u := U) (U := U.calling g mk a) (Vm.Alike.refl U.vm) qK, qD⟩, hrecv, fun U hU hW => ⟨rfl, by rw [hU], by rw [hU]; exact hP, va_K.moved hW.alike hK, hD.weaken (fun _ _ _ _ => trivial)⟩⟩ rfl hn hsz hst (lv_room hW) hdg ⟨Nat.zero_le _, Nat.zero_le _⟩) hS (fun q _ h => hFc q h) hFc (fun u' t H1 locs1 ht hvm hpost hB hz1 hk1 hS1 => ?_)
  obtain ⟨hP1, hK1, hD1⟩ := hB
  rw [ht] at hP1
  exact kk u' H1 locs1 hpost ⟨hP1, hD1.weaken (fun k q _ h => hFc q.1 h), hS1⟩
/-! long compares with the branch behind them -/
theorem ll_eq (hx : p.tables.exec = Jvm.exec) (hb : c.code = cc) {x y : Int64} {off : Int} {tgt : Nat} (h1 : decode cc pc = .ok (.lcmp, 1)) (h2 : decode cc (pc + 1) = .ok (.ifCond .eq off, 3)) (ht : ((pc + 1 : Nat) : Int) + off = (tgt : Int))
    (kt : x = y → W p l e R s m args below meth c H locs cells slots Q (F0 m tgt ls rest)) (kf : ¬ x = y → W p l e R s m args below meth c H locs cells slots Q (F0 m (pc + 1 + 3) ls rest)) : W p l e R s m args below meth c H locs cells slots Q (F0 m pc ls (.long y :: .long x :: rest)) :=
  W.lcmp hx hb h1 (lv_if_eq hx hb h2 ht (fun h => kt ((lg_cmp_eq x y).mp h)) (fun h => kf (fun z => h ((lg_cmp_eq x y).mpr z))))
theorem ll_ne (hx : p.tables.exec = Jvm.exec) (hb : c.code = cc) {x y : Int64} {off : Int} {tgt : Nat} (h1 : decode cc pc = .ok (.lcmp, 1)) (h2 : decode cc (pc + 1) = .ok (.ifCond .ne off, 3)) (ht : ((pc + 1 : Nat) : Int) + off = (tgt : Int))
    (kt : ¬ x = y → W p l e R s m args below meth c H locs cells slots Q (F0 m tgt ls rest)) (kf : x = y → W p l e R s m args below meth c H locs cells slots Q (F0 m (pc + 1 + 3) ls rest)) : W p l e R s m args below meth c H locs cells slots Q (F0 m pc ls (.long y :: .long x :: rest)) :=
  W.lcmp hx hb h1 (lv_if_ne hx hb h2 ht (fun h => kt (fun z => h ((lg_cmp_eq x y).mpr z))) (fun h => kf ((lg_cmp_eq x y).mp h)))
theorem ll_lt (hx : p.tables.exec = Jvm.exec) (hb : c.code = cc) {x y : Int64} {off : Int} {tgt : Nat} (h1 : decode cc pc = .ok (.lcmp, 1)) (h2 : decode cc (pc + 1) = .ok (.ifCond .lt off, 3)) (ht : ((pc + 1 : Nat) : Int) + off = (tgt : Int))
    (kt : x < y → W p l e R s m args below meth c H locs cells slots Q (F0 m tgt ls rest)) (kf : ¬ x < y → W p l e R s m args below meth c H locs cells slots Q (F0 m (pc + 1 + 3) ls rest)) : W p l e R s m args below meth c H locs cells slots Q (F0 m pc ls (.long y :: .long x :: rest)) :=
  W.lcmp hx hb h1 (lv_if_lt hx hb h2 ht (fun h => kt ((lg_cmp_lt x y).mp h)) (fun h => kf (fun z => h ((lg_cmp_lt x y).mpr z))))
theorem ll_ge (hx : p.tables.exec = Jvm.exec) (hb : c.code = cc) {x y : Int64} {off : Int} {tgt : Nat} (h1 : decode cc pc = .ok (.lcmp, 1)) (h2 : decode cc (pc + 1) = .ok (.ifCond .ge off, 3)) (ht : ((pc + 1 : Nat) : Int) + off = (tgt : Int))
    (kt : y ≤ x → W p l e R s m args below meth c H locs cells slots Q (F0 m tgt ls rest)) (kf : ¬ y ≤ x → W p l e R s m args below meth c H locs cells slots Q (F0 m (pc + 1 + 3) ls rest)) : W p l e R s m args below meth c H locs cells slots Q (F0 m pc ls (.long y :: .long x :: rest)) :=
  W.lcmp hx hb h1 (lv_if_ge hx hb h2 ht (fun h => kt ((lg_cmp_ge x y).mp h)) (fun h => kf (fun z => h ((lg_cmp_ge x y).mpr z))))
theorem ll_gt (hx : p.tables.exec = Jvm.exec) (hb : c.code = cc) {x y : Int64} {off : Int} {tgt : Nat} (h1 : decode cc pc = .ok (.lcmp, 1)) (h2 : decode cc (pc + 1) = .ok (.ifCond .gt off, 3)) (ht : ((pc + 1 : Nat) : Int) + off = (tgt : Int))
    (kt : y < x → W p l e R s m args below meth c H locs cells slots Q (F0 m tgt ls rest)) (kf : ¬ y < x → W p l e R s m args below meth c H locs cells slots Q (F0 m (pc + 1 + 3) ls rest)) : W p l e R s m args below meth c H locs cells slots Q (F0 m pc ls (.long y :: .long x :: rest)) :=
  W.lcmp hx hb h1 (lv_if_gt hx hb h2 ht (fun h => kt ((lg_cmp_gt x y).mp h)) (fun h => kf (fun z => h ((lg_cmp_gt x y).mpr z))))
theorem ll_le (hx : p.tables.exec = Jvm.exec) (hb : c.code = cc) {x y : Int64} {off : Int} {tgt : Nat} (h1 : decode cc pc = .ok (.lcmp, 1)) (h2 : decode cc (pc + 1) = .ok (.ifCond .le off, 3)) (ht : ((pc + 1 : Nat) : Int) + off = (tgt : Int))
    (kt : x ≤ y → W p l e R s m args below meth c H locs cells slots Q (F0 m tgt ls rest)) (kf : ¬ x ≤ y → W p l e R s m args below meth c H locs cells slots Q (F0 m (pc + 1 + 3) ls rest)) : W p l e R s m args below meth c H locs cells slots Q (F0 m pc ls (.long y :: .long x :: rest)) :=
  W.lcmp hx hb h1 (lv_if_le hx hb h2 ht (fun h => kt ((lg_cmp_le x y).mp h)) (fun h => kf (fun z => h ((lg_cmp_le x y).mpr z))))
/-! rows of class X0 on its own object -/
theorem x_get {h : Nat} {u : SX} (F : g_Fx RX0 tys cc nL rt D A p s m args meth c) (hX : g_At (wX h) D A s u H locs) (k : Nat) (hk : k < 6) {index : Nat} (hlink : Cond.fieldLink RX0 index "TinyFloats" (TX0 k).2.1 (TX0 k).2.2.1 ∈ lw_all) (hs : (TX0 k).1 = "TinyFloats") {v : Value} (hv : (fX u)[k]? = some v) (hdg : decode cc pc = .ok (.getfield index, 3))
    (kk : W p l e R s m args below meth c H locs cells slots Q (F0 m (pc + 3) ls (v :: rest))) : W p l e R s m args below meth c H locs cells slots Q (F0 m pc ls (.ref h :: rest)) := by
  obtain ⟨hx, hb, hml, hown, hts, hK, hA, hr, hlk⟩ := F
  exact va_get (D := D) (ci := 0) (v := v) (C := RX0) (T := TX0) (N := 6) (ws := wX h u) (fs := fX u) hx hb hts in_X0 hown hK hX.1 0 rfl rfl k hk (hts _ hlink) (fun _ h9 => by rw [hs] at h9; exact h9) hv hdg kk
theorem x_put {h : Nat} {u u' : SX} (F : g_Fx RX0 tys cc nL rt D A p s m args meth c) (hX : g_At (wX h) D A s u H locs) (k : Nat) (hk : k < 6) {index : Nat} (hlink : Cond.fieldLink RX0 index "TinyFloats" (TX0 k).2.1 (TX0 k).2.2.1 ∈ lw_all) (hs : (TX0 k).1 = "TinyFloats") (hfin : (TX0 k).2.2.2 = false) {ty : FieldType} {v : Value} (hd : parseFieldDescriptor (TX0 k).2.2.1 = some ty) (hn : narrow ty v = v) (hfit : fits ty v = true) (hu : fX u' = (fX u).set k v)
    (hdg : decode cc pc = .ok (.putfield index, 3)) (kk : ∀ (H1 : Heap) (locs1 : List Loc), g_At (wX h) D A s u' H1 locs1 → W p l e R s m args below meth c H1 locs1 cells slots Q (F0 m (pc + 3) ls rest)) : W p l e R s m args below meth c H locs cells slots Q (F0 m pc ls (v :: .ref h :: rest)) := by
  obtain ⟨hx, hb, hml, hown, hts, hK, hA, hr, hlk⟩ := F
  refine va_put (D := D) (ci := 0) (v := v) (ty := ty) (C := RX0) (T := TX0) (N := 6) (ws := wX h u) (fs := fX u) hx hb hts in_X0 tyX0 tyX0_ok nmX0 hown hK hX.1 hX.2.1 hX.2.2 0 rfl rfl k hk (hts _ hlink) (fun _ h9 => by rw [hs] at h9; exact h9) hfin hd hn hfit hk hdg (fun H1 locs1 hP hD hS => ?_)
  rw [← hu] at hP hD
  exact kk H1 locs1 ⟨hP, hD, hS⟩
theorem x_recv {h : Nat} {u : SX} (F : g_Fx own tys cc nL rt D A p s m args meth c) (hX : g_At (wX h) D A s u H locs) : ∃ cell : Cell, H[h]? = some cell ∧ cell.vm.isStatics = false ∧ s.vm.findClass RX0 = some cell.cls := va_recv F.2.2.2.2.2.1 hX.1 (ci := 0) (q0 := 0) (q := (RX0, TX0, 6)) (fs := fX u) rfl rfl
/-- a call that leaves the world as it is -/
theorem x_callP {h : Nat} {u : SX} (F : g_Fx RX0 tys cc nL rt D A p s m args meth c) (hX : g_At (wX h) D A s u H locs) {y : MethodName} {bytes : ByteArray} {mL : Nat} {rt' : Option FieldType} {rm : Room} {As : List Value} {v : Int32} (hM : g_Met l y bytes mL rt' rm (wX h) tys D u (.ref h :: As) (p_P v u)) {index n : Nat} (cq : g_Cq RX0 index y bytes mL rt' n) (hy : y.cls = RX0)
    (hrm : rm.cells = 0 ∧ rm.slots = 0) (hR : rm.frames + 1 ≤ R.frames ∧ 8 + (mL + 11) + rm.locals ≤ R.locals) {st : List Value} (hn : As.length = n) (hsz : ls.size = nL) (hst : st = As.reverse ++ .ref h :: rest) (hW : (rest.map fun v => v.category).sum ≤ 8) (hdg : decode cc pc = .ok (.invokevirtual index, 3))
    (kk : ∀ (H1 : Heap) (locs1 : List Loc), g_At (wX h) D A s u H1 locs1 → W p l e R s m args below meth c H1 locs1 0 0 Q (F0 m (pc + 3) ls (.int v :: rest))) : W p l e R s m args below meth c H locs 0 0 Q (F0 m pc ls st) := by
  refine g_call F hX (by rw [hy]; exact x_recv F hX) hM cq hrm hR hn hsz hst hW hdg (fun r u' H1 locs1 hq hX1 => ?_)
  obtain ⟨rfl, rfl⟩ := hq
  exact kk H1 locs1 hX1
theorem x_call {h : Nat} {u : SX} (F : g_Fx RX0 tys cc nL rt D A p s m args meth c) (hX : g_At (wX h) D A s u H locs) {y : MethodName} {bytes : ByteArray} {mL : Nat} {rt' : Option FieldType} {rm : Room} {As : List Value} {post : Int32 → SX → Prop} (hM : g_Met l y bytes mL rt' rm (wX h) tys D u (.ref h :: As) post) {index n : Nat} (cq : g_Cq RX0 index y bytes mL rt' n) (hy : y.cls = RX0)
    (hrm : rm.cells = 0 ∧ rm.slots = 0) (hR : rm.frames + 1 ≤ R.frames ∧ 8 + (mL + 11) + rm.locals ≤ R.locals) {st : List Value} (hn : As.length = n) (hsz : ls.size = nL) (hst : st = As.reverse ++ .ref h :: rest) (hW : (rest.map fun v => v.category).sum ≤ 8) (hdg : decode cc pc = .ok (.invokevirtual index, 3))
    (kk : ∀ (r : Int32) (u' : SX) (H1 : Heap) (locs1 : List Loc), post r u' → g_At (wX h) D A s u' H1 locs1 → W p l e R s m args below meth c H1 locs1 0 0 Q (F0 m (pc + 3) ls (.int r :: rest))) : W p l e R s m args below meth c H locs 0 0 Q (F0 m pc ls st) :=
  g_call F hX (by rw [hy]; exact x_recv F hX) hM cq hrm hR hn hsz hst hW hdg kk
theorem x_callV {h : Nat} {u : SX} (F : g_Fx RX0 tys cc nL rt D A p s m args meth c) (hX : g_At (wX h) D A s u H locs) {y : MethodName} {bytes : ByteArray} {mL : Nat} {rm : Room} {As : List Value} {post : SX → Prop} (hM : g_MetV l y bytes mL rm (wX h) tys D u (.ref h :: As) post) {index n : Nat} (cq : g_Cq RX0 index y bytes mL none n) (hy : y.cls = RX0)
    (hrm : rm.cells = 0 ∧ rm.slots = 0) (hR : rm.frames + 1 ≤ R.frames ∧ 8 + (mL + 11) + rm.locals ≤ R.locals) {st : List Value} (hn : As.length = n) (hsz : ls.size = nL) (hst : st = As.reverse ++ .ref h :: rest) (hW : (rest.map fun v => v.category).sum ≤ 8) (hdg : decode cc pc = .ok (.invokevirtual index, 3))
    (kk : ∀ (u' : SX) (H1 : Heap) (locs1 : List Loc), post u' → g_At (wX h) D A s u' H1 locs1 → W p l e R s m args below meth c H1 locs1 0 0 Q (F0 m (pc + 3) ls rest)) : W p l e R s m args below meth c H locs 0 0 Q (F0 m pc ls st) :=
  g_callV F hX (by rw [hy]; exact x_recv F hX) hM cq hrm hR hn hsz hst hW hdg kk
/-! rows of class X1 on its own object -/
theorem m_get {h hs : Nat} {dA : ClassId} {u : SM} (F : g_Fx RX1 tys cc nL rt D A p s m args meth c) (hX : g_At (wM h hs dA) D A s u H locs) (k : Nat) (hk : k < 4) {index : Nat} (hlink : Cond.fieldLink RX1 index "TinyFloatsModel" (TX1 k).2.1 (TX1 k).2.2.1 ∈ lw_all) (hs1 : (TX1 k).1 = "TinyFloatsModel") {v : Value} (hv : (fM hs u)[k]? = some v) (hdg : decode cc pc = .ok (.getfield index, 3))
    (kk : W p l e R s m args below meth c H locs cells slots Q (F0 m (pc + 3) ls (v :: rest))) : W p l e R s m args below meth c H locs cells slots Q (F0 m pc ls (.ref h :: rest)) := by
  obtain ⟨hx, hb, hml, hown, hts, hK, hA, hr, hlk⟩ := F
  exact va_get (D := D) (ci := 1) (v := v) (C := RX1) (T := TX1) (N := 4) (ws := wM h hs dA u) (fs := fM hs u) hx hb hts in_X1 hown hK hX.1 0 rfl rfl k hk (hts _ hlink) (fun _ h9 => by rw [hs1] at h9; exact h9) hv hdg kk
theorem m_put {h hs : Nat} {dA : ClassId} {u u' : SM} (F : g_Fx RX1 tys cc nL rt D A p s m args meth c) (hX : g_At (wM h hs dA) D A s u H locs) (k : Nat) (hk : k < 4) {index : Nat} (hlink : Cond.fieldLink RX1 index "TinyFloatsModel" (TX1 k).2.1 (TX1 k).2.2.1 ∈ lw_all) (hs1 : (TX1 k).1 = "TinyFloatsModel") (hfin : (TX1 k).2.2.2 = false) {ty : FieldType} {v : Value} (hd : parseFieldDescriptor (TX1 k).2.2.1 = some ty) (hn : narrow ty v = v) (hfit : fits ty v = true) (hu : fM hs u' = (fM hs u).set k v)
    (hdg : decode cc pc = .ok (.putfield index, 3)) (kk : ∀ (H1 : Heap) (locs1 : List Loc), g_At (wM h hs dA) D A s u' H1 locs1 → W p l e R s m args below meth c H1 locs1 cells slots Q (F0 m (pc + 3) ls rest)) : W p l e R s m args below meth c H locs cells slots Q (F0 m pc ls (v :: .ref h :: rest)) := by
  obtain ⟨hx, hb, hml, hown, hts, hK, hA, hr, hlk⟩ := F
  refine va_put (D := D) (ci := 1) (v := v) (ty := ty) (C := RX1) (T := TX1) (N := 4) (ws := wM h hs dA u) (fs := fM hs u) hx hb hts in_X1 tyX1 tyX1_ok nmX1 hown hK hX.1 hX.2.1 hX.2.2 0 rfl rfl k hk (hts _ hlink) (fun _ h9 => by rw [hs1] at h9; exact h9) hfin hd hn hfit hk hdg (fun H1 locs1 hP hD hS => ?_)
  rw [← hu] at hP hD
  exact kk H1 locs1 ⟨hP, hD, hS⟩
theorem m_ald {h hs : Nat} {dA : ClassId} {u : SM} (F : g_Fx RX1 [(dA, .int)] cc nL rt D A p s m args meth c) (hX : g_At (wM h hs dA) D A s u H locs) {i : Int32} (hin : vp_in i 121) (hdg : decode cc pc = .ok (.iaload, 1))
    (kk : W p l e R s m args below meth c H locs cells slots Q (F0 m (pc + 1) ls (.int (szF i.toNatClampNeg) :: rest))) : W p l e R s m args below meth c H locs cells slots Q (F0 m pc ls (.int i :: .ref hs :: rest)) := by
  obtain ⟨hx, hb, hml, hown, hts, hK, hA, hr, hlk⟩ := F
  exact va_iald (ws := wM h hs dA u) hx hb hK hX.1 1 0 rfl rfl hin hdg kk
theorem m_recv {h hs : Nat} {dA : ClassId} {u : SM} (F : g_Fx own tys cc nL rt D A p s m args meth c) (hX : g_At (wM h hs dA) D A s u H locs) : ∃ cell : Cell, H[h]? = some cell ∧ cell.vm.isStatics = false ∧ s.vm.findClass RX1 = some cell.cls := va_recv F.2.2.2.2.2.1 hX.1 (ci := 1) (q0 := 0) (q := (RX1, TX1, 4)) (fs := fM hs u) rfl rfl
theorem m_callP {h hs : Nat} {dA : ClassId} {u : SM} (F : g_Fx RX1 tys cc nL rt D A p s m args meth c) (hX : g_At (wM h hs dA) D A s u H locs) {y : MethodName} {bytes : ByteArray} {mL : Nat} {rt' : Option FieldType} {rm : Room} {As : List Value} {v : Int32} (hM : g_Met l y bytes mL rt' rm (wM h hs dA) tys D u (.ref h :: As) (p_P v u)) {index n : Nat} (cq : g_Cq RX1 index y bytes mL rt' n) (hy : y.cls = RX1)
    (hrm : rm.cells = 0 ∧ rm.slots = 0) (hR : rm.frames + 1 ≤ R.frames ∧ 8 + (mL + 11) + rm.locals ≤ R.locals) {st : List Value} (hn : As.length = n) (hsz : ls.size = nL) (hst : st = As.reverse ++ .ref h :: rest) (hW : (rest.map fun v => v.category).sum ≤ 8) (hdg : decode cc pc = .ok (.invokevirtual index, 3))
    (kk : ∀ (H1 : Heap) (locs1 : List Loc), g_At (wM h hs dA) D A s u H1 locs1 → W p l e R s m args below meth c H1 locs1 0 0 Q (F0 m (pc + 3) ls (.int v :: rest))) : W p l e R s m args below meth c H locs 0 0 Q (F0 m pc ls st) := by
  refine g_call F hX (by rw [hy]; exact m_recv F hX) hM cq hrm hR hn hsz hst hW hdg (fun r u' H1 locs1 hq hX1 => ?_)
  obtain ⟨rfl, rfl⟩ := hq
  exact kk H1 locs1 hX1
theorem m_call {h hs : Nat} {dA : ClassId} {u : SM} (F : g_Fx RX1 tys cc nL rt D A p s m args meth c) (hX : g_At (wM h hs dA) D A s u H locs) {y : MethodName} {bytes : ByteArray} {mL : Nat} {rt' : Option FieldType} {rm : Room} {As : List Value} {post : Int32 → SM → Prop} (hM : g_Met l y bytes mL rt' rm (wM h hs dA) tys D u (.ref h :: As) post) {index n : Nat} (cq : g_Cq RX1 index y bytes mL rt' n) (hy : y.cls = RX1)
    (hrm : rm.cells = 0 ∧ rm.slots = 0) (hR : rm.frames + 1 ≤ R.frames ∧ 8 + (mL + 11) + rm.locals ≤ R.locals) {st : List Value} (hn : As.length = n) (hsz : ls.size = nL) (hst : st = As.reverse ++ .ref h :: rest) (hW : (rest.map fun v => v.category).sum ≤ 8) (hdg : decode cc pc = .ok (.invokevirtual index, 3))
    (kk : ∀ (r : Int32) (u' : SM) (H1 : Heap) (locs1 : List Loc), post r u' → g_At (wM h hs dA) D A s u' H1 locs1 → W p l e R s m args below meth c H1 locs1 0 0 Q (F0 m (pc + 3) ls (.int r :: rest))) : W p l e R s m args below meth c H locs 0 0 Q (F0 m pc ls st) :=
  g_call F hX (by rw [hy]; exact m_recv F hX) hM cq hrm hR hn hsz hst hW hdg kk
end GEN
/-! ends of methods: from the tree's value to the contract's post -/
theorem lx_S {F : Int32 × Int32} {r no mo st sg ex : Int32} {fr : Int64} (h : F = (r, no)) : ∃ (sg' : Int32) (fr' : Int64) (ex' : Int32), r = F.1 ∧ ((mo, no, st, sg, fr, ex) : SX) = (mo, F.2, st, sg', fr', ex') := ⟨sg, fr, ex, by rw [h], by rw [h]⟩
theorem lx_T {F : Int32 × Int32 × Int32 × Int32} {r no mo st sg ex : Int32} {fr : Int64} (h : F = (r, mo, no, st)) : ∃ (sg' : Int32) (fr' : Int64) (ex' : Int32), r = F.1 ∧ ((mo, no, st, sg, fr, ex) : SX) = (F.2.1, F.2.2.1, F.2.2.2, sg', fr', ex') := ⟨sg, fr, ex, by rw [h], by rw [h]⟩
theorem lm_S {F : Int32 × Int32} {r no mo st : Int32} (h : F = (r, no)) : r = F.1 ∧ ((mo, no, st) : SM) = (mo, F.2, st) := ⟨by rw [h], by rw [h]⟩
theorem lm_T {F : Int32 × Int32 × Int32 × Int32} {r no mo st : Int32} (h : F = (r, mo, no, st)) : r = F.1 ∧ ((mo, no, st) : SM) = (F.2.1, F.2.2.1, F.2.2.2) := ⟨by rw [h], by rw [h]⟩
theorem lx_V {F : Int32 × Int64 × Int32} {no mo st sg ex : Int32} {fr : Int64} (h : F = (sg, fr, ex)) : ((mo, no, st, sg, fr, ex) : SX) = (mo, no, st, F.1, F.2.1, F.2.2) := by rw [h]
/-! loops: the counter falls with the fuel -/
theorem lp_up {N n : Nat} {x y : Int32} (hi : x = nI (N - (n + 1)) ∧ 1 ≤ n + 1 ∧ n + 1 ≤ N) (hN : N < 2 ^ 31) (hy : y = nI (N - 1)) (c : ¬ y ≤ x) : x + 1 = nI (N - n) ∧ 1 ≤ n ∧ n ≤ N := by
  obtain ⟨e, -, h⟩ := hi
  refine ⟨?_, ?_, by omega⟩
  · rw [e, nI_1, show N - (n + 1) + 1 = N - n by omega]
  · rcases Nat.eq_zero_or_pos n with h0 | h0
    · exact absurd (by rw [hy, e, h0]; exact nI_le (Nat.le_refl _) (by omega)) c
    · exact h0
theorem lp_dn {n : Nat} {x : Int32} (hi : x + 2 = nI (n + 1) ∧ 1 ≤ n + 1 ∧ n + 1 ≤ 14) (c : ¬ x < 0) : x + (-1) + 2 = nI n ∧ 1 ≤ n ∧ n ≤ 14 := by
  obtain ⟨e, -, h⟩ := hi
  have e2 : x = nI (n + 1) - 2 := by rw [← e]; grind
  refine ⟨?_, ?_, by omega⟩
  · rw [e2, nI_succ]; grind
  · rcases Nat.eq_zero_or_pos n with h0 | h0
    · exact absurd (by rw [e2, h0]; decide) c
    · exact h0
theorem m_inL {N n : Nat} {x y : Int32} (hi : x = nI (N - (n + 1)) ∧ 1 ≤ n + 1 ∧ n + 1 ≤ N) (hy : N = 120 ∧ y = nI (N - 1)) (c : ¬ y ≤ x) : vp_in (x + 1) 121 := by
  obtain ⟨rfl, hy⟩ := hy
  obtain ⟨e, h⟩ := lp_up hi (by decide) hy c
  rw [e]
  exact vp_in_nI (by omega) (by decide)
theorem m_in0 {x : Int32} (hk : ∃ k : Nat, k ≤ 119 ∧ x = nI k) : vp_in x 121 := by
  obtain ⟨k, h, rfl⟩ := hk
  exact vp_in_nI (by omega) (by decide)
theorem m_in1 {x : Int32} (hk : ∃ k : Nat, k ≤ 119 ∧ x = nI k) : vp_in (x + 1) 121 := by
  obtain ⟨k, h, rfl⟩ := hk
  rw [nI_1]
  exact vp_in_nI (by omega) (by decide)
theorem m_in120 : vp_in 120 121 := vp_in_nI (n := 120) (by decide) (by decide)
theorem l_ne0 {x : Int64} (h : ¬ x ≤ 0) : ¬ x = 0 := fun e => h (by rw [e]; decide)
end
section
set_option maxRecDepth 100000
theorem cq_x_bad : g_Cq RX0 68 yX0_bad cX0_bad 2 (some .boolean) 1 := ⟨q75, q77, qs0, q30, q78, by decide +kernel⟩
theorem cq_x_isNone : g_Cq RX0 46 yX0_isNone cX0_isNone 2 (some .boolean) 1 := ⟨q83, q85, qs2, q30, q86, by decide +kernel⟩
theorem cq_x_isInfinite : g_Cq RX0 50 yX0_isInfinite cX0_isInfinite 2 (some .boolean) 1 := ⟨q87, q89, qs3, q30, q90, by decide +kernel⟩
theorem cq_x_isZero : g_Cq RX0 74 yX0_isZero cX0_isZero 2 (some .boolean) 1 := ⟨q133, q135, qs12, q30, q136, by decide +kernel⟩
theorem cq_x_senseless : g_Cq RX0 53 yX0_senseless cX0_senseless 1 (some .int) 0 := ⟨q91, q93, qs4, q30, q94, by decide +kernel⟩
theorem cq_x_unpack : g_Cq RX0 57 yX0_unpack cX0_unpack 4 none 1 := ⟨q95, q97, qs5, q30, q98, by decide +kernel⟩
theorem cq_x_upward : g_Cq RX0 30 yX0_upward cX0_upward 7 (some .boolean) 4 := ⟨q113, q115, qs9, q30, q116, by decide +kernel⟩
theorem cq_x_pack : g_Cq RX0 34 yX0_pack cX0_pack 6 (some .int) 3 := ⟨q117, q119, qs10, q30, q120, by decide +kernel⟩
theorem cq_x_zeroSum : g_Cq RX0 38 yX0_zeroSum cX0_zeroSum 3 (some .int) 2 := ⟨q99, q101, qs6, q30, q102, by decide +kernel⟩
theorem cq_x_rank : g_Cq RX0 81 yX0_rank cX0_rank 3 (some .int) 1 := ⟨q157, q159, qs14, q30, q160, by decide +kernel⟩
theorem cq_x_round : g_Cq RX0 42 yX0_round cX0_round 12 (some .int) 4 := ⟨q107, q109, qs8, q30, q110, by decide +kernel⟩
theorem cq_x_sumOf : g_Cq RX0 64 yX0_sumOf cX0_sumOf 16 (some .int) 6 := ⟨q121, q123, qs11, q30, q124, by decide +kernel⟩
theorem cq_x_addUp : g_Cq RX0 61 yX0_addUp cX0_addUp 9 (some .int) 3 := ⟨q103, q105, qs7, q30, q106, by decide +kernel⟩
theorem cq_x_sum : g_Cq RX0 71 yX0_sum cX0_sum 7 (some .int) 2 := ⟨q79, q81, qs1, q30, q82, by decide +kernel⟩
theorem cq_x_productSum : g_Cq RX0 77 yX0_productSum cX0_productSum 8 (some .int) 3 := ⟨q149, q151, qs13, q30, q152, by decide +kernel⟩
def fx_bad (x1 : Int32) : Int32 :=
  (if x1 < 0 then 1 else (if x1 ≤ 255 then 0 else 1))
set_option maxHeartbeats 8000000 in
set_option maxRecDepth 100000 in
theorem cx_bad (l : Launch) (D : va_G) (h : Nat) (mo : Int32) (no : Int32) (st : Int32) (sg : Int32) (fr : Int64) (ex : Int32) (x1 : Int32)  : g_Met l yX0_bad cX0_bad 2 (some .boolean) (rmK 0) (wX h) [] D (mo, no, st, sg, fr, ex) [.ref h, .int x1] (p_P (fx_bad x1) ((mo, no, st, sg, fr, ex) : SX)) := by
  refine g_enter (by decide) (Nat.le_of_ble_eq_true rfl) (fun p e s m args below meth c A ls F hX hl => ?_)
  have hx := F.1
  have hb := F.2.1
  generalize hH0 : s.heap = H at hX ⊢
  generalize ([] : List Loc) = locs at hX ⊢
  have hl : lv_has ls 2 [(0, .ref h), (1, .int x1)] := hl
  clear hH0
  have hF := fx_bad.eq_1 x1
  refine lv_iload_n hx hb dX0_bad_0 rfl (lv_at hl 1 rfl) ?_
  refine lv_if_lt (tgt := 11) hx hb dX0_bad_1 (by decide) (fun c_1 => ?_) (fun c_1 => ?_)
  · have hF := hF.trans (if_pos c_1)
    refine lv_iconst (v := 1) hx hb dX0_bad_11 (by decide) ?_
    refine lv_goto (tgt := 16) hx hb dX0_bad_12 (by decide) ?_
    exact g_zret F hX rfl ⟨hF.symm, rfl⟩ dX0_bad_16
  · have hF := hF.trans (if_neg c_1)
    refine lv_iload_n hx hb dX0_bad_4 rfl (lv_at hl 1 rfl) ?_
    refine lv_sipush (v := 255) hx hb dX0_bad_5 (by decide) ?_
    refine lv_icmp_le (tgt := 15) hx hb dX0_bad_8 (by decide) (fun c_8 => ?_) (fun c_8 => ?_)
    · have hF := hF.trans (if_pos c_8)
      refine lv_iconst (v := 0) hx hb dX0_bad_15 (by decide) ?_
      exact g_zret F hX rfl ⟨hF.symm, rfl⟩ dX0_bad_16
    · have hF := hF.trans (if_neg c_8)
      refine lv_iconst (v := 1) hx hb dX0_bad_11 (by decide) ?_
      refine lv_goto (tgt := 16) hx hb dX0_bad_12 (by decide) ?_
      exact g_zret F hX rfl ⟨hF.symm, rfl⟩ dX0_bad_16
def fx_isNone (x1 : Int32) : Int32 :=
  (if (x1 &&& 127) ≤ 120 then 0 else 1)
set_option maxHeartbeats 8000000 in
set_option maxRecDepth 100000 in
theorem cx_isNone (l : Launch) (D : va_G) (h : Nat) (mo : Int32) (no : Int32) (st : Int32) (sg : Int32) (fr : Int64) (ex : Int32) (x1 : Int32)  : g_Met l yX0_isNone cX0_isNone 2 (some .boolean) (rmK 0) (wX h) [] D (mo, no, st, sg, fr, ex) [.ref h, .int x1] (p_P (fx_isNone x1) ((mo, no, st, sg, fr, ex) : SX)) := by
  refine g_enter (by decide) (Nat.le_of_ble_eq_true rfl) (fun p e s m args below meth c A ls F hX hl => ?_)
  have hx := F.1
  have hb := F.2.1
  generalize hH0 : s.heap = H at hX ⊢
  generalize ([] : List Loc) = locs at hX ⊢
  have hl : lv_has ls 2 [(0, .ref h), (1, .int x1)] := hl
  clear hH0
  have hF := fx_isNone.eq_1 x1
  refine lv_iload_n hx hb dX0_isNone_0 rfl (lv_at hl 1 rfl) ?_
  refine lv_bipush (v := 127) hx hb dX0_isNone_1 (by decide) ?_
  refine lv_iand hx hb dX0_isNone_3 ?_
  refine lv_bipush (v := 120) hx hb dX0_isNone_4 (by decide) ?_
  refine lv_icmp_le (tgt := 13) hx hb dX0_isNone_6 (by decide) (fun c_6 => ?_) (fun c_6 => ?_)
  · have hF := hF.trans (if_pos c_6)
    refine lv_iconst (v := 0) hx hb dX0_isNone_13 (by decide) ?_
    exact g_zret F hX rfl ⟨hF.symm, rfl⟩ dX0_isNone_14
  · have hF := hF.trans (if_neg c_6)
    refine lv_iconst (v := 1) hx hb dX0_isNone_9 (by decide) ?_
    refine lv_goto (tgt := 14) hx hb dX0_isNone_10 (by decide) ?_
    exact g_zret F hX rfl ⟨hF.symm, rfl⟩ dX0_isNone_14
def fx_isInfinite (x1 : Int32) : Int32 :=
  (if (x1 &&& 127) = 120 then 1 else 0)
set_option maxHeartbeats 8000000 in
set_option maxRecDepth 100000 in
theorem cx_isInfinite (l : Launch) (D : va_G) (h : Nat) (mo : Int32) (no : Int32) (st : Int32) (sg : Int32) (fr : Int64) (ex : Int32) (x1 : Int32)  : g_Met l yX0_isInfinite cX0_isInfinite 2 (some .boolean) (rmK 0) (wX h) [] D (mo, no, st, sg, fr, ex) [.ref h, .int x1] (p_P (fx_isInfinite x1) ((mo, no, st, sg, fr, ex) : SX)) := by
  refine g_enter (by decide) (Nat.le_of_ble_eq_true rfl) (fun p e s m args below meth c A ls F hX hl => ?_)
  have hx := F.1
  have hb := F.2.1
  generalize hH0 : s.heap = H at hX ⊢
  generalize ([] : List Loc) = locs at hX ⊢
  have hl : lv_has ls 2 [(0, .ref h), (1, .int x1)] := hl
  clear hH0
  have hF := fx_isInfinite.eq_1 x1
  refine lv_iload_n hx hb dX0_isInfinite_0 rfl (lv_at hl 1 rfl) ?_
  refine lv_bipush (v := 127) hx hb dX0_isInfinite_1 (by decide) ?_
  refine lv_iand hx hb dX0_isInfinite_3 ?_
  refine lv_bipush (v := 120) hx hb dX0_isInfinite_4 (by decide) ?_
  refine lv_icmp_ne (tgt := 13) hx hb dX0_isInfinite_6 (by decide) (fun c_6 => ?_) (fun c_6 => ?_)
  · have hF := hF.trans (if_neg c_6)
    refine lv_iconst (v := 0) hx hb dX0_isInfinite_13 (by decide) ?_
    exact g_zret F hX rfl ⟨hF.symm, rfl⟩ dX0_isInfinite_14
  · have hF := hF.trans (if_pos c_6)
    refine lv_iconst (v := 1) hx hb dX0_isInfinite_9 (by decide) ?_
    refine lv_goto (tgt := 14) hx hb dX0_isInfinite_10 (by decide) ?_
    exact g_zret F hX rfl ⟨hF.symm, rfl⟩ dX0_isInfinite_14
def fx_isZero (x1 : Int32) : Int32 :=
  (if (x1 &&& 127) = 0 then 1 else 0)
set_option maxHeartbeats 8000000 in
set_option maxRecDepth 100000 in
theorem cx_isZero (l : Launch) (D : va_G) (h : Nat) (mo : Int32) (no : Int32) (st : Int32) (sg : Int32) (fr : Int64) (ex : Int32) (x1 : Int32)  : g_Met l yX0_isZero cX0_isZero 2 (some .boolean) (rmK 0) (wX h) [] D (mo, no, st, sg, fr, ex) [.ref h, .int x1] (p_P (fx_isZero x1) ((mo, no, st, sg, fr, ex) : SX)) := by
  refine g_enter (by decide) (Nat.le_of_ble_eq_true rfl) (fun p e s m args below meth c A ls F hX hl => ?_)
  have hx := F.1
  have hb := F.2.1
  generalize hH0 : s.heap = H at hX ⊢
  generalize ([] : List Loc) = locs at hX ⊢
  have hl : lv_has ls 2 [(0, .ref h), (1, .int x1)] := hl
  clear hH0
  have hF := fx_isZero.eq_1 x1
  refine lv_iload_n hx hb dX0_isZero_0 rfl (lv_at hl 1 rfl) ?_
  refine lv_bipush (v := 127) hx hb dX0_isZero_1 (by decide) ?_
  refine lv_iand hx hb dX0_isZero_3 ?_
  refine lv_if_ne (tgt := 11) hx hb dX0_isZero_4 (by decide) (fun c_4 => ?_) (fun c_4 => ?_)
  · have hF := hF.trans (if_neg c_4)
    refine lv_iconst (v := 0) hx hb dX0_isZero_11 (by decide) ?_
    exact g_zret F hX rfl ⟨hF.symm, rfl⟩ dX0_isZero_12
  · have hF := hF.trans (if_pos c_4)
    refine lv_iconst (v := 1) hx hb dX0_isZero_7 (by decide) ?_
    refine lv_goto (tgt := 12) hx hb dX0_isZero_8 (by decide) ?_
    exact g_zret F hX rfl ⟨hF.symm, rfl⟩ dX0_isZero_12
def fx_senseless (no : Int32) : Int32 × Int32 :=
  (124, (no ||| 4))
set_option maxHeartbeats 8000000 in
set_option maxRecDepth 100000 in
theorem cx_senseless (l : Launch) (D : va_G) (h : Nat) (mo : Int32) (no : Int32) (st : Int32) (sg : Int32) (fr : Int64) (ex : Int32)   : g_Met l yX0_senseless cX0_senseless 1 (some .int) (rmK 0) (wX h) [] D (mo, no, st, sg, fr, ex) [.ref h] (px_S (fx_senseless no) mo st) := by
  refine g_enter (by decide) (Nat.le_of_ble_eq_true rfl) (fun p e s m args below meth c A ls F hX hl => ?_)
  have hx := F.1
  have hb := F.2.1
  generalize hH0 : s.heap = H at hX ⊢
  generalize ([] : List Loc) = locs at hX ⊢
  have hl : lv_has ls 1 [(0, .ref h)] := hl
  clear hH0
  have hF := fx_senseless.eq_1 no
  refine lv_aload_n hx hb dX0_senseless_0 rfl (lv_at hl 0 rfl) ?_
  refine lv_aload_n hx hb dX0_senseless_1 rfl (lv_at hl 0 rfl) ?_
  refine x_get F hX 1 (by decide) q41 rfl rfl dX0_senseless_2 ?_
  refine lv_iconst (v := 4) hx hb dX0_senseless_5 (by decide) ?_
  refine lv_ior hx hb dX0_senseless_6 ?_
  refine x_put (u' := (mo, (no ||| 4), st, sg, fr, ex)) F hX 1 (by decide) q41 rfl rfl (tyX0_ok 1 (by decide)) rfl rfl rfl dX0_senseless_7 (fun H locs hX => ?_)
  refine lv_bipush (v := 124) hx hb dX0_senseless_10 (by decide) ?_
  exact g_iret F hX (lx_S hF) dX0_senseless_12
def fx_unpack_b50 (t1 : Int32) (sg_ : Int32) (fr_ : Int64) : Int32 × Int64 × Int32 :=
  (sg_, fr_, t1)
def fx_unpack_b35 (x2 : Int32) (t1 : Int64) (sg_ : Int32) : Int32 × Int64 × Int32 :=
  (if x2 = 0 then fx_unpack_b50 0 sg_ t1 else fx_unpack_b50 (x2 - 1) sg_ t1)
def fx_unpack (x1 : Int32) : Int32 × Int64 × Int32 :=
  (if ((x1 >>> (3 &&& 31)) &&& 15) = 0 then fx_unpack_b35 ((x1 >>> (3 &&& 31)) &&& 15) (((x1 &&& 7) : Int32).toInt64) (x1 >>> (7 &&& 31)) else fx_unpack_b35 ((x1 >>> (3 &&& 31)) &&& 15) (((8 + (x1 &&& 7)) : Int32).toInt64) (x1 >>> (7 &&& 31)))
set_option maxHeartbeats 8000000 in
set_option maxRecDepth 100000 in
theorem cx_unpack (l : Launch) (D : va_G) (h : Nat) (mo : Int32) (no : Int32) (st : Int32) (sg : Int32) (fr : Int64) (ex : Int32) (x1 : Int32)  : g_MetV l yX0_unpack cX0_unpack 4 (rmK 0) (wX h) [] D (mo, no, st, sg, fr, ex) [.ref h, .int x1] (px_V (fx_unpack x1) mo no st) := by
  refine g_enterV (by decide) (Nat.le_of_ble_eq_true rfl) (fun p e s m args below meth c A ls F hX hl => ?_)
  have hx := F.1
  have hb := F.2.1
  generalize hH0 : s.heap = H at hX ⊢
  generalize ([] : List Loc) = locs at hX ⊢
  have hl : lv_has ls 4 [(0, .ref h), (1, .int x1)] := hl
  clear hH0
  have K_50 : ∀ (x2 : Int32) (x3 : Int32) (t1 : Int32) (sg_ : Int32) (fr_ : Int64) (ex_ : Int32) (H : Heap) (locs : List Loc) (ls : Array Slot), fx_unpack x1 = fx_unpack_b50 t1 sg_ fr_ → g_At (wX h) D A s (mo, no, st, sg_, fr_, ex_) H locs → lv_has ls 4 [(0, .ref h), (1, .int x1), (2, .int x2), (3, .int x3)] → W p l e (rmK 0) s m args below meth c H locs 0 0 (MQ below (va_Qv (px_V (fx_unpack x1) mo no st) (g_B (wX h) [] D A) A) args s 0 0 A) (F0 m 50 ls [.int t1, .ref h]) := by
    intro x2 x3 t1 sg_ fr_ ex_ H locs ls  hF hX hl
    have hF := hF.trans (fx_unpack_b50.eq_1 t1 sg_ fr_)
    refine x_put (u' := (mo, no, st, sg_, fr_, t1)) F hX 5 (by decide) q45 rfl rfl (tyX0_ok 5 (by decide)) rfl rfl rfl dX0_unpack_50 (fun H locs hX => ?_)
    exact g_vret F hX (lx_V hF) dX0_unpack_53
  have K_35 : ∀ (x2 : Int32) (x3 : Int32) (t1 : Int64) (sg_ : Int32) (fr_ : Int64) (ex_ : Int32) (H : Heap) (locs : List Loc) (ls : Array Slot), fx_unpack x1 = fx_unpack_b35 x2 t1 sg_ → g_At (wX h) D A s (mo, no, st, sg_, fr_, ex_) H locs → lv_has ls 4 [(0, .ref h), (1, .int x1), (2, .int x2), (3, .int x3)] → W p l e (rmK 0) s m args below meth c H locs 0 0 (MQ below (va_Qv (px_V (fx_unpack x1) mo no st) (g_B (wX h) [] D A) A) args s 0 0 A) (F0 m 35 ls [.long t1, .ref h]) := by
    intro x2 x3 t1 sg_ fr_ ex_ H locs ls  hF hX hl
    have hF := hF.trans (fx_unpack_b35.eq_1 x2 t1 sg_)
    refine x_put (u' := (mo, no, st, sg_, t1, ex_)) F hX 4 (by decide) q44 rfl rfl (tyX0_ok 4 (by decide)) rfl rfl rfl dX0_unpack_35 (fun H locs hX => ?_)
    refine lv_aload_n hx hb dX0_unpack_38 rfl (lv_at hl 0 rfl) ?_
    refine lv_iload_n hx hb dX0_unpack_39 rfl (lv_at hl 2 rfl) ?_
    refine lv_if_ne (tgt := 47) hx hb dX0_unpack_40 (by decide) (fun c_40 => ?_) (fun c_40 => ?_)
    · have hF := hF.trans (if_neg c_40)
      refine lv_iload_n hx hb dX0_unpack_47 rfl (lv_at hl 2 rfl) ?_
      refine lv_iconst (v := 1) hx hb dX0_unpack_48 (by decide) ?_
      refine lv_isub hx hb dX0_unpack_49 ?_
      exact K_50 x2 x3 (x2 - 1) sg_ t1 ex_ _ _ _  hF hX (lv_sub hl [0, 1, 2, 3] rfl)
    · have hF := hF.trans (if_pos c_40)
      refine lv_iconst (v := 0) hx hb dX0_unpack_43 (by decide) ?_
      refine lv_goto (tgt := 50) hx hb dX0_unpack_44 (by decide) ?_
      exact K_50 x2 x3 0 sg_ t1 ex_ _ _ _  hF hX (lv_sub hl [0, 1, 2, 3] rfl)
  have hF := fx_unpack.eq_1 x1
  refine lv_iload_n hx hb dX0_unpack_0 rfl (lv_at hl 1 rfl) ?_
  refine lv_iconst (v := 3) hx hb dX0_unpack_1 (by decide) ?_
  refine lv_ishr hx hb dX0_unpack_2 ?_
  refine lv_bipush (v := 15) hx hb dX0_unpack_3 (by decide) ?_
  refine lv_iand hx hb dX0_unpack_5 ?_
  refine lv_istore_n (lv' := [(2, .int ((x1 >>> (3 &&& 31)) &&& 15)), (0, .ref h), (1, .int x1)]) hx hb dX0_unpack_6 rfl hl (by decide) rfl (fun ls hl => ?_)
  refine lv_iload_n hx hb dX0_unpack_7 rfl (lv_at hl 2 rfl) ?_
  refine lv_bipush (v := 7) hx hb dX0_unpack_8 (by decide) ?_
  refine lv_iand hx hb dX0_unpack_10 ?_
  refine lv_istore_n (lv' := [(3, .int (x1 &&& 7)), (2, .int ((x1 >>> (3 &&& 31)) &&& 15)), (0, .ref h), (1, .int x1)]) hx hb dX0_unpack_11 rfl hl (by decide) rfl (fun ls hl => ?_)
  refine lv_aload_n hx hb dX0_unpack_12 rfl (lv_at hl 2 rfl) ?_
  refine lv_iload_n hx hb dX0_unpack_13 rfl (lv_at hl 3 rfl) ?_
  refine lv_bipush (v := 7) hx hb dX0_unpack_14 (by decide) ?_
  refine lv_ishr hx hb dX0_unpack_16 ?_
  refine x_put (u' := (mo, no, st, (x1 >>> (7 &&& 31)), fr, ex)) F hX 3 (by decide) q43 rfl rfl (tyX0_ok 3 (by decide)) rfl rfl rfl dX0_unpack_17 (fun H locs hX => ?_)
  refine lv_aload_n hx hb dX0_unpack_20 rfl (lv_at hl 2 rfl) ?_
  refine lv_iload_n hx hb dX0_unpack_21 rfl (lv_at hl 1 rfl) ?_
  refine lv_if_ne (tgt := 30) hx hb dX0_unpack_22 (by decide) (fun c_22 => ?_) (fun c_22 => ?_)
  · have hF := hF.trans (if_neg c_22)
    refine lv_bipush (v := 8) hx hb dX0_unpack_30 (by decide) ?_
    refine lv_iload_n hx hb dX0_unpack_32 rfl (lv_at hl 0 rfl) ?_
    refine lv_iadd hx hb dX0_unpack_33 ?_
    refine lv_i2l (v := (((8 + (x1 &&& 7)) : Int32).toInt64)) hx hb dX0_unpack_34 rfl ?_
    exact K_35 ((x1 >>> (3 &&& 31)) &&& 15) (x1 &&& 7) (((8 + (x1 &&& 7)) : Int32).toInt64) (x1 >>> (7 &&& 31)) fr ex _ _ _  hF hX (lv_sub hl [2, 3, 1, 0] rfl)
  · have hF := hF.trans (if_pos c_22)
    refine lv_iload_n hx hb dX0_unpack_25 rfl (lv_at hl 0 rfl) ?_
    refine lv_i2l (v := (((x1 &&& 7) : Int32).toInt64)) hx hb dX0_unpack_26 rfl ?_
    refine lv_goto (tgt := 35) hx hb dX0_unpack_27 (by decide) ?_
    exact K_35 ((x1 >>> (3 &&& 31)) &&& 15) (x1 &&& 7) (((x1 &&& 7) : Int32).toInt64) (x1 >>> (7 &&& 31)) fr ex _ _ _  hF hX (lv_sub hl [2, 3, 1, 0] rfl)
def fx_mode (mo : Int32) (no : Int32) (st : Int32) (x1 : Int32) : Int32 × Int32 × Int32 × Int32 :=
  (if x1 < 0 then ((-1), mo, no, st) else (if x1 ≤ 3 then (mo, x1, no, st) else ((-1), mo, no, st)))
set_option maxHeartbeats 8000000 in
set_option maxRecDepth 100000 in
theorem cx_mode (l : Launch) (D : va_G) (h : Nat) (mo : Int32) (no : Int32) (st : Int32) (sg : Int32) (fr : Int64) (ex : Int32) (x1 : Int32)  : g_Met l yX0_mode cX0_mode 3 (some .int) (rmK 0) (wX h) [] D (mo, no, st, sg, fr, ex) [.ref h, .int x1] (px_T (fx_mode mo no st x1)) := by
  refine g_enter (by decide) (Nat.le_of_ble_eq_true rfl) (fun p e s m args below meth c A ls F hX hl => ?_)
  have hx := F.1
  have hb := F.2.1
  generalize hH0 : s.heap = H at hX ⊢
  generalize ([] : List Loc) = locs at hX ⊢
  have hl : lv_has ls 3 [(0, .ref h), (1, .int x1)] := hl
  clear hH0
  have hF := fx_mode.eq_1 mo no st x1
  refine lv_iload_n hx hb dX0_mode_0 rfl (lv_at hl 1 rfl) ?_
  refine lv_if_lt (tgt := 9) hx hb dX0_mode_1 (by decide) (fun c_1 => ?_) (fun c_1 => ?_)
  · have hF := hF.trans (if_pos c_1)
    refine lv_iconst (v := (-1)) hx hb dX0_mode_9 (by decide) ?_
    exact g_iret F hX (lx_T hF) dX0_mode_10
  · have hF := hF.trans (if_neg c_1)
    refine lv_iload_n hx hb dX0_mode_4 rfl (lv_at hl 1 rfl) ?_
    refine lv_iconst (v := 3) hx hb dX0_mode_5 (by decide) ?_
    refine lv_icmp_le (tgt := 11) hx hb dX0_mode_6 (by decide) (fun c_6 => ?_) (fun c_6 => ?_)
    · have hF := hF.trans (if_pos c_6)
      refine lv_aload_n hx hb dX0_mode_11 rfl (lv_at hl 0 rfl) ?_
      refine x_get F hX 0 (by decide) q40 rfl rfl dX0_mode_12 ?_
      refine lv_istore_n (lv' := [(2, .int mo), (0, .ref h), (1, .int x1)]) hx hb dX0_mode_15 rfl hl (by decide) rfl (fun ls hl => ?_)
      refine lv_aload_n hx hb dX0_mode_16 rfl (lv_at hl 1 rfl) ?_
      refine lv_iload_n hx hb dX0_mode_17 rfl (lv_at hl 2 rfl) ?_
      refine x_put (u' := (x1, no, st, sg, fr, ex)) F hX 0 (by decide) q40 rfl rfl (tyX0_ok 0 (by decide)) rfl rfl rfl dX0_mode_18 (fun H locs hX => ?_)
      refine lv_iload_n hx hb dX0_mode_21 rfl (lv_at hl 0 rfl) ?_
      exact g_iret F hX (lx_T hF) dX0_mode_22
    · have hF := hF.trans (if_neg c_6)
      refine lv_iconst (v := (-1)) hx hb dX0_mode_9 (by decide) ?_
      exact g_iret F hX (lx_T hF) dX0_mode_10
def fx_notes (no : Int32) : Int32 :=
  no
set_option maxHeartbeats 8000000 in
set_option maxRecDepth 100000 in
theorem cx_notes (l : Launch) (D : va_G) (h : Nat) (mo : Int32) (no : Int32) (st : Int32) (sg : Int32) (fr : Int64) (ex : Int32)   : g_Met l yX0_notes cX0_notes 1 (some .int) (rmK 0) (wX h) [] D (mo, no, st, sg, fr, ex) [.ref h] (p_P (fx_notes no) ((mo, no, st, sg, fr, ex) : SX)) := by
  refine g_enter (by decide) (Nat.le_of_ble_eq_true rfl) (fun p e s m args below meth c A ls F hX hl => ?_)
  have hx := F.1
  have hb := F.2.1
  generalize hH0 : s.heap = H at hX ⊢
  generalize ([] : List Loc) = locs at hX ⊢
  have hl : lv_has ls 1 [(0, .ref h)] := hl
  clear hH0
  have hF := fx_notes.eq_1 no
  refine lv_aload_n hx hb dX0_notes_0 rfl (lv_at hl 0 rfl) ?_
  refine x_get F hX 1 (by decide) q41 rfl rfl dX0_notes_1 ?_
  exact g_iret F hX ⟨hF.symm, rfl⟩ dX0_notes_4
def fx_clear (mo : Int32) (no : Int32) (st : Int32) : Int32 × Int32 × Int32 × Int32 :=
  (no, mo, 0, st)
set_option maxHeartbeats 8000000 in
set_option maxRecDepth 100000 in
theorem cx_clear (l : Launch) (D : va_G) (h : Nat) (mo : Int32) (no : Int32) (st : Int32) (sg : Int32) (fr : Int64) (ex : Int32)   : g_Met l yX0_clear cX0_clear 2 (some .int) (rmK 0) (wX h) [] D (mo, no, st, sg, fr, ex) [.ref h] (px_T (fx_clear mo no st)) := by
  refine g_enter (by decide) (Nat.le_of_ble_eq_true rfl) (fun p e s m args below meth c A ls F hX hl => ?_)
  have hx := F.1
  have hb := F.2.1
  generalize hH0 : s.heap = H at hX ⊢
  generalize ([] : List Loc) = locs at hX ⊢
  have hl : lv_has ls 2 [(0, .ref h)] := hl
  clear hH0
  have hF := fx_clear.eq_1 mo no st
  refine lv_aload_n hx hb dX0_clear_0 rfl (lv_at hl 0 rfl) ?_
  refine x_get F hX 1 (by decide) q41 rfl rfl dX0_clear_1 ?_
  refine lv_istore_n (lv' := [(1, .int no), (0, .ref h)]) hx hb dX0_clear_4 rfl hl (by decide) rfl (fun ls hl => ?_)
  refine lv_aload_n hx hb dX0_clear_5 rfl (lv_at hl 1 rfl) ?_
  refine lv_iconst (v := 0) hx hb dX0_clear_6 (by decide) ?_
  refine x_put (u' := (mo, 0, st, sg, fr, ex)) F hX 1 (by decide) q41 rfl rfl (tyX0_ok 1 (by decide)) rfl rfl rfl dX0_clear_7 (fun H locs hX => ?_)
  refine lv_iload_n hx hb dX0_clear_10 rfl (lv_at hl 0 rfl) ?_
  exact g_iret F hX (lx_T hF) dX0_clear_11
def fx_store (mo : Int32) (no : Int32) (st : Int32) (x1 : Int32) : Int32 × Int32 × Int32 × Int32 :=
  (if (fx_bad x1) = 0 then (st, mo, no, x1) else ((-1), mo, no, st))
set_option maxHeartbeats 8000000 in
set_option maxRecDepth 100000 in
theorem cx_store (l : Launch) (D : va_G) (h : Nat) (mo : Int32) (no : Int32) (st : Int32) (sg : Int32) (fr : Int64) (ex : Int32) (x1 : Int32)  : g_Met l yX0_store cX0_store 3 (some .int) (rmK 1) (wX h) [] D (mo, no, st, sg, fr, ex) [.ref h, .int x1] (px_T (fx_store mo no st x1)) := by
  refine g_enter (by decide) (Nat.le_of_ble_eq_true rfl) (fun p e s m args below meth c A ls F hX hl => ?_)
  have hx := F.1
  have hb := F.2.1
  generalize hH0 : s.heap = H at hX ⊢
  generalize ([] : List Loc) = locs at hX ⊢
  have hl : lv_has ls 3 [(0, .ref h), (1, .int x1)] := hl
  clear hH0
  have hF := fx_store.eq_1 mo no st x1
  refine lv_aload_n hx hb dX0_store_0 rfl (lv_at hl 0 rfl) ?_
  refine lv_iload_n hx hb dX0_store_1 rfl (lv_at hl 1 rfl) ?_
  refine x_callP (rest := []) F hX (cx_bad l D h mo no st sg fr ex x1) cq_x_bad rfl ⟨rfl, rfl⟩ (by decide) rfl hl.1 rfl (Nat.le_of_ble_eq_true rfl) dX0_store_2 (fun H locs hX => ?_)
  refine lv_if_eq (tgt := 10) hx hb dX0_store_5 (by decide) (fun c_5 => ?_) (fun c_5 => ?_)
  · have hF := hF.trans (if_pos c_5)
    refine lv_aload_n hx hb dX0_store_10 rfl (lv_at hl 0 rfl) ?_
    refine x_get F hX 2 (by decide) q42 rfl rfl dX0_store_11 ?_
    refine lv_istore_n (lv' := [(2, .int st), (0, .ref h), (1, .int x1)]) hx hb dX0_store_14 rfl hl (by decide) rfl (fun ls hl => ?_)
    refine lv_aload_n hx hb dX0_store_15 rfl (lv_at hl 1 rfl) ?_
    refine lv_iload_n hx hb dX0_store_16 rfl (lv_at hl 2 rfl) ?_
    refine x_put (u' := (mo, no, x1, sg, fr, ex)) F hX 2 (by decide) q42 rfl rfl (tyX0_ok 2 (by decide)) rfl rfl rfl dX0_store_17 (fun H locs hX => ?_)
    refine lv_iload_n hx hb dX0_store_20 rfl (lv_at hl 0 rfl) ?_
    exact g_iret F hX (lx_T hF) dX0_store_21
  · have hF := hF.trans (if_neg c_5)
    refine lv_iconst (v := (-1)) hx hb dX0_store_8 (by decide) ?_
    exact g_iret F hX (lx_T hF) dX0_store_9
def fx_upward_b85 (t0 : Int32) (t1 : Int32) : Int32 :=
  (if t0 = t1 then 1 else 0)
def fx_upward_b76 (x1 : Int32) (t0 : Int32) : Int32 :=
  (if x1 = 0 then fx_upward_b85 t0 1 else fx_upward_b85 t0 0)
def fx_upward_b56 (mo : Int32) (x1 : Int32) (t0 : Int32) : Int32 :=
  (if t0 = 0 then 0 else (if mo = 2 then fx_upward_b76 x1 1 else fx_upward_b76 x1 0))
def fx_upward (mo : Int32) (x1 : Int32) (x2 : Int64) (x4 : Int32) (x5 : Int32) : Int32 :=
  (if mo = 0 then (if x4 = 0 then 0 else (if x5 = 0 then (if (x2 &&& 1) = 1 then 1 else 0) else 1)) else (if mo = 1 then 0 else (if x4 = 0 then (if x5 = 0 then fx_upward_b56 mo x1 0 else fx_upward_b56 mo x1 1) else fx_upward_b56 mo x1 1)))
set_option maxHeartbeats 8000000 in
set_option maxRecDepth 100000 in
theorem cx_upward (l : Launch) (D : va_G) (h : Nat) (mo : Int32) (no : Int32) (st : Int32) (sg : Int32) (fr : Int64) (ex : Int32) (x1 : Int32) (x2 : Int64) (x4 : Int32) (x5 : Int32)  : g_Met l yX0_upward cX0_upward 7 (some .boolean) (rmK 0) (wX h) [] D (mo, no, st, sg, fr, ex) [.ref h, .int x1, .long x2, .int x4, .int x5] (p_P (fx_upward mo x1 x2 x4 x5) ((mo, no, st, sg, fr, ex) : SX)) := by
  refine g_enter (by decide) (Nat.le_of_ble_eq_true rfl) (fun p e s m args below meth c A ls F hX hl => ?_)
  have hx := F.1
  have hb := F.2.1
  generalize hH0 : s.heap = H at hX ⊢
  generalize ([] : List Loc) = locs at hX ⊢
  have hl : lv_has ls 7 [(0, .ref h), (1, .int x1), (2, .long x2), (4, .int x4), (5, .int x5)] := hl
  clear hH0
  have K_85 : ∀ (x6 : Int32) (t0 : Int32) (t1 : Int32) (H : Heap) (locs : List Loc) (ls : Array Slot), fx_upward mo x1 x2 x4 x5 = fx_upward_b85 t0 t1 → g_At (wX h) D A s (mo, no, st, sg, fr, ex) H locs → lv_has ls 7 [(0, .ref h), (1, .int x1), (2, .long x2), (4, .int x4), (5, .int x5), (6, .int x6)] → W p l e (rmK 0) s m args below meth c H locs 0 0 (MQ below (va_Qi (p_P (fx_upward mo x1 x2 x4 x5) ((mo, no, st, sg, fr, ex) : SX)) (g_B (wX h) [] D A) A) args s 0 0 A) (F0 m 85 ls [.int t1, .int t0]) := by
    intro x6 t0 t1 H locs ls  hF hX hl
    have hF := hF.trans (fx_upward_b85.eq_1 t0 t1)
    refine lv_icmp_ne (tgt := 92) hx hb dX0_upward_85 (by decide) (fun c_85 => ?_) (fun c_85 => ?_)
    · have hF := hF.trans (if_neg c_85)
      refine lv_iconst (v := 0) hx hb dX0_upward_92 (by decide) ?_
      exact g_zret F hX rfl ⟨hF.symm, rfl⟩ dX0_upward_93
    · have hF := hF.trans (if_pos c_85)
      refine lv_iconst (v := 1) hx hb dX0_upward_88 (by decide) ?_
      refine lv_goto (tgt := 93) hx hb dX0_upward_89 (by decide) ?_
      exact g_zret F hX rfl ⟨hF.symm, rfl⟩ dX0_upward_93
  have K_76 : ∀ (x6 : Int32) (t0 : Int32) (H : Heap) (locs : List Loc) (ls : Array Slot), fx_upward mo x1 x2 x4 x5 = fx_upward_b76 x1 t0 → g_At (wX h) D A s (mo, no, st, sg, fr, ex) H locs → lv_has ls 7 [(0, .ref h), (1, .int x1), (2, .long x2), (4, .int x4), (5, .int x5), (6, .int x6)] → W p l e (rmK 0) s m args below meth c H locs 0 0 (MQ below (va_Qi (p_P (fx_upward mo x1 x2 x4 x5) ((mo, no, st, sg, fr, ex) : SX)) (g_B (wX h) [] D A) A) args s 0 0 A) (F0 m 76 ls [.int t0]) := by
    intro x6 t0 H locs ls  hF hX hl
    have hF := hF.trans (fx_upward_b76.eq_1 x1 t0)
    refine lv_iload_n hx hb dX0_upward_76 rfl (lv_at hl 1 rfl) ?_
    refine lv_if_ne (tgt := 84) hx hb dX0_upward_77 (by decide) (fun c_77 => ?_) (fun c_77 => ?_)
    · have hF := hF.trans (if_neg c_77)
      refine lv_iconst (v := 0) hx hb dX0_upward_84 (by decide) ?_
      exact K_85 x6 t0 0 _ _ _  hF hX (lv_sub hl [0, 1, 2, 3, 4, 5] rfl)
    · have hF := hF.trans (if_pos c_77)
      refine lv_iconst (v := 1) hx hb dX0_upward_80 (by decide) ?_
      refine lv_goto (tgt := 85) hx hb dX0_upward_81 (by decide) ?_
      exact K_85 x6 t0 1 _ _ _  hF hX (lv_sub hl [0, 1, 2, 3, 4, 5] rfl)
  have K_56 : ∀ (t0 : Int32) (H : Heap) (locs : List Loc) (ls : Array Slot), fx_upward mo x1 x2 x4 x5 = fx_upward_b56 mo x1 t0 → g_At (wX h) D A s (mo, no, st, sg, fr, ex) H locs → lv_has ls 7 [(0, .ref h), (1, .int x1), (2, .long x2), (4, .int x4), (5, .int x5)] → W p l e (rmK 0) s m args below meth c H locs 0 0 (MQ below (va_Qi (p_P (fx_upward mo x1 x2 x4 x5) ((mo, no, st, sg, fr, ex) : SX)) (g_B (wX h) [] D A) A) args s 0 0 A) (F0 m 56 ls [.int t0]) := by
    intro t0 H locs ls  hF hX hl
    have hF := hF.trans (fx_upward_b56.eq_1 mo x1 t0)
    refine lv_istore (lv' := [(6, .int t0), (0, .ref h), (1, .int x1), (2, .long x2), (4, .int x4), (5, .int x5)]) hx hb dX0_upward_56 hl (by decide) rfl (fun ls hl => ?_)
    refine lv_iload hx hb dX0_upward_58 (lv_at hl 0 rfl) ?_
    refine lv_if_eq (tgt := 92) hx hb dX0_upward_60 (by decide) (fun c_60 => ?_) (fun c_60 => ?_)
    · have hF := hF.trans (if_pos c_60)
      refine lv_iconst (v := 0) hx hb dX0_upward_92 (by decide) ?_
      exact g_zret F hX rfl ⟨hF.symm, rfl⟩ dX0_upward_93
    · have hF := hF.trans (if_neg c_60)
      refine lv_aload_n hx hb dX0_upward_63 rfl (lv_at hl 1 rfl) ?_
      refine x_get F hX 0 (by decide) q40 rfl rfl dX0_upward_64 ?_
      refine lv_iconst (v := 2) hx hb dX0_upward_67 (by decide) ?_
      refine lv_icmp_ne (tgt := 75) hx hb dX0_upward_68 (by decide) (fun c_68 => ?_) (fun c_68 => ?_)
      · have hF := hF.trans (if_neg c_68)
        refine lv_iconst (v := 0) hx hb dX0_upward_75 (by decide) ?_
        exact K_76 t0 0 _ _ _  hF hX (lv_sub hl [1, 2, 3, 4, 5, 0] rfl)
      · have hF := hF.trans (if_pos c_68)
        refine lv_iconst (v := 1) hx hb dX0_upward_71 (by decide) ?_
        refine lv_goto (tgt := 76) hx hb dX0_upward_72 (by decide) ?_
        exact K_76 t0 1 _ _ _  hF hX (lv_sub hl [1, 2, 3, 4, 5, 0] rfl)
  have hF := fx_upward.eq_1 mo x1 x2 x4 x5
  refine lv_aload_n hx hb dX0_upward_0 rfl (lv_at hl 0 rfl) ?_
  refine x_get F hX 0 (by decide) q40 rfl rfl dX0_upward_1 ?_
  refine lv_if_ne (tgt := 31) hx hb dX0_upward_4 (by decide) (fun c_4 => ?_) (fun c_4 => ?_)
  · have hF := hF.trans (if_neg c_4)
    refine lv_aload_n hx hb dX0_upward_31 rfl (lv_at hl 0 rfl) ?_
    refine x_get F hX 0 (by decide) q40 rfl rfl dX0_upward_32 ?_
    refine lv_iconst (v := 1) hx hb dX0_upward_35 (by decide) ?_
    refine lv_icmp_ne (tgt := 41) hx hb dX0_upward_36 (by decide) (fun c_36 => ?_) (fun c_36 => ?_)
    · have hF := hF.trans (if_neg c_36)
      refine lv_iload hx hb dX0_upward_41 (lv_at hl 3 rfl) ?_
      refine lv_if_ne (tgt := 51) hx hb dX0_upward_43 (by decide) (fun c_43 => ?_) (fun c_43 => ?_)
      · have hF := hF.trans (if_neg c_43)
        refine lv_iconst (v := 1) hx hb dX0_upward_51 (by decide) ?_
        refine lv_goto (tgt := 56) hx hb dX0_upward_52 (by decide) ?_
        exact K_56 1 _ _ _  hF hX (lv_sub hl [0, 1, 2, 3, 4] rfl)
      · have hF := hF.trans (if_pos c_43)
        refine lv_iload hx hb dX0_upward_46 (lv_at hl 4 rfl) ?_
        refine lv_if_eq (tgt := 55) hx hb dX0_upward_48 (by decide) (fun c_48 => ?_) (fun c_48 => ?_)
        · have hF := hF.trans (if_pos c_48)
          refine lv_iconst (v := 0) hx hb dX0_upward_55 (by decide) ?_
          exact K_56 0 _ _ _  hF hX (lv_sub hl [0, 1, 2, 3, 4] rfl)
        · have hF := hF.trans (if_neg c_48)
          refine lv_iconst (v := 1) hx hb dX0_upward_51 (by decide) ?_
          refine lv_goto (tgt := 56) hx hb dX0_upward_52 (by decide) ?_
          exact K_56 1 _ _ _  hF hX (lv_sub hl [0, 1, 2, 3, 4] rfl)
    · have hF := hF.trans (if_pos c_36)
      refine lv_iconst (v := 0) hx hb dX0_upward_39 (by decide) ?_
      exact g_zret F hX rfl ⟨hF.symm, rfl⟩ dX0_upward_40
  · have hF := hF.trans (if_pos c_4)
    refine lv_iload hx hb dX0_upward_7 (lv_at hl 3 rfl) ?_
    refine lv_if_eq (tgt := 29) hx hb dX0_upward_9 (by decide) (fun c_9 => ?_) (fun c_9 => ?_)
    · have hF := hF.trans (if_pos c_9)
      refine lv_iconst (v := 0) hx hb dX0_upward_29 (by decide) ?_
      exact g_zret F hX rfl ⟨hF.symm, rfl⟩ dX0_upward_30
    · have hF := hF.trans (if_neg c_9)
      refine lv_iload hx hb dX0_upward_12 (lv_at hl 4 rfl) ?_
      refine lv_if_ne (tgt := 25) hx hb dX0_upward_14 (by decide) (fun c_14 => ?_) (fun c_14 => ?_)
      · have hF := hF.trans (if_neg c_14)
        refine lv_iconst (v := 1) hx hb dX0_upward_25 (by decide) ?_
        refine lv_goto (tgt := 30) hx hb dX0_upward_26 (by decide) ?_
        exact g_zret F hX rfl ⟨hF.symm, rfl⟩ dX0_upward_30
      · have hF := hF.trans (if_pos c_14)
        refine lv_lload_n hx hb dX0_upward_17 rfl (lv_at hl 2 rfl) ?_
        refine lv_lconst (v := 1) hx hb dX0_upward_18 (by decide) ?_
        refine lv_land hx hb dX0_upward_19 ?_
        refine lv_lconst (v := 1) hx hb dX0_upward_20 (by decide) ?_
        refine ll_ne (tgt := 29) hx hb dX0_upward_21 dX0_upward_22 (by decide) (fun c_21 => ?_) (fun c_21 => ?_)
        · have hF := hF.trans (if_neg c_21)
          refine lv_iconst (v := 0) hx hb dX0_upward_29 (by decide) ?_
          exact g_zret F hX rfl ⟨hF.symm, rfl⟩ dX0_upward_30
        · have hF := hF.trans (if_pos c_21)
          refine lv_iconst (v := 1) hx hb dX0_upward_25 (by decide) ?_
          refine lv_goto (tgt := 30) hx hb dX0_upward_26 (by decide) ?_
          exact g_zret F hX rfl ⟨hF.symm, rfl⟩ dX0_upward_30
def fx_pack_b81 (x1 : Int32) (t0 : Int32) (no_ : Int32) : Int32 × Int32 :=
  (if t0 = 0 then (((x1 * 128) + 119), no_) else (((x1 * 128) + 120), no_))
def fx_pack_b80 (x1 : Int32) (no_ : Int32) : Int32 × Int32 :=
  fx_pack_b81 x1 0 no_
def fx_pack_b73 (x1 : Int32) (t0 : Int32) (t1 : Int32) (no_ : Int32) : Int32 × Int32 :=
  (if t0 = t1 then fx_pack_b81 x1 1 no_ else fx_pack_b80 x1 no_)
def fx_pack_b64 (x1 : Int32) (t0 : Int32) (no_ : Int32) : Int32 × Int32 :=
  (if x1 = 0 then fx_pack_b73 x1 t0 1 no_ else fx_pack_b73 x1 t0 0 no_)
def fx_pack (mo : Int32) (no : Int32) (x1 : Int32) (x2 : Int64) (x4 : Int32) : Int32 × Int32 :=
  (if (8 : Int64) ≤ x2 then (if x4 ≤ 13 then (((((x1 * 128) + (8 * (x4 + 1))) + ((x2 : Int64).toInt32)) - 8), no) else (if mo = 0 then fx_pack_b81 x1 1 ((no ||| 1) ||| 2) else (if mo = 1 then fx_pack_b80 x1 ((no ||| 1) ||| 2) else (if mo = 2 then fx_pack_b64 x1 1 ((no ||| 1) ||| 2) else fx_pack_b64 x1 0 ((no ||| 1) ||| 2))))) else (((x1 * 128) + ((x2 : Int64).toInt32)), no))
set_option maxHeartbeats 8000000 in
set_option maxRecDepth 100000 in
theorem cx_pack (l : Launch) (D : va_G) (h : Nat) (mo : Int32) (no : Int32) (st : Int32) (sg : Int32) (fr : Int64) (ex : Int32) (x1 : Int32) (x2 : Int64) (x4 : Int32)  : g_Met l yX0_pack cX0_pack 6 (some .int) (rmK 0) (wX h) [] D (mo, no, st, sg, fr, ex) [.ref h, .int x1, .long x2, .int x4] (px_S (fx_pack mo no x1 x2 x4) mo st) := by
  refine g_enter (by decide) (Nat.le_of_ble_eq_true rfl) (fun p e s m args below meth c A ls F hX hl => ?_)
  have hx := F.1
  have hb := F.2.1
  generalize hH0 : s.heap = H at hX ⊢
  generalize ([] : List Loc) = locs at hX ⊢
  have hl : lv_has ls 6 [(0, .ref h), (1, .int x1), (2, .long x2), (4, .int x4)] := hl
  clear hH0
  have K_81 : ∀ (t0 : Int32) (no_ : Int32) (H : Heap) (locs : List Loc) (ls : Array Slot), ((8 : Int64) ≤ x2) → (¬ x4 ≤ 13) → fx_pack mo no x1 x2 x4 = fx_pack_b81 x1 t0 no_ → g_At (wX h) D A s (mo, no_, st, sg, fr, ex) H locs → lv_has ls 6 [(0, .ref h), (1, .int x1), (2, .long x2), (4, .int x4)] → W p l e (rmK 0) s m args below meth c H locs 0 0 (MQ below (va_Qi (px_S (fx_pack mo no x1 x2 x4) mo st) (g_B (wX h) [] D A) A) args s 0 0 A) (F0 m 81 ls [.int t0]) := by
    intro t0 no_ H locs ls f81_0 f81_1 hF hX hl
    have hF := hF.trans (fx_pack_b81.eq_1 x1 t0 no_)
    refine lv_istore (lv' := [(5, .int t0), (0, .ref h), (1, .int x1), (2, .long x2), (4, .int x4)]) hx hb dX0_pack_81 hl (by decide) rfl (fun ls hl => ?_)
    refine lv_iload_n hx hb dX0_pack_83 rfl (lv_at hl 2 rfl) ?_
    refine lv_sipush (v := 128) hx hb dX0_pack_84 (by decide) ?_
    refine lv_imul hx hb dX0_pack_87 ?_
    refine lv_iload hx hb dX0_pack_88 (lv_at hl 0 rfl) ?_
    refine lv_if_eq (tgt := 98) hx hb dX0_pack_90 (by decide) (fun c_90 => ?_) (fun c_90 => ?_)
    · have hF := hF.trans (if_pos c_90)
      refine lv_bipush (v := 119) hx hb dX0_pack_98 (by decide) ?_
      refine lv_iadd hx hb dX0_pack_100 ?_
      exact g_iret F hX (lx_S hF) dX0_pack_101
    · have hF := hF.trans (if_neg c_90)
      refine lv_bipush (v := 120) hx hb dX0_pack_93 (by decide) ?_
      refine lv_goto (tgt := 100) hx hb dX0_pack_95 (by decide) ?_
      refine lv_iadd hx hb dX0_pack_100 ?_
      exact g_iret F hX (lx_S hF) dX0_pack_101
  have K_80 : ∀ (no_ : Int32) (H : Heap) (locs : List Loc) (ls : Array Slot), ((8 : Int64) ≤ x2) → (¬ x4 ≤ 13) → fx_pack mo no x1 x2 x4 = fx_pack_b80 x1 no_ → g_At (wX h) D A s (mo, no_, st, sg, fr, ex) H locs → lv_has ls 6 [(0, .ref h), (1, .int x1), (2, .long x2), (4, .int x4)] → W p l e (rmK 0) s m args below meth c H locs 0 0 (MQ below (va_Qi (px_S (fx_pack mo no x1 x2 x4) mo st) (g_B (wX h) [] D A) A) args s 0 0 A) (F0 m 80 ls []) := by
    intro no_ H locs ls f80_0 f80_1 hF hX hl
    have hF := hF.trans (fx_pack_b80.eq_1 x1 no_)
    refine lv_iconst (v := 0) hx hb dX0_pack_80 (by decide) ?_
    exact K_81 0 no_ _ _ _ f80_0 f80_1 hF hX (lv_sub hl [0, 1, 2, 3] rfl)
  have K_73 : ∀ (t0 : Int32) (t1 : Int32) (no_ : Int32) (H : Heap) (locs : List Loc) (ls : Array Slot), ((8 : Int64) ≤ x2) → (¬ x4 ≤ 13) → fx_pack mo no x1 x2 x4 = fx_pack_b73 x1 t0 t1 no_ → g_At (wX h) D A s (mo, no_, st, sg, fr, ex) H locs → lv_has ls 6 [(0, .ref h), (1, .int x1), (2, .long x2), (4, .int x4)] → W p l e (rmK 0) s m args below meth c H locs 0 0 (MQ below (va_Qi (px_S (fx_pack mo no x1 x2 x4) mo st) (g_B (wX h) [] D A) A) args s 0 0 A) (F0 m 73 ls [.int t1, .int t0]) := by
    intro t0 t1 no_ H locs ls f73_0 f73_1 hF hX hl
    have hF := hF.trans (fx_pack_b73.eq_1 x1 t0 t1 no_)
    refine lv_icmp_ne (tgt := 80) hx hb dX0_pack_73 (by decide) (fun c_73 => ?_) (fun c_73 => ?_)
    · have hF := hF.trans (if_neg c_73)
      exact K_80 no_ _ _ _ f73_0 f73_1 hF hX (lv_sub hl [0, 1, 2, 3] rfl)
    · have hF := hF.trans (if_pos c_73)
      refine lv_iconst (v := 1) hx hb dX0_pack_76 (by decide) ?_
      refine lv_goto (tgt := 81) hx hb dX0_pack_77 (by decide) ?_
      exact K_81 1 no_ _ _ _ f73_0 f73_1 hF hX (lv_sub hl [0, 1, 2, 3] rfl)
  have K_64 : ∀ (t0 : Int32) (no_ : Int32) (H : Heap) (locs : List Loc) (ls : Array Slot), ((8 : Int64) ≤ x2) → (¬ x4 ≤ 13) → fx_pack mo no x1 x2 x4 = fx_pack_b64 x1 t0 no_ → g_At (wX h) D A s (mo, no_, st, sg, fr, ex) H locs → lv_has ls 6 [(0, .ref h), (1, .int x1), (2, .long x2), (4, .int x4)] → W p l e (rmK 0) s m args below meth c H locs 0 0 (MQ below (va_Qi (px_S (fx_pack mo no x1 x2 x4) mo st) (g_B (wX h) [] D A) A) args s 0 0 A) (F0 m 64 ls [.int t0]) := by
    intro t0 no_ H locs ls f64_0 f64_1 hF hX hl
    have hF := hF.trans (fx_pack_b64.eq_1 x1 t0 no_)
    refine lv_iload_n hx hb dX0_pack_64 rfl (lv_at hl 1 rfl) ?_
    refine lv_if_ne (tgt := 72) hx hb dX0_pack_65 (by decide) (fun c_65 => ?_) (fun c_65 => ?_)
    · have hF := hF.trans (if_neg c_65)
      refine lv_iconst (v := 0) hx hb dX0_pack_72 (by decide) ?_
      exact K_73 t0 0 no_ _ _ _ f64_0 f64_1 hF hX (lv_sub hl [0, 1, 2, 3] rfl)
    · have hF := hF.trans (if_pos c_65)
      refine lv_iconst (v := 1) hx hb dX0_pack_68 (by decide) ?_
      refine lv_goto (tgt := 73) hx hb dX0_pack_69 (by decide) ?_
      exact K_73 t0 1 no_ _ _ _ f64_0 f64_1 hF hX (lv_sub hl [0, 1, 2, 3] rfl)
  have hF := fx_pack.eq_1 mo no x1 x2 x4
  refine lv_lload_n hx hb dX0_pack_0 rfl (lv_at hl 2 rfl) ?_
  refine lv_ldc2 hx hb F.2.2.2.1 (F.2.2.2.2.1 _ q112) dX0_pack_1 ?_
  refine ll_ge (tgt := 17) hx hb dX0_pack_4 dX0_pack_5 (by decide) (fun c_4 => ?_) (fun c_4 => ?_)
  · have hF := hF.trans (if_pos c_4)
    refine lv_iload hx hb dX0_pack_17 (lv_at hl 3 rfl) ?_
    refine lv_bipush (v := 13) hx hb dX0_pack_19 (by decide) ?_
    refine lv_icmp_le (tgt := 102) hx hb dX0_pack_21 (by decide) (fun c_21 => ?_) (fun c_21 => ?_)
    · have hF := hF.trans (if_pos c_21)
      refine lv_iload_n hx hb dX0_pack_102 rfl (lv_at hl 1 rfl) ?_
      refine lv_sipush (v := 128) hx hb dX0_pack_103 (by decide) ?_
      refine lv_imul hx hb dX0_pack_106 ?_
      refine lv_bipush (v := 8) hx hb dX0_pack_107 (by decide) ?_
      refine lv_iload hx hb dX0_pack_109 (lv_at hl 3 rfl) ?_
      refine lv_iconst (v := 1) hx hb dX0_pack_111 (by decide) ?_
      refine lv_iadd hx hb dX0_pack_112 ?_
      refine lv_imul hx hb dX0_pack_113 ?_
      refine lv_iadd hx hb dX0_pack_114 ?_
      refine lv_lload_n hx hb dX0_pack_115 rfl (lv_at hl 2 rfl) ?_
      refine lv_l2i (v := ((x2 : Int64).toInt32)) hx hb dX0_pack_116 rfl ?_
      refine lv_iadd hx hb dX0_pack_117 ?_
      refine lv_bipush (v := 8) hx hb dX0_pack_118 (by decide) ?_
      refine lv_isub hx hb dX0_pack_120 ?_
      exact g_iret F hX (lx_S hF) dX0_pack_121
    · have hF := hF.trans (if_neg c_21)
      refine lv_aload_n hx hb dX0_pack_24 rfl (lv_at hl 0 rfl) ?_
      refine lv_aload_n hx hb dX0_pack_25 rfl (lv_at hl 0 rfl) ?_
      refine x_get F hX 1 (by decide) q41 rfl rfl dX0_pack_26 ?_
      refine lv_iconst (v := 1) hx hb dX0_pack_29 (by decide) ?_
      refine lv_ior hx hb dX0_pack_30 ?_
      refine lv_iconst (v := 2) hx hb dX0_pack_31 (by decide) ?_
      refine lv_ior hx hb dX0_pack_32 ?_
      refine x_put (u' := (mo, ((no ||| 1) ||| 2), st, sg, fr, ex)) F hX 1 (by decide) q41 rfl rfl (tyX0_ok 1 (by decide)) rfl rfl rfl dX0_pack_33 (fun H locs hX => ?_)
      refine lv_aload_n hx hb dX0_pack_36 rfl (lv_at hl 0 rfl) ?_
      refine x_get F hX 0 (by decide) q40 rfl rfl dX0_pack_37 ?_
      refine lv_if_eq (tgt := 76) hx hb dX0_pack_40 (by decide) (fun c_40 => ?_) (fun c_40 => ?_)
      · have hF := hF.trans (if_pos c_40)
        refine lv_iconst (v := 1) hx hb dX0_pack_76 (by decide) ?_
        refine lv_goto (tgt := 81) hx hb dX0_pack_77 (by decide) ?_
        exact K_81 1 ((no ||| 1) ||| 2) _ _ _ c_4 c_21 hF hX (lv_sub hl [0, 1, 2, 3] rfl)
      · have hF := hF.trans (if_neg c_40)
        refine lv_aload_n hx hb dX0_pack_43 rfl (lv_at hl 0 rfl) ?_
        refine x_get F hX 0 (by decide) q40 rfl rfl dX0_pack_44 ?_
        refine lv_iconst (v := 1) hx hb dX0_pack_47 (by decide) ?_
        refine lv_icmp_eq (tgt := 80) hx hb dX0_pack_48 (by decide) (fun c_48 => ?_) (fun c_48 => ?_)
        · have hF := hF.trans (if_pos c_48)
          exact K_80 ((no ||| 1) ||| 2) _ _ _ c_4 c_21 hF hX (lv_sub hl [0, 1, 2, 3] rfl)
        · have hF := hF.trans (if_neg c_48)
          refine lv_aload_n hx hb dX0_pack_51 rfl (lv_at hl 0 rfl) ?_
          refine x_get F hX 0 (by decide) q40 rfl rfl dX0_pack_52 ?_
          refine lv_iconst (v := 2) hx hb dX0_pack_55 (by decide) ?_
          refine lv_icmp_ne (tgt := 63) hx hb dX0_pack_56 (by decide) (fun c_56 => ?_) (fun c_56 => ?_)
          · have hF := hF.trans (if_neg c_56)
            refine lv_iconst (v := 0) hx hb dX0_pack_63 (by decide) ?_
            exact K_64 0 ((no ||| 1) ||| 2) _ _ _ c_4 c_21 hF hX (lv_sub hl [0, 1, 2, 3] rfl)
          · have hF := hF.trans (if_pos c_56)
            refine lv_iconst (v := 1) hx hb dX0_pack_59 (by decide) ?_
            refine lv_goto (tgt := 64) hx hb dX0_pack_60 (by decide) ?_
            exact K_64 1 ((no ||| 1) ||| 2) _ _ _ c_4 c_21 hF hX (lv_sub hl [0, 1, 2, 3] rfl)
  · have hF := hF.trans (if_neg c_4)
    refine lv_iload_n hx hb dX0_pack_8 rfl (lv_at hl 1 rfl) ?_
    refine lv_sipush (v := 128) hx hb dX0_pack_9 (by decide) ?_
    refine lv_imul hx hb dX0_pack_12 ?_
    refine lv_lload_n hx hb dX0_pack_13 rfl (lv_at hl 2 rfl) ?_
    refine lv_l2i (v := ((x2 : Int64).toInt32)) hx hb dX0_pack_14 rfl ?_
    refine lv_iadd hx hb dX0_pack_15 ?_
    exact g_iret F hX (lx_S hF) dX0_pack_16
def fx_zeroSum (mo : Int32) (x1 : Int32) (x2 : Int32) : Int32 :=
  (if x1 = x2 then (x1 * 128) else (if mo = 3 then 128 else 0))
set_option maxHeartbeats 8000000 in
set_option maxRecDepth 100000 in
theorem cx_zeroSum (l : Launch) (D : va_G) (h : Nat) (mo : Int32) (no : Int32) (st : Int32) (sg : Int32) (fr : Int64) (ex : Int32) (x1 : Int32) (x2 : Int32)  : g_Met l yX0_zeroSum cX0_zeroSum 3 (some .int) (rmK 0) (wX h) [] D (mo, no, st, sg, fr, ex) [.ref h, .int x1, .int x2] (p_P (fx_zeroSum mo x1 x2) ((mo, no, st, sg, fr, ex) : SX)) := by
  refine g_enter (by decide) (Nat.le_of_ble_eq_true rfl) (fun p e s m args below meth c A ls F hX hl => ?_)
  have hx := F.1
  have hb := F.2.1
  generalize hH0 : s.heap = H at hX ⊢
  generalize ([] : List Loc) = locs at hX ⊢
  have hl : lv_has ls 3 [(0, .ref h), (1, .int x1), (2, .int x2)] := hl
  clear hH0
  have hF := fx_zeroSum.eq_1 mo x1 x2
  refine lv_iload_n hx hb dX0_zeroSum_0 rfl (lv_at hl 1 rfl) ?_
  refine lv_iload_n hx hb dX0_zeroSum_1 rfl (lv_at hl 2 rfl) ?_
  refine lv_icmp_ne (tgt := 11) hx hb dX0_zeroSum_2 (by decide) (fun c_2 => ?_) (fun c_2 => ?_)
  · have hF := hF.trans (if_neg c_2)
    refine lv_aload_n hx hb dX0_zeroSum_11 rfl (lv_at hl 0 rfl) ?_
    refine x_get F hX 0 (by decide) q40 rfl rfl dX0_zeroSum_12 ?_
    refine lv_iconst (v := 3) hx hb dX0_zeroSum_15 (by decide) ?_
    refine lv_icmp_ne (tgt := 25) hx hb dX0_zeroSum_16 (by decide) (fun c_16 => ?_) (fun c_16 => ?_)
    · have hF := hF.trans (if_neg c_16)
      refine lv_iconst (v := 0) hx hb dX0_zeroSum_25 (by decide) ?_
      exact g_iret F hX ⟨hF.symm, rfl⟩ dX0_zeroSum_26
    · have hF := hF.trans (if_pos c_16)
      refine lv_sipush (v := 128) hx hb dX0_zeroSum_19 (by decide) ?_
      refine lv_goto (tgt := 26) hx hb dX0_zeroSum_22 (by decide) ?_
      exact g_iret F hX ⟨hF.symm, rfl⟩ dX0_zeroSum_26
  · have hF := hF.trans (if_pos c_2)
    refine lv_iload_n hx hb dX0_zeroSum_5 rfl (lv_at hl 1 rfl) ?_
    refine lv_sipush (v := 128) hx hb dX0_zeroSum_6 (by decide) ?_
    refine lv_imul hx hb dX0_zeroSum_9 ?_
    exact g_iret F hX ⟨hF.symm, rfl⟩ dX0_zeroSum_10
def fx_rank (x1 : Int32) : Int32 :=
  (if x1 < 128 then (x1 &&& 127) else (-(x1 &&& 127)))
set_option maxHeartbeats 8000000 in
set_option maxRecDepth 100000 in
theorem cx_rank (l : Launch) (D : va_G) (h : Nat) (mo : Int32) (no : Int32) (st : Int32) (sg : Int32) (fr : Int64) (ex : Int32) (x1 : Int32)  : g_Met l yX0_rank cX0_rank 3 (some .int) (rmK 0) (wX h) [] D (mo, no, st, sg, fr, ex) [.ref h, .int x1] (p_P (fx_rank x1) ((mo, no, st, sg, fr, ex) : SX)) := by
  refine g_enter (by decide) (Nat.le_of_ble_eq_true rfl) (fun p e s m args below meth c A ls F hX hl => ?_)
  have hx := F.1
  have hb := F.2.1
  generalize hH0 : s.heap = H at hX ⊢
  generalize ([] : List Loc) = locs at hX ⊢
  have hl : lv_has ls 3 [(0, .ref h), (1, .int x1)] := hl
  clear hH0
  have hF := fx_rank.eq_1 x1
  refine lv_iload_n hx hb dX0_rank_0 rfl (lv_at hl 1 rfl) ?_
  refine lv_bipush (v := 127) hx hb dX0_rank_1 (by decide) ?_
  refine lv_iand hx hb dX0_rank_3 ?_
  refine lv_istore_n (lv' := [(2, .int (x1 &&& 127)), (0, .ref h), (1, .int x1)]) hx hb dX0_rank_4 rfl hl (by decide) rfl (fun ls hl => ?_)
  refine lv_iload_n hx hb dX0_rank_5 rfl (lv_at hl 2 rfl) ?_
  refine lv_sipush (v := 128) hx hb dX0_rank_6 (by decide) ?_
  refine lv_icmp_lt (tgt := 17) hx hb dX0_rank_9 (by decide) (fun c_9 => ?_) (fun c_9 => ?_)
  · have hF := hF.trans (if_pos c_9)
    refine lv_iload_n hx hb dX0_rank_17 rfl (lv_at hl 0 rfl) ?_
    exact g_iret F hX ⟨hF.symm, rfl⟩ dX0_rank_18
  · have hF := hF.trans (if_neg c_9)
    refine lv_iload_n hx hb dX0_rank_12 rfl (lv_at hl 0 rfl) ?_
    refine lv_ineg hx hb dX0_rank_13 ?_
    refine lv_goto (tgt := 18) hx hb dX0_rank_14 (by decide) ?_
    exact g_iret F hX ⟨hF.symm, rfl⟩ dX0_rank_18
end
section
set_option maxRecDepth 100000
def fx_round_b169 (mo : Int32) (x1 : Int32) (x6 : Int64) (x8 : Int32) (no_ : Int32) : Int32 × Int32 :=
  (if x6 ≤ 15 then ((fx_pack mo no_ x1 x6 x8).1, (fx_pack mo no_ x1 x6 x8).2) else ((fx_pack mo no_ x1 (((x6 : Int64).toUInt64 >>> ((1 : Int32).toInt64.toUInt64 &&& Int64.toUInt64 63)).toInt64) (x8 + 1)).1, (fx_pack mo no_ x1 (((x6 : Int64).toUInt64 >>> ((1 : Int32).toInt64.toUInt64 &&& Int64.toUInt64 63)).toInt64) (x8 + 1)).2))
def fx_round_b145 (mo : Int32) (x1 : Int32) (x6 : Int64) (x8 : Int32) (x9 : Int32) (x10 : Int32) (no_ : Int32) : Int32 × Int32 :=
  (if (fx_upward mo x1 x6 x9 x10) = 0 then fx_round_b169 mo x1 x6 x8 no_ else fx_round_b169 mo x1 (x6 + 1) x8 no_)
def fx_round_b135 (mo : Int32) (x1 : Int32) (x6 : Int64) (x8 : Int32) (x9 : Int32) (x10 : Int32) (no_ : Int32) : Int32 × Int32 :=
  fx_round_b145 mo x1 x6 x8 x9 x10 (no_ ||| 1)
def fx_round_b125 (mo : Int32) (x1 : Int32) (x6 : Int64) (x8 : Int32) (x9 : Int32) (x10 : Int32) (no_ : Int32) : Int32 × Int32 :=
  (if x9 = 0 then (if x10 = 0 then fx_round_b145 mo x1 x6 x8 x9 x10 no_ else fx_round_b135 mo x1 x6 x8 x9 x10 no_) else fx_round_b135 mo x1 x6 x8 x9 x10 no_)
def fx_round_b89 : Nat → Int32 → Int32 → Int64 → Int32 → Int32 → Int32 → Int32 → Int32 → Int32 × Int32
  | 0, _, _, _, _, _, _, _, _ => (0, 0)
  | n + 1, mo, x1, x6, x8, x9, x10, x11, no_ =>
  (if (64 : Int32) ≤ x11 then fx_round_b125 mo x1 x6 x8 x9 x10 no_ else (if (8 : Int64) ≤ x6 then fx_round_b125 mo x1 x6 x8 x9 x10 no_ else (if x8 ≤ 0 then fx_round_b125 mo x1 x6 x8 x9 x10 no_ else fx_round_b89 n mo x1 (x6 <<< ((1 : Int32).toInt64 &&& 63)) (x8 + (-1)) x9 x10 (x11 + 1) no_)))
def fx_round_b86 (mo : Int32) (x1 : Int32) (x6 : Int64) (x8 : Int32) (x9 : Int32) (x10 : Int32) (no_ : Int32) : Int32 × Int32 :=
  fx_round_b89 65 mo x1 x6 x8 x9 x10 0 no_
def fx_round_b17 : Nat → Int32 → Int32 → Int64 → Int32 → Int32 → Int32 → Int32 → Int32 → Int32 × Int32
  | 0, _, _, _, _, _, _, _, _ => (0, 0)
  | n + 1, mo, x1, x6, x8, x9, x10, x11, no_ =>
  (if (64 : Int32) ≤ x11 then fx_round_b86 mo x1 x6 x8 x9 x10 no_ else (if (15 : Int64) < x6 then (if x10 = 0 then (if x9 = 0 then (if (x6 &&& 1) = 1 then fx_round_b17 n mo x1 (((x6 : Int64).toUInt64 >>> ((1 : Int32).toInt64.toUInt64 &&& Int64.toUInt64 63)).toInt64) (x8 + 1) 1 0 (x11 + 1) no_ else fx_round_b17 n mo x1 (((x6 : Int64).toUInt64 >>> ((1 : Int32).toInt64.toUInt64 &&& Int64.toUInt64 63)).toInt64) (x8 + 1) 0 0 (x11 + 1) no_) else (if (x6 &&& 1) = 1 then fx_round_b17 n mo x1 (((x6 : Int64).toUInt64 >>> ((1 : Int32).toInt64.toUInt64 &&& Int64.toUInt64 63)).toInt64) (x8 + 1) 1 1 (x11 + 1) no_ else fx_round_b17 n mo x1 (((x6 : Int64).toUInt64 >>> ((1 : Int32).toInt64.toUInt64 &&& Int64.toUInt64 63)).toInt64) (x8 + 1) 0 1 (x11 + 1) no_)) else (if (x6 &&& 1) = 1 then fx_round_b17 n mo x1 (((x6 : Int64).toUInt64 >>> ((1 : Int32).toInt64.toUInt64 &&& Int64.toUInt64 63)).toInt64) (x8 + 1) 1 1 (x11 + 1) no_ else fx_round_b17 n mo x1 (((x6 : Int64).toUInt64 >>> ((1 : Int32).toInt64.toUInt64 &&& Int64.toUInt64 63)).toInt64) (x8 + 1) 0 1 (x11 + 1) no_)) else (if (0 : Int32) ≤ x8 then fx_round_b86 mo x1 x6 x8 x9 x10 no_ else (if x10 = 0 then (if x9 = 0 then (if (x6 &&& 1) = 1 then fx_round_b17 n mo x1 (((x6 : Int64).toUInt64 >>> ((1 : Int32).toInt64.toUInt64 &&& Int64.toUInt64 63)).toInt64) (x8 + 1) 1 0 (x11 + 1) no_ else fx_round_b17 n mo x1 (((x6 : Int64).toUInt64 >>> ((1 : Int32).toInt64.toUInt64 &&& Int64.toUInt64 63)).toInt64) (x8 + 1) 0 0 (x11 + 1) no_) else (if (x6 &&& 1) = 1 then fx_round_b17 n mo x1 (((x6 : Int64).toUInt64 >>> ((1 : Int32).toInt64.toUInt64 &&& Int64.toUInt64 63)).toInt64) (x8 + 1) 1 1 (x11 + 1) no_ else fx_round_b17 n mo x1 (((x6 : Int64).toUInt64 >>> ((1 : Int32).toInt64.toUInt64 &&& Int64.toUInt64 63)).toInt64) (x8 + 1) 0 1 (x11 + 1) no_)) else (if (x6 &&& 1) = 1 then fx_round_b17 n mo x1 (((x6 : Int64).toUInt64 >>> ((1 : Int32).toInt64.toUInt64 &&& Int64.toUInt64 63)).toInt64) (x8 + 1) 1 1 (x11 + 1) no_ else fx_round_b17 n mo x1 (((x6 : Int64).toUInt64 >>> ((1 : Int32).toInt64.toUInt64 &&& Int64.toUInt64 63)).toInt64) (x8 + 1) 0 1 (x11 + 1) no_)))))
def fx_round (mo : Int32) (no : Int32) (x1 : Int32) (x2 : Int64) (x4 : Int32) (x5 : Int32) : Int32 × Int32 :=
  fx_round_b17 65 mo x1 x2 x4 0 x5 0 no
set_option maxHeartbeats 8000000 in
set_option maxRecDepth 100000 in
theorem cx_round (l : Launch) (D : va_G) (h : Nat) (mo : Int32) (no : Int32) (st : Int32) (sg : Int32) (fr : Int64) (ex : Int32) (x1 : Int32) (x2 : Int64) (x4 : Int32) (x5 : Int32)  : g_Met l yX0_round cX0_round 12 (some .int) (rmK 1) (wX h) [] D (mo, no, st, sg, fr, ex) [.ref h, .int x1, .long x2, .int x4, .int x5] (px_S (fx_round mo no x1 x2 x4 x5) mo st) := by
  refine g_enter (by decide) (Nat.le_of_ble_eq_true rfl) (fun p e s m args below meth c A ls F hX hl => ?_)
  have hx := F.1
  have hb := F.2.1
  generalize hH0 : s.heap = H at hX ⊢
  generalize ([] : List Loc) = locs at hX ⊢
  have hl : lv_has ls 12 [(0, .ref h), (1, .int x1), (2, .long x2), (4, .int x4), (5, .int x5)] := hl
  clear hH0
  have K_169 : ∀ (x6 : Int64) (x8 : Int32) (x9 : Int32) (x10 : Int32) (x11 : Int32) (no_ : Int32) (sg_ : Int32) (fr_ : Int64) (ex_ : Int32) (H : Heap) (locs : List Loc) (ls : Array Slot), fx_round mo no x1 x2 x4 x5 = fx_round_b169 mo x1 x6 x8 no_ → g_At (wX h) D A s (mo, no_, st, sg_, fr_, ex_) H locs → lv_has ls 12 [(0, .ref h), (1, .int x1), (2, .long x2), (4, .int x4), (5, .int x5), (6, .long x6), (8, .int x8), (9, .int x9), (10, .int x10), (11, .int x11)] → W p l e (rmK 1) s m args below meth c H locs 0 0 (MQ below (va_Qi (px_S (fx_round mo no x1 x2 x4 x5) mo st) (g_B (wX h) [] D A) A) args s 0 0 A) (F0 m 169 ls []) := by
    intro x6 x8 x9 x10 x11 no_ sg_ fr_ ex_ H locs ls  hF hX hl
    have hF := hF.trans (fx_round_b169.eq_1 mo x1 x6 x8 no_)
    refine lv_lload hx hb dX0_round_169 (lv_at hl 5 rfl) ?_
    refine lv_ldc2 hx hb F.2.2.2.1 (F.2.2.2.2.1 _ q111) dX0_round_171 ?_
    refine ll_le (tgt := 187) hx hb dX0_round_174 dX0_round_175 (by decide) (fun c_174 => ?_) (fun c_174 => ?_)
    · have hF := hF.trans (if_pos c_174)
      refine lv_aload_n hx hb dX0_round_187 rfl (lv_at hl 0 rfl) ?_
      refine lv_iload_n hx hb dX0_round_188 rfl (lv_at hl 1 rfl) ?_
      refine lv_lload hx hb dX0_round_189 (lv_at hl 5 rfl) ?_
      refine lv_iload hx hb dX0_round_191 (lv_at hl 6 rfl) ?_
      refine x_call (rest := []) F hX (cx_pack l D h mo no_ st sg_ fr_ ex_ x1 x6 x8) cq_x_pack rfl ⟨rfl, rfl⟩ (by decide) rfl hl.1 rfl (Nat.le_of_ble_eq_true rfl) dX0_round_193 (fun r u' H locs hq hX => ?_)
      obtain ⟨sg_193, fr_193, ex_193, rfl, rfl⟩ := hq
      exact g_iret F hX (lx_S hF) dX0_round_196
    · have hF := hF.trans (if_neg c_174)
      refine lv_lload hx hb dX0_round_178 (lv_at hl 5 rfl) ?_
      refine lv_iconst (v := 1) hx hb dX0_round_180 (by decide) ?_
      refine lv_lushr (v := (((x6 : Int64).toUInt64 >>> ((1 : Int32).toInt64.toUInt64 &&& Int64.toUInt64 63)).toInt64)) hx hb dX0_round_181 rfl ?_
      refine lv_lstore (lv' := [(6, .long (((x6 : Int64).toUInt64 >>> ((1 : Int32).toInt64.toUInt64 &&& Int64.toUInt64 63)).toInt64)), (0, .ref h), (1, .int x1), (2, .long x2), (4, .int x4), (5, .int x5), (8, .int x8), (9, .int x9), (10, .int x10), (11, .int x11)]) hx hb dX0_round_182 hl (by decide) rfl (fun ls hl => ?_)
      refine lv_iinc (v := (x8 + 1)) (lv' := [(8, .int (x8 + 1)), (6, .long (((x6 : Int64).toUInt64 >>> ((1 : Int32).toInt64.toUInt64 &&& Int64.toUInt64 63)).toInt64)), (0, .ref h), (1, .int x1), (2, .long x2), (4, .int x4), (5, .int x5), (9, .int x9), (10, .int x10), (11, .int x11)]) hx hb dX0_round_184 hl (k := 6) rfl rfl (by decide) rfl (fun ls hl => ?_)
      refine lv_aload_n hx hb dX0_round_187 rfl (lv_at hl 2 rfl) ?_
      refine lv_iload_n hx hb dX0_round_188 rfl (lv_at hl 3 rfl) ?_
      refine lv_lload hx hb dX0_round_189 (lv_at hl 1 rfl) ?_
      refine lv_iload hx hb dX0_round_191 (lv_at hl 0 rfl) ?_
      refine x_call (rest := []) F hX (cx_pack l D h mo no_ st sg_ fr_ ex_ x1 (((x6 : Int64).toUInt64 >>> ((1 : Int32).toInt64.toUInt64 &&& Int64.toUInt64 63)).toInt64) (x8 + 1)) cq_x_pack rfl ⟨rfl, rfl⟩ (by decide) rfl hl.1 rfl (Nat.le_of_ble_eq_true rfl) dX0_round_193 (fun r u' H locs hq hX => ?_)
      obtain ⟨sg_193, fr_193, ex_193, rfl, rfl⟩ := hq
      exact g_iret F hX (lx_S hF) dX0_round_196
  have K_145 : ∀ (x6 : Int64) (x8 : Int32) (x9 : Int32) (x10 : Int32) (x11 : Int32) (no_ : Int32) (sg_ : Int32) (fr_ : Int64) (ex_ : Int32) (H : Heap) (locs : List Loc) (ls : Array Slot), fx_round mo no x1 x2 x4 x5 = fx_round_b145 mo x1 x6 x8 x9 x10 no_ → g_At (wX h) D A s (mo, no_, st, sg_, fr_, ex_) H locs → lv_has ls 12 [(0, .ref h), (1, .int x1), (2, .long x2), (4, .int x4), (5, .int x5), (6, .long x6), (8, .int x8), (9, .int x9), (10, .int x10), (11, .int x11)] → W p l e (rmK 1) s m args below meth c H locs 0 0 (MQ below (va_Qi (px_S (fx_round mo no x1 x2 x4 x5) mo st) (g_B (wX h) [] D A) A) args s 0 0 A) (F0 m 145 ls []) := by
    intro x6 x8 x9 x10 x11 no_ sg_ fr_ ex_ H locs ls  hF hX hl
    have hF := hF.trans (fx_round_b145.eq_1 mo x1 x6 x8 x9 x10 no_)
    refine lv_aload_n hx hb dX0_round_145 rfl (lv_at hl 0 rfl) ?_
    refine lv_iload_n hx hb dX0_round_146 rfl (lv_at hl 1 rfl) ?_
    refine lv_lload hx hb dX0_round_147 (lv_at hl 5 rfl) ?_
    refine lv_iload hx hb dX0_round_149 (lv_at hl 7 rfl) ?_
    refine lv_iload hx hb dX0_round_151 (lv_at hl 8 rfl) ?_
    refine x_callP (rest := []) F hX (cx_upward l D h mo no_ st sg_ fr_ ex_ x1 x6 x9 x10) cq_x_upward rfl ⟨rfl, rfl⟩ (by decide) rfl hl.1 rfl (Nat.le_of_ble_eq_true rfl) dX0_round_153 (fun H locs hX => ?_)
    refine lv_istore (lv' := [(11, .int (fx_upward mo x1 x6 x9 x10)), (0, .ref h), (1, .int x1), (2, .long x2), (4, .int x4), (5, .int x5), (6, .long x6), (8, .int x8), (9, .int x9), (10, .int x10)]) hx hb dX0_round_156 hl (by decide) rfl (fun ls hl => ?_)
    refine lv_iload hx hb dX0_round_158 (lv_at hl 0 rfl) ?_
    refine lv_if_eq (tgt := 169) hx hb dX0_round_160 (by decide) (fun c_160 => ?_) (fun c_160 => ?_)
    · have hF := hF.trans (if_pos c_160)
      exact K_169 x6 x8 x9 x10 (fx_upward mo x1 x6 x9 x10) no_ sg_ fr_ ex_ _ _ _  hF hX (lv_sub hl [1, 2, 3, 4, 5, 6, 7, 8, 9, 0] rfl)
    · have hF := hF.trans (if_neg c_160)
      refine lv_lload hx hb dX0_round_163 (lv_at hl 6 rfl) ?_
      refine lv_lconst (v := 1) hx hb dX0_round_165 (by decide) ?_
      refine lv_ladd hx hb dX0_round_166 ?_
      refine lv_lstore (lv' := [(6, .long (x6 + 1)), (11, .int (fx_upward mo x1 x6 x9 x10)), (0, .ref h), (1, .int x1), (2, .long x2), (4, .int x4), (5, .int x5), (8, .int x8), (9, .int x9), (10, .int x10)]) hx hb dX0_round_167 hl (by decide) rfl (fun ls hl => ?_)
      exact K_169 (x6 + 1) x8 x9 x10 (fx_upward mo x1 x6 x9 x10) no_ sg_ fr_ ex_ _ _ _  hF hX (lv_sub hl [2, 3, 4, 5, 6, 0, 7, 8, 9, 1] rfl)
  have K_135 : ∀ (x6 : Int64) (x8 : Int32) (x9 : Int32) (x10 : Int32) (x11 : Int32) (no_ : Int32) (sg_ : Int32) (fr_ : Int64) (ex_ : Int32) (H : Heap) (locs : List Loc) (ls : Array Slot), fx_round mo no x1 x2 x4 x5 = fx_round_b135 mo x1 x6 x8 x9 x10 no_ → g_At (wX h) D A s (mo, no_, st, sg_, fr_, ex_) H locs → lv_has ls 12 [(0, .ref h), (1, .int x1), (2, .long x2), (4, .int x4), (5, .int x5), (6, .long x6), (8, .int x8), (9, .int x9), (10, .int x10), (11, .int x11)] → W p l e (rmK 1) s m args below meth c H locs 0 0 (MQ below (va_Qi (px_S (fx_round mo no x1 x2 x4 x5) mo st) (g_B (wX h) [] D A) A) args s 0 0 A) (F0 m 135 ls []) := by
    intro x6 x8 x9 x10 x11 no_ sg_ fr_ ex_ H locs ls  hF hX hl
    have hF := hF.trans (fx_round_b135.eq_1 mo x1 x6 x8 x9 x10 no_)
    refine lv_aload_n hx hb dX0_round_135 rfl (lv_at hl 0 rfl) ?_
    refine lv_aload_n hx hb dX0_round_136 rfl (lv_at hl 0 rfl) ?_
    refine x_get F hX 1 (by decide) q41 rfl rfl dX0_round_137 ?_
    refine lv_iconst (v := 1) hx hb dX0_round_140 (by decide) ?_
    refine lv_ior hx hb dX0_round_141 ?_
    refine x_put (u' := (mo, (no_ ||| 1), st, sg_, fr_, ex_)) F hX 1 (by decide) q41 rfl rfl (tyX0_ok 1 (by decide)) rfl rfl rfl dX0_round_142 (fun H locs hX => ?_)
    exact K_145 x6 x8 x9 x10 x11 (no_ ||| 1) sg_ fr_ ex_ _ _ _  hF hX (lv_sub hl [0, 1, 2, 3, 4, 5, 6, 7, 8, 9] rfl)
  have K_125 : ∀ (x6 : Int64) (x8 : Int32) (x9 : Int32) (x10 : Int32) (x11 : Int32) (no_ : Int32) (sg_ : Int32) (fr_ : Int64) (ex_ : Int32) (H : Heap) (locs : List Loc) (ls : Array Slot), fx_round mo no x1 x2 x4 x5 = fx_round_b125 mo x1 x6 x8 x9 x10 no_ → g_At (wX h) D A s (mo, no_, st, sg_, fr_, ex_) H locs → lv_has ls 12 [(0, .ref h), (1, .int x1), (2, .long x2), (4, .int x4), (5, .int x5), (6, .long x6), (8, .int x8), (9, .int x9), (10, .int x10), (11, .int x11)] → W p l e (rmK 1) s m args below meth c H locs 0 0 (MQ below (va_Qi (px_S (fx_round mo no x1 x2 x4 x5) mo st) (g_B (wX h) [] D A) A) args s 0 0 A) (F0 m 125 ls []) := by
    intro x6 x8 x9 x10 x11 no_ sg_ fr_ ex_ H locs ls  hF hX hl
    have hF := hF.trans (fx_round_b125.eq_1 mo x1 x6 x8 x9 x10 no_)
    refine lv_iload hx hb dX0_round_125 (lv_at hl 7 rfl) ?_
    refine lv_if_ne (tgt := 135) hx hb dX0_round_127 (by decide) (fun c_127 => ?_) (fun c_127 => ?_)
    · have hF := hF.trans (if_neg c_127)
      exact K_135 x6 x8 x9 x10 x11 no_ sg_ fr_ ex_ _ _ _  hF hX (lv_sub hl [0, 1, 2, 3, 4, 5, 6, 7, 8, 9] rfl)
    · have hF := hF.trans (if_pos c_127)
      refine lv_iload hx hb dX0_round_130 (lv_at hl 8 rfl) ?_
      refine lv_if_eq (tgt := 145) hx hb dX0_round_132 (by decide) (fun c_132 => ?_) (fun c_132 => ?_)
      · have hF := hF.trans (if_pos c_132)
        exact K_145 x6 x8 x9 x10 x11 no_ sg_ fr_ ex_ _ _ _  hF hX (lv_sub hl [0, 1, 2, 3, 4, 5, 6, 7, 8, 9] rfl)
      · have hF := hF.trans (if_neg c_132)
        exact K_135 x6 x8 x9 x10 x11 no_ sg_ fr_ ex_ _ _ _  hF hX (lv_sub hl [0, 1, 2, 3, 4, 5, 6, 7, 8, 9] rfl)
  have K_89 : ∀ (n : Nat) (x6 : Int64) (x8 : Int32) (x9 : Int32) (x10 : Int32) (x11 : Int32) (no_ : Int32) (sg_ : Int32) (fr_ : Int64) (ex_ : Int32) (H : Heap) (locs : List Loc) (ls : Array Slot), (x11 = nI (65 - n) ∧ 1 ≤ n ∧ n ≤ 65) → fx_round mo no x1 x2 x4 x5 = fx_round_b89 n mo x1 x6 x8 x9 x10 x11 no_ → g_At (wX h) D A s (mo, no_, st, sg_, fr_, ex_) H locs → lv_has ls 12 [(0, .ref h), (1, .int x1), (2, .long x2), (4, .int x4), (5, .int x5), (6, .long x6), (8, .int x8), (9, .int x9), (10, .int x10), (11, .int x11)] → W p l e (rmK 1) s m args below meth c H locs 0 0 (MQ below (va_Qi (px_S (fx_round mo no x1 x2 x4 x5) mo st) (g_B (wX h) [] D A) A) args s 0 0 A) (F0 m 89 ls []) := by
    intro n
    induction n with
    | zero => intro x6 x8 x9 x10 x11 no_ sg_ fr_ ex_ H locs ls hi; exact absurd hi (fun h => absurd h.2.1 (by decide))
    | succ n ih =>
      intro x6 x8 x9 x10 x11 no_ sg_ fr_ ex_ H locs ls hi  hF hX hl
      have hF := hF.trans (fx_round_b89.eq_2 _ _ _ _ _ _ _ _ _)
      refine lv_iload hx hb dX0_round_89 (lv_at hl 9 rfl) ?_
      refine lv_bipush (v := 64) hx hb dX0_round_91 (by decide) ?_
      refine lv_icmp_ge (tgt := 125) hx hb dX0_round_93 (by decide) (fun c_93 => ?_) (fun c_93 => ?_)
      · have hF := hF.trans (if_pos c_93)
        exact K_125 x6 x8 x9 x10 x11 no_ sg_ fr_ ex_ _ _ _  hF hX (lv_sub hl [0, 1, 2, 3, 4, 5, 6, 7, 8, 9] rfl)
      · have hF := hF.trans (if_neg c_93)
        refine lv_lload hx hb dX0_round_96 (lv_at hl 5 rfl) ?_
        refine lv_ldc2 hx hb F.2.2.2.1 (F.2.2.2.2.1 _ q112) dX0_round_98 ?_
        refine ll_ge (tgt := 125) hx hb dX0_round_101 dX0_round_102 (by decide) (fun c_101 => ?_) (fun c_101 => ?_)
        · have hF := hF.trans (if_pos c_101)
          exact K_125 x6 x8 x9 x10 x11 no_ sg_ fr_ ex_ _ _ _  hF hX (lv_sub hl [0, 1, 2, 3, 4, 5, 6, 7, 8, 9] rfl)
        · have hF := hF.trans (if_neg c_101)
          refine lv_iload hx hb dX0_round_105 (lv_at hl 6 rfl) ?_
          refine lv_if_le (tgt := 125) hx hb dX0_round_107 (by decide) (fun c_107 => ?_) (fun c_107 => ?_)
          · have hF := hF.trans (if_pos c_107)
            exact K_125 x6 x8 x9 x10 x11 no_ sg_ fr_ ex_ _ _ _  hF hX (lv_sub hl [0, 1, 2, 3, 4, 5, 6, 7, 8, 9] rfl)
          · have hF := hF.trans (if_neg c_107)
            refine lv_lload hx hb dX0_round_110 (lv_at hl 5 rfl) ?_
            refine lv_iconst (v := 1) hx hb dX0_round_112 (by decide) ?_
            refine lv_lshl (v := (x6 <<< ((1 : Int32).toInt64 &&& 63))) hx hb dX0_round_113 rfl ?_
            refine lv_lstore (lv' := [(6, .long (x6 <<< ((1 : Int32).toInt64 &&& 63))), (0, .ref h), (1, .int x1), (2, .long x2), (4, .int x4), (5, .int x5), (8, .int x8), (9, .int x9), (10, .int x10), (11, .int x11)]) hx hb dX0_round_114 hl (by decide) rfl (fun ls hl => ?_)
            refine lv_iinc (v := (x8 + (-1))) (lv' := [(8, .int (x8 + (-1))), (6, .long (x6 <<< ((1 : Int32).toInt64 &&& 63))), (0, .ref h), (1, .int x1), (2, .long x2), (4, .int x4), (5, .int x5), (9, .int x9), (10, .int x10), (11, .int x11)]) hx hb dX0_round_116 hl (k := 6) rfl rfl (by decide) rfl (fun ls hl => ?_)
            refine lv_iinc (v := (x11 + 1)) (lv' := [(11, .int (x11 + 1)), (8, .int (x8 + (-1))), (6, .long (x6 <<< ((1 : Int32).toInt64 &&& 63))), (0, .ref h), (1, .int x1), (2, .long x2), (4, .int x4), (5, .int x5), (9, .int x9), (10, .int x10)]) hx hb dX0_round_119 hl (k := 9) rfl rfl (by decide) rfl (fun ls hl => ?_)
            refine lv_goto (tgt := 89) hx hb dX0_round_122 (by decide) ?_
            exact ih (x6 <<< ((1 : Int32).toInt64 &&& 63)) (x8 + (-1)) x9 x10 (x11 + 1) no_ sg_ fr_ ex_ _ _ _ (lp_up hi (by decide) (by decide) c_93) hF hX (lv_sub hl [3, 4, 5, 6, 7, 2, 1, 8, 9, 0] rfl)
  have K_86 : ∀ (x6 : Int64) (x8 : Int32) (x9 : Int32) (x10 : Int32) (x11 : Int32) (no_ : Int32) (sg_ : Int32) (fr_ : Int64) (ex_ : Int32) (H : Heap) (locs : List Loc) (ls : Array Slot), fx_round mo no x1 x2 x4 x5 = fx_round_b86 mo x1 x6 x8 x9 x10 no_ → g_At (wX h) D A s (mo, no_, st, sg_, fr_, ex_) H locs → lv_has ls 12 [(0, .ref h), (1, .int x1), (2, .long x2), (4, .int x4), (5, .int x5), (6, .long x6), (8, .int x8), (9, .int x9), (10, .int x10), (11, .int x11)] → W p l e (rmK 1) s m args below meth c H locs 0 0 (MQ below (va_Qi (px_S (fx_round mo no x1 x2 x4 x5) mo st) (g_B (wX h) [] D A) A) args s 0 0 A) (F0 m 86 ls []) := by
    intro x6 x8 x9 x10 x11 no_ sg_ fr_ ex_ H locs ls  hF hX hl
    have hF := hF.trans (fx_round_b86.eq_1 mo x1 x6 x8 x9 x10 no_)
    refine lv_iconst (v := 0) hx hb dX0_round_86 (by decide) ?_
    refine lv_istore (lv' := [(11, .int 0), (0, .ref h), (1, .int x1), (2, .long x2), (4, .int x4), (5, .int x5), (6, .long x6), (8, .int x8), (9, .int x9), (10, .int x10)]) hx hb dX0_round_87 hl (by decide) rfl (fun ls hl => ?_)
    exact K_89 65 x6 x8 x9 x10 0 no_ sg_ fr_ ex_ _ _ _ ⟨by decide, by decide, by decide⟩ hF hX (lv_sub hl [1, 2, 3, 4, 5, 6, 7, 8, 9, 0] rfl)
  have K_17 : ∀ (n : Nat) (x6 : Int64) (x8 : Int32) (x9 : Int32) (x10 : Int32) (x11 : Int32) (no_ : Int32) (sg_ : Int32) (fr_ : Int64) (ex_ : Int32) (H : Heap) (locs : List Loc) (ls : Array Slot), (x11 = nI (65 - n) ∧ 1 ≤ n ∧ n ≤ 65) → fx_round mo no x1 x2 x4 x5 = fx_round_b17 n mo x1 x6 x8 x9 x10 x11 no_ → g_At (wX h) D A s (mo, no_, st, sg_, fr_, ex_) H locs → lv_has ls 12 [(0, .ref h), (1, .int x1), (2, .long x2), (4, .int x4), (5, .int x5), (6, .long x6), (8, .int x8), (9, .int x9), (10, .int x10), (11, .int x11)] → W p l e (rmK 1) s m args below meth c H locs 0 0 (MQ below (va_Qi (px_S (fx_round mo no x1 x2 x4 x5) mo st) (g_B (wX h) [] D A) A) args s 0 0 A) (F0 m 17 ls []) := by
    intro n
    induction n with
    | zero => intro x6 x8 x9 x10 x11 no_ sg_ fr_ ex_ H locs ls hi; exact absurd hi (fun h => absurd h.2.1 (by decide))
    | succ n ih =>
      intro x6 x8 x9 x10 x11 no_ sg_ fr_ ex_ H locs ls hi  hF hX hl
      have hF := hF.trans (fx_round_b17.eq_2 _ _ _ _ _ _ _ _ _)
      refine lv_iload hx hb dX0_round_17 (lv_at hl 9 rfl) ?_
      refine lv_bipush (v := 64) hx hb dX0_round_19 (by decide) ?_
      refine lv_icmp_ge (tgt := 86) hx hb dX0_round_21 (by decide) (fun c_21 => ?_) (fun c_21 => ?_)
      · have hF := hF.trans (if_pos c_21)
        exact K_86 x6 x8 x9 x10 x11 no_ sg_ fr_ ex_ _ _ _  hF hX (lv_sub hl [0, 1, 2, 3, 4, 5, 6, 7, 8, 9] rfl)
      · have hF := hF.trans (if_neg c_21)
        refine lv_lload hx hb dX0_round_24 (lv_at hl 5 rfl) ?_
        refine lv_ldc2 hx hb F.2.2.2.1 (F.2.2.2.2.1 _ q111) dX0_round_26 ?_
        refine ll_gt (tgt := 38) hx hb dX0_round_29 dX0_round_30 (by decide) (fun c_29 => ?_) (fun c_29 => ?_)
        · have hF := hF.trans (if_pos c_29)
          refine lv_iload hx hb dX0_round_38 (lv_at hl 8 rfl) ?_
          refine lv_if_ne (tgt := 48) hx hb dX0_round_40 (by decide) (fun c_40 => ?_) (fun c_40 => ?_)
          · have hF := hF.trans (if_neg c_40)
            refine lv_iconst (v := 1) hx hb dX0_round_48 (by decide) ?_
            refine lv_goto (tgt := 53) hx hb dX0_round_49 (by decide) ?_
            refine lv_istore (lv' := [(10, .int 1), (0, .ref h), (1, .int x1), (2, .long x2), (4, .int x4), (5, .int x5), (6, .long x6), (8, .int x8), (9, .int x9), (11, .int x11)]) hx hb dX0_round_53 hl (by decide) rfl (fun ls hl => ?_)
            refine lv_lload hx hb dX0_round_55 (lv_at hl 6 rfl) ?_
            refine lv_lconst (v := 1) hx hb dX0_round_57 (by decide) ?_
            refine lv_land hx hb dX0_round_58 ?_
            refine lv_lconst (v := 1) hx hb dX0_round_59 (by decide) ?_
            refine ll_ne (tgt := 68) hx hb dX0_round_60 dX0_round_61 (by decide) (fun c_60 => ?_) (fun c_60 => ?_)
            · have hF := hF.trans (if_neg c_60)
              refine lv_iconst (v := 0) hx hb dX0_round_68 (by decide) ?_
              refine lv_istore (lv' := [(9, .int 0), (10, .int 1), (0, .ref h), (1, .int x1), (2, .long x2), (4, .int x4), (5, .int x5), (6, .long x6), (8, .int x8), (11, .int x11)]) hx hb dX0_round_69 hl (by decide) rfl (fun ls hl => ?_)
              refine lv_lload hx hb dX0_round_71 (lv_at hl 7 rfl) ?_
              refine lv_iconst (v := 1) hx hb dX0_round_73 (by decide) ?_
              refine lv_lushr (v := (((x6 : Int64).toUInt64 >>> ((1 : Int32).toInt64.toUInt64 &&& Int64.toUInt64 63)).toInt64)) hx hb dX0_round_74 rfl ?_
              refine lv_lstore (lv' := [(6, .long (((x6 : Int64).toUInt64 >>> ((1 : Int32).toInt64.toUInt64 &&& Int64.toUInt64 63)).toInt64)), (9, .int 0), (10, .int 1), (0, .ref h), (1, .int x1), (2, .long x2), (4, .int x4), (5, .int x5), (8, .int x8), (11, .int x11)]) hx hb dX0_round_75 hl (by decide) rfl (fun ls hl => ?_)
              refine lv_iinc (v := (x8 + 1)) (lv' := [(8, .int (x8 + 1)), (6, .long (((x6 : Int64).toUInt64 >>> ((1 : Int32).toInt64.toUInt64 &&& Int64.toUInt64 63)).toInt64)), (9, .int 0), (10, .int 1), (0, .ref h), (1, .int x1), (2, .long x2), (4, .int x4), (5, .int x5), (11, .int x11)]) hx hb dX0_round_77 hl (k := 8) rfl rfl (by decide) rfl (fun ls hl => ?_)
              refine lv_iinc (v := (x11 + 1)) (lv' := [(11, .int (x11 + 1)), (8, .int (x8 + 1)), (6, .long (((x6 : Int64).toUInt64 >>> ((1 : Int32).toInt64.toUInt64 &&& Int64.toUInt64 63)).toInt64)), (9, .int 0), (10, .int 1), (0, .ref h), (1, .int x1), (2, .long x2), (4, .int x4), (5, .int x5)]) hx hb dX0_round_80 hl (k := 9) rfl rfl (by decide) rfl (fun ls hl => ?_)
              refine lv_goto (tgt := 17) hx hb dX0_round_83 (by decide) ?_
              exact ih (((x6 : Int64).toUInt64 >>> ((1 : Int32).toInt64.toUInt64 &&& Int64.toUInt64 63)).toInt64) (x8 + 1) 0 1 (x11 + 1) no_ sg_ fr_ ex_ _ _ _ (lp_up hi (by decide) (by decide) c_21) hF hX (lv_sub hl [5, 6, 7, 8, 9, 2, 1, 3, 4, 0] rfl)
            · have hF := hF.trans (if_pos c_60)
              refine lv_iconst (v := 1) hx hb dX0_round_64 (by decide) ?_
              refine lv_goto (tgt := 69) hx hb dX0_round_65 (by decide) ?_
              refine lv_istore (lv' := [(9, .int 1), (10, .int 1), (0, .ref h), (1, .int x1), (2, .long x2), (4, .int x4), (5, .int x5), (6, .long x6), (8, .int x8), (11, .int x11)]) hx hb dX0_round_69 hl (by decide) rfl (fun ls hl => ?_)
              refine lv_lload hx hb dX0_round_71 (lv_at hl 7 rfl) ?_
              refine lv_iconst (v := 1) hx hb dX0_round_73 (by decide) ?_
              refine lv_lushr (v := (((x6 : Int64).toUInt64 >>> ((1 : Int32).toInt64.toUInt64 &&& Int64.toUInt64 63)).toInt64)) hx hb dX0_round_74 rfl ?_
              refine lv_lstore (lv' := [(6, .long (((x6 : Int64).toUInt64 >>> ((1 : Int32).toInt64.toUInt64 &&& Int64.toUInt64 63)).toInt64)), (9, .int 1), (10, .int 1), (0, .ref h), (1, .int x1), (2, .long x2), (4, .int x4), (5, .int x5), (8, .int x8), (11, .int x11)]) hx hb dX0_round_75 hl (by decide) rfl (fun ls hl => ?_)
              refine lv_iinc (v := (x8 + 1)) (lv' := [(8, .int (x8 + 1)), (6, .long (((x6 : Int64).toUInt64 >>> ((1 : Int32).toInt64.toUInt64 &&& Int64.toUInt64 63)).toInt64)), (9, .int 1), (10, .int 1), (0, .ref h), (1, .int x1), (2, .long x2), (4, .int x4), (5, .int x5), (11, .int x11)]) hx hb dX0_round_77 hl (k := 8) rfl rfl (by decide) rfl (fun ls hl => ?_)
              refine lv_iinc (v := (x11 + 1)) (lv' := [(11, .int (x11 + 1)), (8, .int (x8 + 1)), (6, .long (((x6 : Int64).toUInt64 >>> ((1 : Int32).toInt64.toUInt64 &&& Int64.toUInt64 63)).toInt64)), (9, .int 1), (10, .int 1), (0, .ref h), (1, .int x1), (2, .long x2), (4, .int x4), (5, .int x5)]) hx hb dX0_round_80 hl (k := 9) rfl rfl (by decide) rfl (fun ls hl => ?_)
              refine lv_goto (tgt := 17) hx hb dX0_round_83 (by decide) ?_
              exact ih (((x6 : Int64).toUInt64 >>> ((1 : Int32).toInt64.toUInt64 &&& Int64.toUInt64 63)).toInt64) (x8 + 1) 1 1 (x11 + 1) no_ sg_ fr_ ex_ _ _ _ (lp_up hi (by decide) (by decide) c_21) hF hX (lv_sub hl [5, 6, 7, 8, 9, 2, 1, 3, 4, 0] rfl)
          · have hF := hF.trans (if_pos c_40)
            refine lv_iload hx hb dX0_round_43 (lv_at hl 7 rfl) ?_
            refine lv_if_eq (tgt := 52) hx hb dX0_round_45 (by decide) (fun c_45 => ?_) (fun c_45 => ?_)
            · have hF := hF.trans (if_pos c_45)
              refine lv_iconst (v := 0) hx hb dX0_round_52 (by decide) ?_
              refine lv_istore (lv' := [(10, .int 0), (0, .ref h), (1, .int x1), (2, .long x2), (4, .int x4), (5, .int x5), (6, .long x6), (8, .int x8), (9, .int x9), (11, .int x11)]) hx hb dX0_round_53 hl (by decide) rfl (fun ls hl => ?_)
              refine lv_lload hx hb dX0_round_55 (lv_at hl 6 rfl) ?_
              refine lv_lconst (v := 1) hx hb dX0_round_57 (by decide) ?_
              refine lv_land hx hb dX0_round_58 ?_
              refine lv_lconst (v := 1) hx hb dX0_round_59 (by decide) ?_
              refine ll_ne (tgt := 68) hx hb dX0_round_60 dX0_round_61 (by decide) (fun c_60 => ?_) (fun c_60 => ?_)
              · have hF := hF.trans (if_neg c_60)
                refine lv_iconst (v := 0) hx hb dX0_round_68 (by decide) ?_
                refine lv_istore (lv' := [(9, .int 0), (10, .int 0), (0, .ref h), (1, .int x1), (2, .long x2), (4, .int x4), (5, .int x5), (6, .long x6), (8, .int x8), (11, .int x11)]) hx hb dX0_round_69 hl (by decide) rfl (fun ls hl => ?_)
                refine lv_lload hx hb dX0_round_71 (lv_at hl 7 rfl) ?_
                refine lv_iconst (v := 1) hx hb dX0_round_73 (by decide) ?_
                refine lv_lushr (v := (((x6 : Int64).toUInt64 >>> ((1 : Int32).toInt64.toUInt64 &&& Int64.toUInt64 63)).toInt64)) hx hb dX0_round_74 rfl ?_
                refine lv_lstore (lv' := [(6, .long (((x6 : Int64).toUInt64 >>> ((1 : Int32).toInt64.toUInt64 &&& Int64.toUInt64 63)).toInt64)), (9, .int 0), (10, .int 0), (0, .ref h), (1, .int x1), (2, .long x2), (4, .int x4), (5, .int x5), (8, .int x8), (11, .int x11)]) hx hb dX0_round_75 hl (by decide) rfl (fun ls hl => ?_)
                refine lv_iinc (v := (x8 + 1)) (lv' := [(8, .int (x8 + 1)), (6, .long (((x6 : Int64).toUInt64 >>> ((1 : Int32).toInt64.toUInt64 &&& Int64.toUInt64 63)).toInt64)), (9, .int 0), (10, .int 0), (0, .ref h), (1, .int x1), (2, .long x2), (4, .int x4), (5, .int x5), (11, .int x11)]) hx hb dX0_round_77 hl (k := 8) rfl rfl (by decide) rfl (fun ls hl => ?_)
                refine lv_iinc (v := (x11 + 1)) (lv' := [(11, .int (x11 + 1)), (8, .int (x8 + 1)), (6, .long (((x6 : Int64).toUInt64 >>> ((1 : Int32).toInt64.toUInt64 &&& Int64.toUInt64 63)).toInt64)), (9, .int 0), (10, .int 0), (0, .ref h), (1, .int x1), (2, .long x2), (4, .int x4), (5, .int x5)]) hx hb dX0_round_80 hl (k := 9) rfl rfl (by decide) rfl (fun ls hl => ?_)
                refine lv_goto (tgt := 17) hx hb dX0_round_83 (by decide) ?_
                exact ih (((x6 : Int64).toUInt64 >>> ((1 : Int32).toInt64.toUInt64 &&& Int64.toUInt64 63)).toInt64) (x8 + 1) 0 0 (x11 + 1) no_ sg_ fr_ ex_ _ _ _ (lp_up hi (by decide) (by decide) c_21) hF hX (lv_sub hl [5, 6, 7, 8, 9, 2, 1, 3, 4, 0] rfl)
              · have hF := hF.trans (if_pos c_60)
                refine lv_iconst (v := 1) hx hb dX0_round_64 (by decide) ?_
                refine lv_goto (tgt := 69) hx hb dX0_round_65 (by decide) ?_
                refine lv_istore (lv' := [(9, .int 1), (10, .int 0), (0, .ref h), (1, .int x1), (2, .long x2), (4, .int x4), (5, .int x5), (6, .long x6), (8, .int x8), (11, .int x11)]) hx hb dX0_round_69 hl (by decide) rfl (fun ls hl => ?_)
                refine lv_lload hx hb dX0_round_71 (lv_at hl 7 rfl) ?_
                refine lv_iconst (v := 1) hx hb dX0_round_73 (by decide) ?_
                refine lv_lushr (v := (((x6 : Int64).toUInt64 >>> ((1 : Int32).toInt64.toUInt64 &&& Int64.toUInt64 63)).toInt64)) hx hb dX0_round_74 rfl ?_
                refine lv_lstore (lv' := [(6, .long (((x6 : Int64).toUInt64 >>> ((1 : Int32).toInt64.toUInt64 &&& Int64.toUInt64 63)).toInt64)), (9, .int 1), (10, .int 0), (0, .ref h), (1, .int x1), (2, .long x2), (4, .int x4), (5, .int x5), (8, .int x8), (11, .int x11)]) hx hb dX0_round_75 hl (by decide) rfl (fun ls hl => ?_)
                refine lv_iinc (v := (x8 + 1)) (lv' := [(8, .int (x8 + 1)), (6, .long (((x6 : Int64).toUInt64 >>> ((1 : Int32).toInt64.toUInt64 &&& Int64.toUInt64 63)).toInt64)), (9, .int 1), (10, .int 0), (0, .ref h), (1, .int x1), (2, .long x2), (4, .int x4), (5, .int x5), (11, .int x11)]) hx hb dX0_round_77 hl (k := 8) rfl rfl (by decide) rfl (fun ls hl => ?_)
                refine lv_iinc (v := (x11 + 1)) (lv' := [(11, .int (x11 + 1)), (8, .int (x8 + 1)), (6, .long (((x6 : Int64).toUInt64 >>> ((1 : Int32).toInt64.toUInt64 &&& Int64.toUInt64 63)).toInt64)), (9, .int 1), (10, .int 0), (0, .ref h), (1, .int x1), (2, .long x2), (4, .int x4), (5, .int x5)]) hx hb dX0_round_80 hl (k := 9) rfl rfl (by decide) rfl (fun ls hl => ?_)
                refine lv_goto (tgt := 17) hx hb dX0_round_83 (by decide) ?_
                exact ih (((x6 : Int64).toUInt64 >>> ((1 : Int32).toInt64.toUInt64 &&& Int64.toUInt64 63)).toInt64) (x8 + 1) 1 0 (x11 + 1) no_ sg_ fr_ ex_ _ _ _ (lp_up hi (by decide) (by decide) c_21) hF hX (lv_sub hl [5, 6, 7, 8, 9, 2, 1, 3, 4, 0] rfl)
            · have hF := hF.trans (if_neg c_45)
              refine lv_iconst (v := 1) hx hb dX0_round_48 (by decide) ?_
              refine lv_goto (tgt := 53) hx hb dX0_round_49 (by decide) ?_
              refine lv_istore (lv' := [(10, .int 1), (0, .ref h), (1, .int x1), (2, .long x2), (4, .int x4), (5, .int x5), (6, .long x6), (8, .int x8), (9, .int x9), (11, .int x11)]) hx hb dX0_round_53 hl (by decide) rfl (fun ls hl => ?_)
              refine lv_lload hx hb dX0_round_55 (lv_at hl 6 rfl) ?_
              refine lv_lconst (v := 1) hx hb dX0_round_57 (by decide) ?_
              refine lv_land hx hb dX0_round_58 ?_
              refine lv_lconst (v := 1) hx hb dX0_round_59 (by decide) ?_
              refine ll_ne (tgt := 68) hx hb dX0_round_60 dX0_round_61 (by decide) (fun c_60 => ?_) (fun c_60 => ?_)
              · have hF := hF.trans (if_neg c_60)
                refine lv_iconst (v := 0) hx hb dX0_round_68 (by decide) ?_
                refine lv_istore (lv' := [(9, .int 0), (10, .int 1), (0, .ref h), (1, .int x1), (2, .long x2), (4, .int x4), (5, .int x5), (6, .long x6), (8, .int x8), (11, .int x11)]) hx hb dX0_round_69 hl (by decide) rfl (fun ls hl => ?_)
                refine lv_lload hx hb dX0_round_71 (lv_at hl 7 rfl) ?_
                refine lv_iconst (v := 1) hx hb dX0_round_73 (by decide) ?_
                refine lv_lushr (v := (((x6 : Int64).toUInt64 >>> ((1 : Int32).toInt64.toUInt64 &&& Int64.toUInt64 63)).toInt64)) hx hb dX0_round_74 rfl ?_
                refine lv_lstore (lv' := [(6, .long (((x6 : Int64).toUInt64 >>> ((1 : Int32).toInt64.toUInt64 &&& Int64.toUInt64 63)).toInt64)), (9, .int 0), (10, .int 1), (0, .ref h), (1, .int x1), (2, .long x2), (4, .int x4), (5, .int x5), (8, .int x8), (11, .int x11)]) hx hb dX0_round_75 hl (by decide) rfl (fun ls hl => ?_)
                refine lv_iinc (v := (x8 + 1)) (lv' := [(8, .int (x8 + 1)), (6, .long (((x6 : Int64).toUInt64 >>> ((1 : Int32).toInt64.toUInt64 &&& Int64.toUInt64 63)).toInt64)), (9, .int 0), (10, .int 1), (0, .ref h), (1, .int x1), (2, .long x2), (4, .int x4), (5, .int x5), (11, .int x11)]) hx hb dX0_round_77 hl (k := 8) rfl rfl (by decide) rfl (fun ls hl => ?_)
                refine lv_iinc (v := (x11 + 1)) (lv' := [(11, .int (x11 + 1)), (8, .int (x8 + 1)), (6, .long (((x6 : Int64).toUInt64 >>> ((1 : Int32).toInt64.toUInt64 &&& Int64.toUInt64 63)).toInt64)), (9, .int 0), (10, .int 1), (0, .ref h), (1, .int x1), (2, .long x2), (4, .int x4), (5, .int x5)]) hx hb dX0_round_80 hl (k := 9) rfl rfl (by decide) rfl (fun ls hl => ?_)
                refine lv_goto (tgt := 17) hx hb dX0_round_83 (by decide) ?_
                exact ih (((x6 : Int64).toUInt64 >>> ((1 : Int32).toInt64.toUInt64 &&& Int64.toUInt64 63)).toInt64) (x8 + 1) 0 1 (x11 + 1) no_ sg_ fr_ ex_ _ _ _ (lp_up hi (by decide) (by decide) c_21) hF hX (lv_sub hl [5, 6, 7, 8, 9, 2, 1, 3, 4, 0] rfl)
              · have hF := hF.trans (if_pos c_60)
                refine lv_iconst (v := 1) hx hb dX0_round_64 (by decide) ?_
                refine lv_goto (tgt := 69) hx hb dX0_round_65 (by decide) ?_
                refine lv_istore (lv' := [(9, .int 1), (10, .int 1), (0, .ref h), (1, .int x1), (2, .long x2), (4, .int x4), (5, .int x5), (6, .long x6), (8, .int x8), (11, .int x11)]) hx hb dX0_round_69 hl (by decide) rfl (fun ls hl => ?_)
                refine lv_lload hx hb dX0_round_71 (lv_at hl 7 rfl) ?_
                refine lv_iconst (v := 1) hx hb dX0_round_73 (by decide) ?_
                refine lv_lushr (v := (((x6 : Int64).toUInt64 >>> ((1 : Int32).toInt64.toUInt64 &&& Int64.toUInt64 63)).toInt64)) hx hb dX0_round_74 rfl ?_
                refine lv_lstore (lv' := [(6, .long (((x6 : Int64).toUInt64 >>> ((1 : Int32).toInt64.toUInt64 &&& Int64.toUInt64 63)).toInt64)), (9, .int 1), (10, .int 1), (0, .ref h), (1, .int x1), (2, .long x2), (4, .int x4), (5, .int x5), (8, .int x8), (11, .int x11)]) hx hb dX0_round_75 hl (by decide) rfl (fun ls hl => ?_)
                refine lv_iinc (v := (x8 + 1)) (lv' := [(8, .int (x8 + 1)), (6, .long (((x6 : Int64).toUInt64 >>> ((1 : Int32).toInt64.toUInt64 &&& Int64.toUInt64 63)).toInt64)), (9, .int 1), (10, .int 1), (0, .ref h), (1, .int x1), (2, .long x2), (4, .int x4), (5, .int x5), (11, .int x11)]) hx hb dX0_round_77 hl (k := 8) rfl rfl (by decide) rfl (fun ls hl => ?_)
                refine lv_iinc (v := (x11 + 1)) (lv' := [(11, .int (x11 + 1)), (8, .int (x8 + 1)), (6, .long (((x6 : Int64).toUInt64 >>> ((1 : Int32).toInt64.toUInt64 &&& Int64.toUInt64 63)).toInt64)), (9, .int 1), (10, .int 1), (0, .ref h), (1, .int x1), (2, .long x2), (4, .int x4), (5, .int x5)]) hx hb dX0_round_80 hl (k := 9) rfl rfl (by decide) rfl (fun ls hl => ?_)
                refine lv_goto (tgt := 17) hx hb dX0_round_83 (by decide) ?_
                exact ih (((x6 : Int64).toUInt64 >>> ((1 : Int32).toInt64.toUInt64 &&& Int64.toUInt64 63)).toInt64) (x8 + 1) 1 1 (x11 + 1) no_ sg_ fr_ ex_ _ _ _ (lp_up hi (by decide) (by decide) c_21) hF hX (lv_sub hl [5, 6, 7, 8, 9, 2, 1, 3, 4, 0] rfl)
        · have hF := hF.trans (if_neg c_29)
          refine lv_iload hx hb dX0_round_33 (lv_at hl 6 rfl) ?_
          refine lv_if_ge (tgt := 86) hx hb dX0_round_35 (by decide) (fun c_35 => ?_) (fun c_35 => ?_)
          · have hF := hF.trans (if_pos c_35)
            exact K_86 x6 x8 x9 x10 x11 no_ sg_ fr_ ex_ _ _ _  hF hX (lv_sub hl [0, 1, 2, 3, 4, 5, 6, 7, 8, 9] rfl)
          · have hF := hF.trans (if_neg c_35)
            refine lv_iload hx hb dX0_round_38 (lv_at hl 8 rfl) ?_
            refine lv_if_ne (tgt := 48) hx hb dX0_round_40 (by decide) (fun c_40 => ?_) (fun c_40 => ?_)
            · have hF := hF.trans (if_neg c_40)
              refine lv_iconst (v := 1) hx hb dX0_round_48 (by decide) ?_
              refine lv_goto (tgt := 53) hx hb dX0_round_49 (by decide) ?_
              refine lv_istore (lv' := [(10, .int 1), (0, .ref h), (1, .int x1), (2, .long x2), (4, .int x4), (5, .int x5), (6, .long x6), (8, .int x8), (9, .int x9), (11, .int x11)]) hx hb dX0_round_53 hl (by decide) rfl (fun ls hl => ?_)
              refine lv_lload hx hb dX0_round_55 (lv_at hl 6 rfl) ?_
              refine lv_lconst (v := 1) hx hb dX0_round_57 (by decide) ?_
              refine lv_land hx hb dX0_round_58 ?_
              refine lv_lconst (v := 1) hx hb dX0_round_59 (by decide) ?_
              refine ll_ne (tgt := 68) hx hb dX0_round_60 dX0_round_61 (by decide) (fun c_60 => ?_) (fun c_60 => ?_)
              · have hF := hF.trans (if_neg c_60)
                refine lv_iconst (v := 0) hx hb dX0_round_68 (by decide) ?_
                refine lv_istore (lv' := [(9, .int 0), (10, .int 1), (0, .ref h), (1, .int x1), (2, .long x2), (4, .int x4), (5, .int x5), (6, .long x6), (8, .int x8), (11, .int x11)]) hx hb dX0_round_69 hl (by decide) rfl (fun ls hl => ?_)
                refine lv_lload hx hb dX0_round_71 (lv_at hl 7 rfl) ?_
                refine lv_iconst (v := 1) hx hb dX0_round_73 (by decide) ?_
                refine lv_lushr (v := (((x6 : Int64).toUInt64 >>> ((1 : Int32).toInt64.toUInt64 &&& Int64.toUInt64 63)).toInt64)) hx hb dX0_round_74 rfl ?_
                refine lv_lstore (lv' := [(6, .long (((x6 : Int64).toUInt64 >>> ((1 : Int32).toInt64.toUInt64 &&& Int64.toUInt64 63)).toInt64)), (9, .int 0), (10, .int 1), (0, .ref h), (1, .int x1), (2, .long x2), (4, .int x4), (5, .int x5), (8, .int x8), (11, .int x11)]) hx hb dX0_round_75 hl (by decide) rfl (fun ls hl => ?_)
                refine lv_iinc (v := (x8 + 1)) (lv' := [(8, .int (x8 + 1)), (6, .long (((x6 : Int64).toUInt64 >>> ((1 : Int32).toInt64.toUInt64 &&& Int64.toUInt64 63)).toInt64)), (9, .int 0), (10, .int 1), (0, .ref h), (1, .int x1), (2, .long x2), (4, .int x4), (5, .int x5), (11, .int x11)]) hx hb dX0_round_77 hl (k := 8) rfl rfl (by decide) rfl (fun ls hl => ?_)
                refine lv_iinc (v := (x11 + 1)) (lv' := [(11, .int (x11 + 1)), (8, .int (x8 + 1)), (6, .long (((x6 : Int64).toUInt64 >>> ((1 : Int32).toInt64.toUInt64 &&& Int64.toUInt64 63)).toInt64)), (9, .int 0), (10, .int 1), (0, .ref h), (1, .int x1), (2, .long x2), (4, .int x4), (5, .int x5)]) hx hb dX0_round_80 hl (k := 9) rfl rfl (by decide) rfl (fun ls hl => ?_)
                refine lv_goto (tgt := 17) hx hb dX0_round_83 (by decide) ?_
                exact ih (((x6 : Int64).toUInt64 >>> ((1 : Int32).toInt64.toUInt64 &&& Int64.toUInt64 63)).toInt64) (x8 + 1) 0 1 (x11 + 1) no_ sg_ fr_ ex_ _ _ _ (lp_up hi (by decide) (by decide) c_21) hF hX (lv_sub hl [5, 6, 7, 8, 9, 2, 1, 3, 4, 0] rfl)
              · have hF := hF.trans (if_pos c_60)
                refine lv_iconst (v := 1) hx hb dX0_round_64 (by decide) ?_
                refine lv_goto (tgt := 69) hx hb dX0_round_65 (by decide) ?_
                refine lv_istore (lv' := [(9, .int 1), (10, .int 1), (0, .ref h), (1, .int x1), (2, .long x2), (4, .int x4), (5, .int x5), (6, .long x6), (8, .int x8), (11, .int x11)]) hx hb dX0_round_69 hl (by decide) rfl (fun ls hl => ?_)
                refine lv_lload hx hb dX0_round_71 (lv_at hl 7 rfl) ?_
                refine lv_iconst (v := 1) hx hb dX0_round_73 (by decide) ?_
                refine lv_lushr (v := (((x6 : Int64).toUInt64 >>> ((1 : Int32).toInt64.toUInt64 &&& Int64.toUInt64 63)).toInt64)) hx hb dX0_round_74 rfl ?_
                refine lv_lstore (lv' := [(6, .long (((x6 : Int64).toUInt64 >>> ((1 : Int32).toInt64.toUInt64 &&& Int64.toUInt64 63)).toInt64)), (9, .int 1), (10, .int 1), (0, .ref h), (1, .int x1), (2, .long x2), (4, .int x4), (5, .int x5), (8, .int x8), (11, .int x11)]) hx hb dX0_round_75 hl (by decide) rfl (fun ls hl => ?_)
                refine lv_iinc (v := (x8 + 1)) (lv' := [(8, .int (x8 + 1)), (6, .long (((x6 : Int64).toUInt64 >>> ((1 : Int32).toInt64.toUInt64 &&& Int64.toUInt64 63)).toInt64)), (9, .int 1), (10, .int 1), (0, .ref h), (1, .int x1), (2, .long x2), (4, .int x4), (5, .int x5), (11, .int x11)]) hx hb dX0_round_77 hl (k := 8) rfl rfl (by decide) rfl (fun ls hl => ?_)
                refine lv_iinc (v := (x11 + 1)) (lv' := [(11, .int (x11 + 1)), (8, .int (x8 + 1)), (6, .long (((x6 : Int64).toUInt64 >>> ((1 : Int32).toInt64.toUInt64 &&& Int64.toUInt64 63)).toInt64)), (9, .int 1), (10, .int 1), (0, .ref h), (1, .int x1), (2, .long x2), (4, .int x4), (5, .int x5)]) hx hb dX0_round_80 hl (k := 9) rfl rfl (by decide) rfl (fun ls hl => ?_)
                refine lv_goto (tgt := 17) hx hb dX0_round_83 (by decide) ?_
                exact ih (((x6 : Int64).toUInt64 >>> ((1 : Int32).toInt64.toUInt64 &&& Int64.toUInt64 63)).toInt64) (x8 + 1) 1 1 (x11 + 1) no_ sg_ fr_ ex_ _ _ _ (lp_up hi (by decide) (by decide) c_21) hF hX (lv_sub hl [5, 6, 7, 8, 9, 2, 1, 3, 4, 0] rfl)
            · have hF := hF.trans (if_pos c_40)
              refine lv_iload hx hb dX0_round_43 (lv_at hl 7 rfl) ?_
              refine lv_if_eq (tgt := 52) hx hb dX0_round_45 (by decide) (fun c_45 => ?_) (fun c_45 => ?_)
              · have hF := hF.trans (if_pos c_45)
                refine lv_iconst (v := 0) hx hb dX0_round_52 (by decide) ?_
                refine lv_istore (lv' := [(10, .int 0), (0, .ref h), (1, .int x1), (2, .long x2), (4, .int x4), (5, .int x5), (6, .long x6), (8, .int x8), (9, .int x9), (11, .int x11)]) hx hb dX0_round_53 hl (by decide) rfl (fun ls hl => ?_)
                refine lv_lload hx hb dX0_round_55 (lv_at hl 6 rfl) ?_
                refine lv_lconst (v := 1) hx hb dX0_round_57 (by decide) ?_
                refine lv_land hx hb dX0_round_58 ?_
                refine lv_lconst (v := 1) hx hb dX0_round_59 (by decide) ?_
                refine ll_ne (tgt := 68) hx hb dX0_round_60 dX0_round_61 (by decide) (fun c_60 => ?_) (fun c_60 => ?_)
                · have hF := hF.trans (if_neg c_60)
                  refine lv_iconst (v := 0) hx hb dX0_round_68 (by decide) ?_
                  refine lv_istore (lv' := [(9, .int 0), (10, .int 0), (0, .ref h), (1, .int x1), (2, .long x2), (4, .int x4), (5, .int x5), (6, .long x6), (8, .int x8), (11, .int x11)]) hx hb dX0_round_69 hl (by decide) rfl (fun ls hl => ?_)
                  refine lv_lload hx hb dX0_round_71 (lv_at hl 7 rfl) ?_
                  refine lv_iconst (v := 1) hx hb dX0_round_73 (by decide) ?_
                  refine lv_lushr (v := (((x6 : Int64).toUInt64 >>> ((1 : Int32).toInt64.toUInt64 &&& Int64.toUInt64 63)).toInt64)) hx hb dX0_round_74 rfl ?_
                  refine lv_lstore (lv' := [(6, .long (((x6 : Int64).toUInt64 >>> ((1 : Int32).toInt64.toUInt64 &&& Int64.toUInt64 63)).toInt64)), (9, .int 0), (10, .int 0), (0, .ref h), (1, .int x1), (2, .long x2), (4, .int x4), (5, .int x5), (8, .int x8), (11, .int x11)]) hx hb dX0_round_75 hl (by decide) rfl (fun ls hl => ?_)
                  refine lv_iinc (v := (x8 + 1)) (lv' := [(8, .int (x8 + 1)), (6, .long (((x6 : Int64).toUInt64 >>> ((1 : Int32).toInt64.toUInt64 &&& Int64.toUInt64 63)).toInt64)), (9, .int 0), (10, .int 0), (0, .ref h), (1, .int x1), (2, .long x2), (4, .int x4), (5, .int x5), (11, .int x11)]) hx hb dX0_round_77 hl (k := 8) rfl rfl (by decide) rfl (fun ls hl => ?_)
                  refine lv_iinc (v := (x11 + 1)) (lv' := [(11, .int (x11 + 1)), (8, .int (x8 + 1)), (6, .long (((x6 : Int64).toUInt64 >>> ((1 : Int32).toInt64.toUInt64 &&& Int64.toUInt64 63)).toInt64)), (9, .int 0), (10, .int 0), (0, .ref h), (1, .int x1), (2, .long x2), (4, .int x4), (5, .int x5)]) hx hb dX0_round_80 hl (k := 9) rfl rfl (by decide) rfl (fun ls hl => ?_)
                  refine lv_goto (tgt := 17) hx hb dX0_round_83 (by decide) ?_
                  exact ih (((x6 : Int64).toUInt64 >>> ((1 : Int32).toInt64.toUInt64 &&& Int64.toUInt64 63)).toInt64) (x8 + 1) 0 0 (x11 + 1) no_ sg_ fr_ ex_ _ _ _ (lp_up hi (by decide) (by decide) c_21) hF hX (lv_sub hl [5, 6, 7, 8, 9, 2, 1, 3, 4, 0] rfl)
                · have hF := hF.trans (if_pos c_60)
                  refine lv_iconst (v := 1) hx hb dX0_round_64 (by decide) ?_
                  refine lv_goto (tgt := 69) hx hb dX0_round_65 (by decide) ?_
                  refine lv_istore (lv' := [(9, .int 1), (10, .int 0), (0, .ref h), (1, .int x1), (2, .long x2), (4, .int x4), (5, .int x5), (6, .long x6), (8, .int x8), (11, .int x11)]) hx hb dX0_round_69 hl (by decide) rfl (fun ls hl => ?_)
                  refine lv_lload hx hb dX0_round_71 (lv_at hl 7 rfl) ?_
                  refine lv_iconst (v := 1) hx hb dX0_round_73 (by decide) ?_
                  refine lv_lushr (v := (((x6 : Int64).toUInt64 >>> ((1 : Int32).toInt64.toUInt64 &&& Int64.toUInt64 63)).toInt64)) hx hb dX0_round_74 rfl ?_
                  refine lv_lstore (lv' := [(6, .long (((x6 : Int64).toUInt64 >>> ((1 : Int32).toInt64.toUInt64 &&& Int64.toUInt64 63)).toInt64)), (9, .int 1), (10, .int 0), (0, .ref h), (1, .int x1), (2, .long x2), (4, .int x4), (5, .int x5), (8, .int x8), (11, .int x11)]) hx hb dX0_round_75 hl (by decide) rfl (fun ls hl => ?_)
                  refine lv_iinc (v := (x8 + 1)) (lv' := [(8, .int (x8 + 1)), (6, .long (((x6 : Int64).toUInt64 >>> ((1 : Int32).toInt64.toUInt64 &&& Int64.toUInt64 63)).toInt64)), (9, .int 1), (10, .int 0), (0, .ref h), (1, .int x1), (2, .long x2), (4, .int x4), (5, .int x5), (11, .int x11)]) hx hb dX0_round_77 hl (k := 8) rfl rfl (by decide) rfl (fun ls hl => ?_)
                  refine lv_iinc (v := (x11 + 1)) (lv' := [(11, .int (x11 + 1)), (8, .int (x8 + 1)), (6, .long (((x6 : Int64).toUInt64 >>> ((1 : Int32).toInt64.toUInt64 &&& Int64.toUInt64 63)).toInt64)), (9, .int 1), (10, .int 0), (0, .ref h), (1, .int x1), (2, .long x2), (4, .int x4), (5, .int x5)]) hx hb dX0_round_80 hl (k := 9) rfl rfl (by decide) rfl (fun ls hl => ?_)
                  refine lv_goto (tgt := 17) hx hb dX0_round_83 (by decide) ?_
                  exact ih (((x6 : Int64).toUInt64 >>> ((1 : Int32).toInt64.toUInt64 &&& Int64.toUInt64 63)).toInt64) (x8 + 1) 1 0 (x11 + 1) no_ sg_ fr_ ex_ _ _ _ (lp_up hi (by decide) (by decide) c_21) hF hX (lv_sub hl [5, 6, 7, 8, 9, 2, 1, 3, 4, 0] rfl)
              · have hF := hF.trans (if_neg c_45)
                refine lv_iconst (v := 1) hx hb dX0_round_48 (by decide) ?_
                refine lv_goto (tgt := 53) hx hb dX0_round_49 (by decide) ?_
                refine lv_istore (lv' := [(10, .int 1), (0, .ref h), (1, .int x1), (2, .long x2), (4, .int x4), (5, .int x5), (6, .long x6), (8, .int x8), (9, .int x9), (11, .int x11)]) hx hb dX0_round_53 hl (by decide) rfl (fun ls hl => ?_)
                refine lv_lload hx hb dX0_round_55 (lv_at hl 6 rfl) ?_
                refine lv_lconst (v := 1) hx hb dX0_round_57 (by decide) ?_
                refine lv_land hx hb dX0_round_58 ?_
                refine lv_lconst (v := 1) hx hb dX0_round_59 (by decide) ?_
                refine ll_ne (tgt := 68) hx hb dX0_round_60 dX0_round_61 (by decide) (fun c_60 => ?_) (fun c_60 => ?_)
                · have hF := hF.trans (if_neg c_60)
                  refine lv_iconst (v := 0) hx hb dX0_round_68 (by decide) ?_
                  refine lv_istore (lv' := [(9, .int 0), (10, .int 1), (0, .ref h), (1, .int x1), (2, .long x2), (4, .int x4), (5, .int x5), (6, .long x6), (8, .int x8), (11, .int x11)]) hx hb dX0_round_69 hl (by decide) rfl (fun ls hl => ?_)
                  refine lv_lload hx hb dX0_round_71 (lv_at hl 7 rfl) ?_
                  refine lv_iconst (v := 1) hx hb dX0_round_73 (by decide) ?_
                  refine lv_lushr (v := (((x6 : Int64).toUInt64 >>> ((1 : Int32).toInt64.toUInt64 &&& Int64.toUInt64 63)).toInt64)) hx hb dX0_round_74 rfl ?_
                  refine lv_lstore (lv' := [(6, .long (((x6 : Int64).toUInt64 >>> ((1 : Int32).toInt64.toUInt64 &&& Int64.toUInt64 63)).toInt64)), (9, .int 0), (10, .int 1), (0, .ref h), (1, .int x1), (2, .long x2), (4, .int x4), (5, .int x5), (8, .int x8), (11, .int x11)]) hx hb dX0_round_75 hl (by decide) rfl (fun ls hl => ?_)
                  refine lv_iinc (v := (x8 + 1)) (lv' := [(8, .int (x8 + 1)), (6, .long (((x6 : Int64).toUInt64 >>> ((1 : Int32).toInt64.toUInt64 &&& Int64.toUInt64 63)).toInt64)), (9, .int 0), (10, .int 1), (0, .ref h), (1, .int x1), (2, .long x2), (4, .int x4), (5, .int x5), (11, .int x11)]) hx hb dX0_round_77 hl (k := 8) rfl rfl (by decide) rfl (fun ls hl => ?_)
                  refine lv_iinc (v := (x11 + 1)) (lv' := [(11, .int (x11 + 1)), (8, .int (x8 + 1)), (6, .long (((x6 : Int64).toUInt64 >>> ((1 : Int32).toInt64.toUInt64 &&& Int64.toUInt64 63)).toInt64)), (9, .int 0), (10, .int 1), (0, .ref h), (1, .int x1), (2, .long x2), (4, .int x4), (5, .int x5)]) hx hb dX0_round_80 hl (k := 9) rfl rfl (by decide) rfl (fun ls hl => ?_)
                  refine lv_goto (tgt := 17) hx hb dX0_round_83 (by decide) ?_
                  exact ih (((x6 : Int64).toUInt64 >>> ((1 : Int32).toInt64.toUInt64 &&& Int64.toUInt64 63)).toInt64) (x8 + 1) 0 1 (x11 + 1) no_ sg_ fr_ ex_ _ _ _ (lp_up hi (by decide) (by decide) c_21) hF hX (lv_sub hl [5, 6, 7, 8, 9, 2, 1, 3, 4, 0] rfl)
                · have hF := hF.trans (if_pos c_60)
                  refine lv_iconst (v := 1) hx hb dX0_round_64 (by decide) ?_
                  refine lv_goto (tgt := 69) hx hb dX0_round_65 (by decide) ?_
                  refine lv_istore (lv' := [(9, .int 1), (10, .int 1), (0, .ref h), (1, .int x1), (2, .long x2), (4, .int x4), (5, .int x5), (6, .long x6), (8, .int x8), (11, .int x11)]) hx hb dX0_round_69 hl (by decide) rfl (fun ls hl => ?_)
                  refine lv_lload hx hb dX0_round_71 (lv_at hl 7 rfl) ?_
                  refine lv_iconst (v := 1) hx hb dX0_round_73 (by decide) ?_
                  refine lv_lushr (v := (((x6 : Int64).toUInt64 >>> ((1 : Int32).toInt64.toUInt64 &&& Int64.toUInt64 63)).toInt64)) hx hb dX0_round_74 rfl ?_
                  refine lv_lstore (lv' := [(6, .long (((x6 : Int64).toUInt64 >>> ((1 : Int32).toInt64.toUInt64 &&& Int64.toUInt64 63)).toInt64)), (9, .int 1), (10, .int 1), (0, .ref h), (1, .int x1), (2, .long x2), (4, .int x4), (5, .int x5), (8, .int x8), (11, .int x11)]) hx hb dX0_round_75 hl (by decide) rfl (fun ls hl => ?_)
                  refine lv_iinc (v := (x8 + 1)) (lv' := [(8, .int (x8 + 1)), (6, .long (((x6 : Int64).toUInt64 >>> ((1 : Int32).toInt64.toUInt64 &&& Int64.toUInt64 63)).toInt64)), (9, .int 1), (10, .int 1), (0, .ref h), (1, .int x1), (2, .long x2), (4, .int x4), (5, .int x5), (11, .int x11)]) hx hb dX0_round_77 hl (k := 8) rfl rfl (by decide) rfl (fun ls hl => ?_)
                  refine lv_iinc (v := (x11 + 1)) (lv' := [(11, .int (x11 + 1)), (8, .int (x8 + 1)), (6, .long (((x6 : Int64).toUInt64 >>> ((1 : Int32).toInt64.toUInt64 &&& Int64.toUInt64 63)).toInt64)), (9, .int 1), (10, .int 1), (0, .ref h), (1, .int x1), (2, .long x2), (4, .int x4), (5, .int x5)]) hx hb dX0_round_80 hl (k := 9) rfl rfl (by decide) rfl (fun ls hl => ?_)
                  refine lv_goto (tgt := 17) hx hb dX0_round_83 (by decide) ?_
                  exact ih (((x6 : Int64).toUInt64 >>> ((1 : Int32).toInt64.toUInt64 &&& Int64.toUInt64 63)).toInt64) (x8 + 1) 1 1 (x11 + 1) no_ sg_ fr_ ex_ _ _ _ (lp_up hi (by decide) (by decide) c_21) hF hX (lv_sub hl [5, 6, 7, 8, 9, 2, 1, 3, 4, 0] rfl)
  have hF := fx_round.eq_1 mo no x1 x2 x4 x5
  refine lv_lload_n hx hb dX0_round_0 rfl (lv_at hl 2 rfl) ?_
  refine lv_lstore (lv' := [(6, .long x2), (0, .ref h), (1, .int x1), (2, .long x2), (4, .int x4), (5, .int x5)]) hx hb dX0_round_1 hl (by decide) rfl (fun ls hl => ?_)
  refine lv_iload hx hb dX0_round_3 (lv_at hl 4 rfl) ?_
  refine lv_istore (lv' := [(8, .int x4), (6, .long x2), (0, .ref h), (1, .int x1), (2, .long x2), (4, .int x4), (5, .int x5)]) hx hb dX0_round_5 hl (by decide) rfl (fun ls hl => ?_)
  refine lv_iconst (v := 0) hx hb dX0_round_7 (by decide) ?_
  refine lv_istore (lv' := [(9, .int 0), (8, .int x4), (6, .long x2), (0, .ref h), (1, .int x1), (2, .long x2), (4, .int x4), (5, .int x5)]) hx hb dX0_round_8 hl (by decide) rfl (fun ls hl => ?_)
  refine lv_iload hx hb dX0_round_10 (lv_at hl 7 rfl) ?_
  refine lv_istore (lv' := [(10, .int x5), (9, .int 0), (8, .int x4), (6, .long x2), (0, .ref h), (1, .int x1), (2, .long x2), (4, .int x4), (5, .int x5)]) hx hb dX0_round_12 hl (by decide) rfl (fun ls hl => ?_)
  refine lv_iconst (v := 0) hx hb dX0_round_14 (by decide) ?_
  refine lv_istore (lv' := [(11, .int 0), (10, .int x5), (9, .int 0), (8, .int x4), (6, .long x2), (0, .ref h), (1, .int x1), (2, .long x2), (4, .int x4), (5, .int x5)]) hx hb dX0_round_15 hl (by decide) rfl (fun ls hl => ?_)
  exact K_17 65 x2 x4 0 x5 0 no sg fr ex _ _ _ ⟨by decide, by decide, by decide⟩ hF hX (lv_sub hl [5, 6, 7, 8, 9, 4, 3, 2, 1, 0] rfl)
end
section
set_option maxRecDepth 100000
def fx_sumOf_b60 (mo : Int32) (x1 : Int32) (x2 : Int64) (x5 : Int32) (x6 : Int64) (x9 : Int32) (t0 : Int64) (t1 : Int64) (no_ : Int32) : Int32 × Int32 :=
  (if (t0 + t1) = 0 then (if x2 = 0 then (if x6 = 0 then ((fx_zeroSum mo x1 x5), no_) else ((fx_zeroSum mo x1 (1 - x1)), no_)) else ((fx_zeroSum mo x1 (1 - x1)), no_)) else (if (t0 + t1) ≤ 0 then ((fx_round mo no_ 1 (-(t0 + t1)) x9 0).1, (fx_round mo no_ 1 (-(t0 + t1)) x9 0).2) else ((fx_round mo no_ 0 (t0 + t1) x9 0).1, (fx_round mo no_ 0 (t0 + t1) x9 0).2)))
def fx_sumOf_b47 (mo : Int32) (x1 : Int32) (x2 : Int64) (x5 : Int32) (x6 : Int64) (x9 : Int32) (x12 : Int64) (t0 : Int64) (no_ : Int32) : Int32 × Int32 :=
  (if x5 = 0 then fx_sumOf_b60 mo x1 x2 x5 x6 x9 t0 x12 no_ else fx_sumOf_b60 mo x1 x2 x5 x6 x9 t0 (-x12) no_)
def fx_sumOf_b14 (mo : Int32) (x1 : Int32) (x2 : Int64) (x4 : Int32) (x5 : Int32) (x6 : Int64) (x8 : Int32) (t0 : Int32) (no_ : Int32) : Int32 × Int32 :=
  (if x1 = 0 then fx_sumOf_b47 mo x1 x2 x5 x6 t0 (x6 <<< (((x8 - t0) : Int32).toInt64 &&& 63)) (x2 <<< (((x4 - t0) : Int32).toInt64 &&& 63)) no_ else fx_sumOf_b47 mo x1 x2 x5 x6 t0 (x6 <<< (((x8 - t0) : Int32).toInt64 &&& 63)) (-(x2 <<< (((x4 - t0) : Int32).toInt64 &&& 63))) no_)
def fx_sumOf (mo : Int32) (no : Int32) (x1 : Int32) (x2 : Int64) (x4 : Int32) (x5 : Int32) (x6 : Int64) (x8 : Int32) : Int32 × Int32 :=
  (if x8 ≤ x4 then fx_sumOf_b14 mo x1 x2 x4 x5 x6 x8 x8 no else fx_sumOf_b14 mo x1 x2 x4 x5 x6 x8 x4 no)
set_option maxHeartbeats 8000000 in
set_option maxRecDepth 100000 in
theorem cx_sumOf (l : Launch) (D : va_G) (h : Nat) (mo : Int32) (no : Int32) (st : Int32) (sg : Int32) (fr : Int64) (ex : Int32) (x1 : Int32) (x2 : Int64) (x4 : Int32) (x5 : Int32) (x6 : Int64) (x8 : Int32)  : g_Met l yX0_sumOf cX0_sumOf 16 (some .int) (rmK 2) (wX h) [] D (mo, no, st, sg, fr, ex) [.ref h, .int x1, .long x2, .int x4, .int x5, .long x6, .int x8] (px_S (fx_sumOf mo no x1 x2 x4 x5 x6 x8) mo st) := by
  refine g_enter (by decide) (Nat.le_of_ble_eq_true rfl) (fun p e s m args below meth c A ls F hX hl => ?_)
  have hx := F.1
  have hb := F.2.1
  generalize hH0 : s.heap = H at hX ⊢
  generalize ([] : List Loc) = locs at hX ⊢
  have hl : lv_has ls 16 [(0, .ref h), (1, .int x1), (2, .long x2), (4, .int x4), (5, .int x5), (6, .long x6), (8, .int x8)] := hl
  clear hH0
  have K_60 : ∀ (x9 : Int32) (x10 : Int64) (x12 : Int64) (t0 : Int64) (t1 : Int64) (no_ : Int32) (sg_ : Int32) (fr_ : Int64) (ex_ : Int32) (H : Heap) (locs : List Loc) (ls : Array Slot), fx_sumOf mo no x1 x2 x4 x5 x6 x8 = fx_sumOf_b60 mo x1 x2 x5 x6 x9 t0 t1 no_ → g_At (wX h) D A s (mo, no_, st, sg_, fr_, ex_) H locs → lv_has ls 16 [(0, .ref h), (1, .int x1), (2, .long x2), (4, .int x4), (5, .int x5), (6, .long x6), (8, .int x8), (9, .int x9), (10, .long x10), (12, .long x12)] → W p l e (rmK 2) s m args below meth c H locs 0 0 (MQ below (va_Qi (px_S (fx_sumOf mo no x1 x2 x4 x5 x6 x8) mo st) (g_B (wX h) [] D A) A) args s 0 0 A) (F0 m 60 ls [.long t1, .long t0]) := by
    intro x9 x10 x12 t0 t1 no_ sg_ fr_ ex_ H locs ls  hF hX hl
    have hF := hF.trans (fx_sumOf_b60.eq_1 mo x1 x2 x5 x6 x9 t0 t1 no_)
    refine lv_ladd hx hb dX0_sumOf_60 ?_
    refine lv_lstore (lv' := [(14, .long (t0 + t1)), (0, .ref h), (1, .int x1), (2, .long x2), (4, .int x4), (5, .int x5), (6, .long x6), (8, .int x8), (9, .int x9), (10, .long x10), (12, .long x12)]) hx hb dX0_sumOf_61 hl (by decide) rfl (fun ls hl => ?_)
    refine lv_lload hx hb dX0_sumOf_63 (lv_at hl 0 rfl) ?_
    refine lv_lconst (v := 0) hx hb dX0_sumOf_65 (by decide) ?_
    refine ll_ne (tgt := 97) hx hb dX0_sumOf_66 dX0_sumOf_67 (by decide) (fun c_66 => ?_) (fun c_66 => ?_)
    · have hF := hF.trans (if_neg c_66)
      refine lv_lload hx hb dX0_sumOf_97 (lv_at hl 0 rfl) ?_
      refine lv_lconst (v := 0) hx hb dX0_sumOf_99 (by decide) ?_
      refine ll_le (tgt := 117) hx hb dX0_sumOf_100 dX0_sumOf_101 (by decide) (fun c_100 => ?_) (fun c_100 => ?_)
      · have hF := hF.trans (if_pos c_100)
        refine lv_aload_n hx hb dX0_sumOf_117 rfl (lv_at hl 1 rfl) ?_
        refine lv_iconst (v := 1) hx hb dX0_sumOf_118 (by decide) ?_
        refine lv_lload hx hb dX0_sumOf_119 (lv_at hl 0 rfl) ?_
        refine lv_lneg hx hb dX0_sumOf_121 ?_
        refine lv_iload hx hb dX0_sumOf_122 (lv_at hl 8 rfl) ?_
        refine lv_iconst (v := 0) hx hb dX0_sumOf_124 (by decide) ?_
        refine x_call (rest := []) F hX (cx_round l D h mo no_ st sg_ fr_ ex_ 1 (-(t0 + t1)) x9 0) cq_x_round rfl ⟨rfl, rfl⟩ (by decide) rfl hl.1 rfl (Nat.le_of_ble_eq_true rfl) dX0_sumOf_125 (fun r u' H locs hq hX => ?_)
        obtain ⟨sg_125, fr_125, ex_125, rfl, rfl⟩ := hq
        exact g_iret F hX (lx_S hF) dX0_sumOf_128
      · have hF := hF.trans (if_neg c_100)
        refine lv_aload_n hx hb dX0_sumOf_104 rfl (lv_at hl 1 rfl) ?_
        refine lv_iconst (v := 0) hx hb dX0_sumOf_105 (by decide) ?_
        refine lv_lload hx hb dX0_sumOf_106 (lv_at hl 0 rfl) ?_
        refine lv_iload hx hb dX0_sumOf_108 (lv_at hl 8 rfl) ?_
        refine lv_iconst (v := 0) hx hb dX0_sumOf_110 (by decide) ?_
        refine x_call (rest := []) F hX (cx_round l D h mo no_ st sg_ fr_ ex_ 0 (t0 + t1) x9 0) cq_x_round rfl ⟨rfl, rfl⟩ (by decide) rfl hl.1 rfl (Nat.le_of_ble_eq_true rfl) dX0_sumOf_111 (fun r u' H locs hq hX => ?_)
        obtain ⟨sg_111, fr_111, ex_111, rfl, rfl⟩ := hq
        refine lv_goto (tgt := 128) hx hb dX0_sumOf_114 (by decide) ?_
        exact g_iret F hX (lx_S hF) dX0_sumOf_128
    · have hF := hF.trans (if_pos c_66)
      refine lv_aload_n hx hb dX0_sumOf_70 rfl (lv_at hl 1 rfl) ?_
      refine lv_iload_n hx hb dX0_sumOf_71 rfl (lv_at hl 2 rfl) ?_
      refine lv_lload_n hx hb dX0_sumOf_72 rfl (lv_at hl 3 rfl) ?_
      refine lv_lconst (v := 0) hx hb dX0_sumOf_73 (by decide) ?_
      refine ll_ne (tgt := 90) hx hb dX0_sumOf_74 dX0_sumOf_75 (by decide) (fun c_74 => ?_) (fun c_74 => ?_)
      · have hF := hF.trans (if_neg c_74)
        refine lv_iconst (v := 1) hx hb dX0_sumOf_90 (by decide) ?_
        refine lv_iload_n hx hb dX0_sumOf_91 rfl (lv_at hl 2 rfl) ?_
        refine lv_isub hx hb dX0_sumOf_92 ?_
        refine x_callP (rest := []) F hX (cx_zeroSum l D h mo no_ st sg_ fr_ ex_ x1 (1 - x1)) cq_x_zeroSum rfl ⟨rfl, rfl⟩ (by decide) rfl hl.1 rfl (Nat.le_of_ble_eq_true rfl) dX0_sumOf_93 (fun H locs hX => ?_)
        exact g_iret F hX (lx_S hF) dX0_sumOf_96
      · have hF := hF.trans (if_pos c_74)
        refine lv_lload hx hb dX0_sumOf_78 (lv_at hl 6 rfl) ?_
        refine lv_lconst (v := 0) hx hb dX0_sumOf_80 (by decide) ?_
        refine ll_ne (tgt := 90) hx hb dX0_sumOf_81 dX0_sumOf_82 (by decide) (fun c_81 => ?_) (fun c_81 => ?_)
        · have hF := hF.trans (if_neg c_81)
          refine lv_iconst (v := 1) hx hb dX0_sumOf_90 (by decide) ?_
          refine lv_iload_n hx hb dX0_sumOf_91 rfl (lv_at hl 2 rfl) ?_
          refine lv_isub hx hb dX0_sumOf_92 ?_
          refine x_callP (rest := []) F hX (cx_zeroSum l D h mo no_ st sg_ fr_ ex_ x1 (1 - x1)) cq_x_zeroSum rfl ⟨rfl, rfl⟩ (by decide) rfl hl.1 rfl (Nat.le_of_ble_eq_true rfl) dX0_sumOf_93 (fun H locs hX => ?_)
          exact g_iret F hX (lx_S hF) dX0_sumOf_96
        · have hF := hF.trans (if_pos c_81)
          refine lv_iload hx hb dX0_sumOf_85 (lv_at hl 5 rfl) ?_
          refine lv_goto (tgt := 93) hx hb dX0_sumOf_87 (by decide) ?_
          refine x_callP (rest := []) F hX (cx_zeroSum l D h mo no_ st sg_ fr_ ex_ x1 x5) cq_x_zeroSum rfl ⟨rfl, rfl⟩ (by decide) rfl hl.1 rfl (Nat.le_of_ble_eq_true rfl) dX0_sumOf_93 (fun H locs hX => ?_)
          exact g_iret F hX (lx_S hF) dX0_sumOf_96
  have K_47 : ∀ (x9 : Int32) (x10 : Int64) (x12 : Int64) (t0 : Int64) (no_ : Int32) (sg_ : Int32) (fr_ : Int64) (ex_ : Int32) (H : Heap) (locs : List Loc) (ls : Array Slot), fx_sumOf mo no x1 x2 x4 x5 x6 x8 = fx_sumOf_b47 mo x1 x2 x5 x6 x9 x12 t0 no_ → g_At (wX h) D A s (mo, no_, st, sg_, fr_, ex_) H locs → lv_has ls 16 [(0, .ref h), (1, .int x1), (2, .long x2), (4, .int x4), (5, .int x5), (6, .long x6), (8, .int x8), (9, .int x9), (10, .long x10), (12, .long x12)] → W p l e (rmK 2) s m args below meth c H locs 0 0 (MQ below (va_Qi (px_S (fx_sumOf mo no x1 x2 x4 x5 x6 x8) mo st) (g_B (wX h) [] D A) A) args s 0 0 A) (F0 m 47 ls [.long t0]) := by
    intro x9 x10 x12 t0 no_ sg_ fr_ ex_ H locs ls  hF hX hl
    have hF := hF.trans (fx_sumOf_b47.eq_1 mo x1 x2 x5 x6 x9 x12 t0 no_)
    refine lv_iload hx hb dX0_sumOf_47 (lv_at hl 4 rfl) ?_
    refine lv_if_ne (tgt := 57) hx hb dX0_sumOf_49 (by decide) (fun c_49 => ?_) (fun c_49 => ?_)
    · have hF := hF.trans (if_neg c_49)
      refine lv_lload hx hb dX0_sumOf_57 (lv_at hl 9 rfl) ?_
      refine lv_lneg hx hb dX0_sumOf_59 ?_
      exact K_60 x9 x10 x12 t0 (-x12) no_ sg_ fr_ ex_ _ _ _  hF hX (lv_sub hl [0, 1, 2, 3, 4, 5, 6, 7, 8, 9] rfl)
    · have hF := hF.trans (if_pos c_49)
      refine lv_lload hx hb dX0_sumOf_52 (lv_at hl 9 rfl) ?_
      refine lv_goto (tgt := 60) hx hb dX0_sumOf_54 (by decide) ?_
      exact K_60 x9 x10 x12 t0 x12 no_ sg_ fr_ ex_ _ _ _  hF hX (lv_sub hl [0, 1, 2, 3, 4, 5, 6, 7, 8, 9] rfl)
  have K_14 : ∀ (t0 : Int32) (no_ : Int32) (sg_ : Int32) (fr_ : Int64) (ex_ : Int32) (H : Heap) (locs : List Loc) (ls : Array Slot), fx_sumOf mo no x1 x2 x4 x5 x6 x8 = fx_sumOf_b14 mo x1 x2 x4 x5 x6 x8 t0 no_ → g_At (wX h) D A s (mo, no_, st, sg_, fr_, ex_) H locs → lv_has ls 16 [(0, .ref h), (1, .int x1), (2, .long x2), (4, .int x4), (5, .int x5), (6, .long x6), (8, .int x8)] → W p l e (rmK 2) s m args below meth c H locs 0 0 (MQ below (va_Qi (px_S (fx_sumOf mo no x1 x2 x4 x5 x6 x8) mo st) (g_B (wX h) [] D A) A) args s 0 0 A) (F0 m 14 ls [.int t0]) := by
    intro t0 no_ sg_ fr_ ex_ H locs ls  hF hX hl
    have hF := hF.trans (fx_sumOf_b14.eq_1 mo x1 x2 x4 x5 x6 x8 t0 no_)
    refine lv_istore (lv' := [(9, .int t0), (0, .ref h), (1, .int x1), (2, .long x2), (4, .int x4), (5, .int x5), (6, .long x6), (8, .int x8)]) hx hb dX0_sumOf_14 hl (by decide) rfl (fun ls hl => ?_)
    refine lv_lload_n hx hb dX0_sumOf_16 rfl (lv_at hl 3 rfl) ?_
    refine lv_iload hx hb dX0_sumOf_17 (lv_at hl 4 rfl) ?_
    refine lv_iload hx hb dX0_sumOf_19 (lv_at hl 0 rfl) ?_
    refine lv_isub hx hb dX0_sumOf_21 ?_
    refine lv_lshl (v := (x2 <<< (((x4 - t0) : Int32).toInt64 &&& 63))) hx hb dX0_sumOf_22 rfl ?_
    refine lv_lstore (lv' := [(10, .long (x2 <<< (((x4 - t0) : Int32).toInt64 &&& 63))), (9, .int t0), (0, .ref h), (1, .int x1), (2, .long x2), (4, .int x4), (5, .int x5), (6, .long x6), (8, .int x8)]) hx hb dX0_sumOf_23 hl (by decide) rfl (fun ls hl => ?_)
    refine lv_lload hx hb dX0_sumOf_25 (lv_at hl 7 rfl) ?_
    refine lv_iload hx hb dX0_sumOf_27 (lv_at hl 8 rfl) ?_
    refine lv_iload hx hb dX0_sumOf_29 (lv_at hl 1 rfl) ?_
    refine lv_isub hx hb dX0_sumOf_31 ?_
    refine lv_lshl (v := (x6 <<< (((x8 - t0) : Int32).toInt64 &&& 63))) hx hb dX0_sumOf_32 rfl ?_
    refine lv_lstore (lv' := [(12, .long (x6 <<< (((x8 - t0) : Int32).toInt64 &&& 63))), (10, .long (x2 <<< (((x4 - t0) : Int32).toInt64 &&& 63))), (9, .int t0), (0, .ref h), (1, .int x1), (2, .long x2), (4, .int x4), (5, .int x5), (6, .long x6), (8, .int x8)]) hx hb dX0_sumOf_33 hl (by decide) rfl (fun ls hl => ?_)
    refine lv_iload_n hx hb dX0_sumOf_35 rfl (lv_at hl 4 rfl) ?_
    refine lv_if_ne (tgt := 44) hx hb dX0_sumOf_36 (by decide) (fun c_36 => ?_) (fun c_36 => ?_)
    · have hF := hF.trans (if_neg c_36)
      refine lv_lload hx hb dX0_sumOf_44 (lv_at hl 1 rfl) ?_
      refine lv_lneg hx hb dX0_sumOf_46 ?_
      exact K_47 t0 (x2 <<< (((x4 - t0) : Int32).toInt64 &&& 63)) (x6 <<< (((x8 - t0) : Int32).toInt64 &&& 63)) (-(x2 <<< (((x4 - t0) : Int32).toInt64 &&& 63))) no_ sg_ fr_ ex_ _ _ _  hF hX (lv_sub hl [3, 4, 5, 6, 7, 8, 9, 2, 1, 0] rfl)
    · have hF := hF.trans (if_pos c_36)
      refine lv_lload hx hb dX0_sumOf_39 (lv_at hl 1 rfl) ?_
      refine lv_goto (tgt := 47) hx hb dX0_sumOf_41 (by decide) ?_
      exact K_47 t0 (x2 <<< (((x4 - t0) : Int32).toInt64 &&& 63)) (x6 <<< (((x8 - t0) : Int32).toInt64 &&& 63)) (x2 <<< (((x4 - t0) : Int32).toInt64 &&& 63)) no_ sg_ fr_ ex_ _ _ _  hF hX (lv_sub hl [3, 4, 5, 6, 7, 8, 9, 2, 1, 0] rfl)
  have hF := fx_sumOf.eq_1 mo no x1 x2 x4 x5 x6 x8
  refine lv_iload hx hb dX0_sumOf_0 (lv_at hl 3 rfl) ?_
  refine lv_iload hx hb dX0_sumOf_2 (lv_at hl 6 rfl) ?_
  refine lv_icmp_ge (tgt := 12) hx hb dX0_sumOf_4 (by decide) (fun c_4 => ?_) (fun c_4 => ?_)
  · have hF := hF.trans (if_pos c_4)
    refine lv_iload hx hb dX0_sumOf_12 (lv_at hl 6 rfl) ?_
    exact K_14 x8 no sg fr ex _ _ _  hF hX (lv_sub hl [0, 1, 2, 3, 4, 5, 6] rfl)
  · have hF := hF.trans (if_neg c_4)
    refine lv_iload hx hb dX0_sumOf_7 (lv_at hl 3 rfl) ?_
    refine lv_goto (tgt := 14) hx hb dX0_sumOf_9 (by decide) ?_
    exact K_14 x4 no sg fr ex _ _ _  hF hX (lv_sub hl [0, 1, 2, 3, 4, 5, 6] rfl)
def fx_addUp_b62 (mo : Int32) (x5 : Int32) (x6 : Int64) (t0 : Int32) (no_ : Int32) : Int32 × Int32 :=
  ((fx_round mo no_ x5 x6 t0 0).1, (fx_round mo no_ x5 x6 t0 0).2)
def fx_addUp_b45 (mo : Int32) (x2 : Int64) (x4 : Int32) (x5 : Int32) (t0 : Int64) (no_ : Int32) (ex_ : Int32) : Int32 × Int32 :=
  (if x2 = 0 then fx_addUp_b62 mo x5 t0 ex_ no_ else fx_addUp_b62 mo x5 t0 x4 no_)
def fx_addUp_b29 (mo : Int32) (x2 : Int64) (x4 : Int32) (t0 : Int32) (no_ : Int32) (fr_ : Int64) (ex_ : Int32) : Int32 × Int32 :=
  (if x2 = 0 then fx_addUp_b45 mo x2 x4 t0 fr_ no_ ex_ else fx_addUp_b45 mo x2 x4 t0 x2 no_ ex_)
def fx_addUp_b15 (mo : Int32) (x1 : Int32) (x2 : Int64) (x4 : Int32) (no_ : Int32) (sg_ : Int32) (fr_ : Int64) (ex_ : Int32) : Int32 × Int32 :=
  (if x2 = 0 then fx_addUp_b29 mo x2 x4 sg_ no_ fr_ ex_ else fx_addUp_b29 mo x2 x4 x1 no_ fr_ ex_)
def fx_addUp (mo : Int32) (no : Int32) (sg : Int32) (fr : Int64) (ex : Int32) (x1 : Int32) (x2 : Int64) (x4 : Int32) : Int32 × Int32 :=
  (if x2 = 0 then fx_addUp_b15 mo x1 x2 x4 no sg fr ex else (if fr = 0 then fx_addUp_b15 mo x1 x2 x4 no sg fr ex else ((fx_sumOf mo no x1 x2 x4 sg fr ex).1, (fx_sumOf mo no x1 x2 x4 sg fr ex).2)))
set_option maxHeartbeats 8000000 in
set_option maxRecDepth 100000 in
theorem cx_addUp (l : Launch) (D : va_G) (h : Nat) (mo : Int32) (no : Int32) (st : Int32) (sg : Int32) (fr : Int64) (ex : Int32) (x1 : Int32) (x2 : Int64) (x4 : Int32)  : g_Met l yX0_addUp cX0_addUp 9 (some .int) (rmK 3) (wX h) [] D (mo, no, st, sg, fr, ex) [.ref h, .int x1, .long x2, .int x4] (px_S (fx_addUp mo no sg fr ex x1 x2 x4) mo st) := by
  refine g_enter (by decide) (Nat.le_of_ble_eq_true rfl) (fun p e s m args below meth c A ls F hX hl => ?_)
  have hx := F.1
  have hb := F.2.1
  generalize hH0 : s.heap = H at hX ⊢
  generalize ([] : List Loc) = locs at hX ⊢
  have hl : lv_has ls 9 [(0, .ref h), (1, .int x1), (2, .long x2), (4, .int x4)] := hl
  clear hH0
  have K_62 : ∀ (x5 : Int32) (x6 : Int64) (t0 : Int32) (no_ : Int32) (sg_ : Int32) (fr_ : Int64) (ex_ : Int32) (H : Heap) (locs : List Loc) (ls : Array Slot), fx_addUp mo no sg fr ex x1 x2 x4 = fx_addUp_b62 mo x5 x6 t0 no_ → g_At (wX h) D A s (mo, no_, st, sg_, fr_, ex_) H locs → lv_has ls 9 [(0, .ref h), (1, .int x1), (2, .long x2), (4, .int x4), (5, .int x5), (6, .long x6)] → W p l e (rmK 3) s m args below meth c H locs 0 0 (MQ below (va_Qi (px_S (fx_addUp mo no sg fr ex x1 x2 x4) mo st) (g_B (wX h) [] D A) A) args s 0 0 A) (F0 m 62 ls [.int t0]) := by
    intro x5 x6 t0 no_ sg_ fr_ ex_ H locs ls  hF hX hl
    have hF := hF.trans (fx_addUp_b62.eq_1 mo x5 x6 t0 no_)
    refine lv_istore (lv' := [(8, .int t0), (0, .ref h), (1, .int x1), (2, .long x2), (4, .int x4), (5, .int x5), (6, .long x6)]) hx hb dX0_addUp_62 hl (by decide) rfl (fun ls hl => ?_)
    refine lv_aload_n hx hb dX0_addUp_64 rfl (lv_at hl 1 rfl) ?_
    refine lv_iload hx hb dX0_addUp_65 (lv_at hl 5 rfl) ?_
    refine lv_lload hx hb dX0_addUp_67 (lv_at hl 6 rfl) ?_
    refine lv_iload hx hb dX0_addUp_69 (lv_at hl 0 rfl) ?_
    refine lv_iconst (v := 0) hx hb dX0_addUp_71 (by decide) ?_
    refine x_call (rest := []) F hX (cx_round l D h mo no_ st sg_ fr_ ex_ x5 x6 t0 0) cq_x_round rfl ⟨rfl, rfl⟩ (by decide) rfl hl.1 rfl (Nat.le_of_ble_eq_true rfl) dX0_addUp_72 (fun r u' H locs hq hX => ?_)
    obtain ⟨sg_72, fr_72, ex_72, rfl, rfl⟩ := hq
    exact g_iret F hX (lx_S hF) dX0_addUp_75
  have K_45 : ∀ (x5 : Int32) (t0 : Int64) (no_ : Int32) (sg_ : Int32) (fr_ : Int64) (ex_ : Int32) (H : Heap) (locs : List Loc) (ls : Array Slot), fx_addUp mo no sg fr ex x1 x2 x4 = fx_addUp_b45 mo x2 x4 x5 t0 no_ ex_ → g_At (wX h) D A s (mo, no_, st, sg_, fr_, ex_) H locs → lv_has ls 9 [(0, .ref h), (1, .int x1), (2, .long x2), (4, .int x4), (5, .int x5)] → W p l e (rmK 3) s m args below meth c H locs 0 0 (MQ below (va_Qi (px_S (fx_addUp mo no sg fr ex x1 x2 x4) mo st) (g_B (wX h) [] D A) A) args s 0 0 A) (F0 m 45 ls [.long t0]) := by
    intro x5 t0 no_ sg_ fr_ ex_ H locs ls  hF hX hl
    have hF := hF.trans (fx_addUp_b45.eq_1 mo x2 x4 x5 t0 no_ ex_)
    refine lv_lstore (lv' := [(6, .long t0), (0, .ref h), (1, .int x1), (2, .long x2), (4, .int x4), (5, .int x5)]) hx hb dX0_addUp_45 hl (by decide) rfl (fun ls hl => ?_)
    refine lv_lload_n hx hb dX0_addUp_47 rfl (lv_at hl 3 rfl) ?_
    refine lv_lconst (v := 0) hx hb dX0_addUp_48 (by decide) ?_
    refine ll_ne (tgt := 60) hx hb dX0_addUp_49 dX0_addUp_50 (by decide) (fun c_49 => ?_) (fun c_49 => ?_)
    · have hF := hF.trans (if_neg c_49)
      refine lv_iload hx hb dX0_addUp_60 (lv_at hl 4 rfl) ?_
      exact K_62 x5 t0 x4 no_ sg_ fr_ ex_ _ _ _  hF hX (lv_sub hl [1, 2, 3, 4, 5, 0] rfl)
    · have hF := hF.trans (if_pos c_49)
      refine lv_aload_n hx hb dX0_addUp_53 rfl (lv_at hl 1 rfl) ?_
      refine x_get F hX 5 (by decide) q45 rfl rfl dX0_addUp_54 ?_
      refine lv_goto (tgt := 62) hx hb dX0_addUp_57 (by decide) ?_
      exact K_62 x5 t0 ex_ no_ sg_ fr_ ex_ _ _ _  hF hX (lv_sub hl [1, 2, 3, 4, 5, 0] rfl)
  have K_29 : ∀ (t0 : Int32) (no_ : Int32) (sg_ : Int32) (fr_ : Int64) (ex_ : Int32) (H : Heap) (locs : List Loc) (ls : Array Slot), fx_addUp mo no sg fr ex x1 x2 x4 = fx_addUp_b29 mo x2 x4 t0 no_ fr_ ex_ → g_At (wX h) D A s (mo, no_, st, sg_, fr_, ex_) H locs → lv_has ls 9 [(0, .ref h), (1, .int x1), (2, .long x2), (4, .int x4)] → W p l e (rmK 3) s m args below meth c H locs 0 0 (MQ below (va_Qi (px_S (fx_addUp mo no sg fr ex x1 x2 x4) mo st) (g_B (wX h) [] D A) A) args s 0 0 A) (F0 m 29 ls [.int t0]) := by
    intro t0 no_ sg_ fr_ ex_ H locs ls  hF hX hl
    have hF := hF.trans (fx_addUp_b29.eq_1 mo x2 x4 t0 no_ fr_ ex_)
    refine lv_istore (lv' := [(5, .int t0), (0, .ref h), (1, .int x1), (2, .long x2), (4, .int x4)]) hx hb dX0_addUp_29 hl (by decide) rfl (fun ls hl => ?_)
    refine lv_lload_n hx hb dX0_addUp_31 rfl (lv_at hl 3 rfl) ?_
    refine lv_lconst (v := 0) hx hb dX0_addUp_32 (by decide) ?_
    refine ll_ne (tgt := 44) hx hb dX0_addUp_33 dX0_addUp_34 (by decide) (fun c_33 => ?_) (fun c_33 => ?_)
    · have hF := hF.trans (if_neg c_33)
      refine lv_lload_n hx hb dX0_addUp_44 rfl (lv_at hl 3 rfl) ?_
      exact K_45 t0 x2 no_ sg_ fr_ ex_ _ _ _  hF hX (lv_sub hl [1, 2, 3, 4, 0] rfl)
    · have hF := hF.trans (if_pos c_33)
      refine lv_aload_n hx hb dX0_addUp_37 rfl (lv_at hl 1 rfl) ?_
      refine x_get F hX 4 (by decide) q44 rfl rfl dX0_addUp_38 ?_
      refine lv_goto (tgt := 45) hx hb dX0_addUp_41 (by decide) ?_
      exact K_45 t0 fr_ no_ sg_ fr_ ex_ _ _ _  hF hX (lv_sub hl [1, 2, 3, 4, 0] rfl)
  have K_15 : ∀ (no_ : Int32) (sg_ : Int32) (fr_ : Int64) (ex_ : Int32) (H : Heap) (locs : List Loc) (ls : Array Slot), fx_addUp mo no sg fr ex x1 x2 x4 = fx_addUp_b15 mo x1 x2 x4 no_ sg_ fr_ ex_ → g_At (wX h) D A s (mo, no_, st, sg_, fr_, ex_) H locs → lv_has ls 9 [(0, .ref h), (1, .int x1), (2, .long x2), (4, .int x4)] → W p l e (rmK 3) s m args below meth c H locs 0 0 (MQ below (va_Qi (px_S (fx_addUp mo no sg fr ex x1 x2 x4) mo st) (g_B (wX h) [] D A) A) args s 0 0 A) (F0 m 15 ls []) := by
    intro no_ sg_ fr_ ex_ H locs ls  hF hX hl
    have hF := hF.trans (fx_addUp_b15.eq_1 mo x1 x2 x4 no_ sg_ fr_ ex_)
    refine lv_lload_n hx hb dX0_addUp_15 rfl (lv_at hl 2 rfl) ?_
    refine lv_lconst (v := 0) hx hb dX0_addUp_16 (by decide) ?_
    refine ll_ne (tgt := 28) hx hb dX0_addUp_17 dX0_addUp_18 (by decide) (fun c_17 => ?_) (fun c_17 => ?_)
    · have hF := hF.trans (if_neg c_17)
      refine lv_iload_n hx hb dX0_addUp_28 rfl (lv_at hl 1 rfl) ?_
      exact K_29 x1 no_ sg_ fr_ ex_ _ _ _  hF hX (lv_sub hl [0, 1, 2, 3] rfl)
    · have hF := hF.trans (if_pos c_17)
      refine lv_aload_n hx hb dX0_addUp_21 rfl (lv_at hl 0 rfl) ?_
      refine x_get F hX 3 (by decide) q43 rfl rfl dX0_addUp_22 ?_
      refine lv_goto (tgt := 29) hx hb dX0_addUp_25 (by decide) ?_
      exact K_29 sg_ no_ sg_ fr_ ex_ _ _ _  hF hX (lv_sub hl [0, 1, 2, 3] rfl)
  have hF := fx_addUp.eq_1 mo no sg fr ex x1 x2 x4
  refine lv_lload_n hx hb dX0_addUp_0 rfl (lv_at hl 2 rfl) ?_
  refine lv_lconst (v := 0) hx hb dX0_addUp_1 (by decide) ?_
  refine ll_eq (tgt := 15) hx hb dX0_addUp_2 dX0_addUp_3 (by decide) (fun c_2 => ?_) (fun c_2 => ?_)
  · have hF := hF.trans (if_pos c_2)
    exact K_15 no sg fr ex _ _ _  hF hX (lv_sub hl [0, 1, 2, 3] rfl)
  · have hF := hF.trans (if_neg c_2)
    refine lv_aload_n hx hb dX0_addUp_6 rfl (lv_at hl 0 rfl) ?_
    refine x_get F hX 4 (by decide) q44 rfl rfl dX0_addUp_7 ?_
    refine lv_lconst (v := 0) hx hb dX0_addUp_10 (by decide) ?_
    refine ll_ne (tgt := 76) hx hb dX0_addUp_11 dX0_addUp_12 (by decide) (fun c_11 => ?_) (fun c_11 => ?_)
    · have hF := hF.trans (if_neg c_11)
      refine lv_aload_n hx hb dX0_addUp_76 rfl (lv_at hl 0 rfl) ?_
      refine lv_iload_n hx hb dX0_addUp_77 rfl (lv_at hl 1 rfl) ?_
      refine lv_lload_n hx hb dX0_addUp_78 rfl (lv_at hl 2 rfl) ?_
      refine lv_iload hx hb dX0_addUp_79 (lv_at hl 3 rfl) ?_
      refine lv_aload_n hx hb dX0_addUp_81 rfl (lv_at hl 0 rfl) ?_
      refine x_get F hX 3 (by decide) q43 rfl rfl dX0_addUp_82 ?_
      refine lv_aload_n hx hb dX0_addUp_85 rfl (lv_at hl 0 rfl) ?_
      refine x_get F hX 4 (by decide) q44 rfl rfl dX0_addUp_86 ?_
      refine lv_aload_n hx hb dX0_addUp_89 rfl (lv_at hl 0 rfl) ?_
      refine x_get F hX 5 (by decide) q45 rfl rfl dX0_addUp_90 ?_
      refine x_call (rest := []) F hX (cx_sumOf l D h mo no st sg fr ex x1 x2 x4 sg fr ex) cq_x_sumOf rfl ⟨rfl, rfl⟩ (by decide) rfl hl.1 rfl (Nat.le_of_ble_eq_true rfl) dX0_addUp_93 (fun r u' H locs hq hX => ?_)
      obtain ⟨sg_93, fr_93, ex_93, rfl, rfl⟩ := hq
      exact g_iret F hX (lx_S hF) dX0_addUp_96
    · have hF := hF.trans (if_pos c_11)
      exact K_15 no sg fr ex _ _ _  hF hX (lv_sub hl [0, 1, 2, 3] rfl)
def fx_sum_b61 (x1 : Int32) (x2 : Int32) (no_ : Int32) : Int32 × Int32 :=
  (if (fx_isInfinite x1) = 0 then (x2, no_) else (x1, no_))
def fx_sum_b35 (x1 : Int32) (x2 : Int32) (no_ : Int32) : Int32 × Int32 :=
  (if (fx_isInfinite x1) = 0 then fx_sum_b61 x1 x2 no_ else (if (fx_isInfinite x2) = 0 then fx_sum_b61 x1 x2 no_ else (if x1 = x2 then fx_sum_b61 x1 x2 no_ else ((fx_senseless no_).1, (fx_senseless no_).2))))
def fx_sum (mo : Int32) (no : Int32) (x1 : Int32) (x2 : Int32) : Int32 × Int32 :=
  (if (fx_isNone x1) = 0 then (if (fx_isNone x2) = 0 then (if (fx_isInfinite x1) = 0 then (if (fx_isInfinite x2) = 0 then (if (fx_unpack x1).2.1 = 0 then (if (fx_unpack x2).2.1 = 0 then ((fx_zeroSum mo ((fx_unpack x1).1) ((fx_unpack x2).1)), no) else ((fx_addUp mo no ((fx_unpack x2).1) ((fx_unpack x2).2.1) ((fx_unpack x2).2.2) ((fx_unpack x1).1) ((fx_unpack x1).2.1) ((fx_unpack x1).2.2)).1, (fx_addUp mo no ((fx_unpack x2).1) ((fx_unpack x2).2.1) ((fx_unpack x2).2.2) ((fx_unpack x1).1) ((fx_unpack x1).2.1) ((fx_unpack x1).2.2)).2)) else ((fx_addUp mo no ((fx_unpack x2).1) ((fx_unpack x2).2.1) ((fx_unpack x2).2.2) ((fx_unpack x1).1) ((fx_unpack x1).2.1) ((fx_unpack x1).2.2)).1, (fx_addUp mo no ((fx_unpack x2).1) ((fx_unpack x2).2.1) ((fx_unpack x2).2.2) ((fx_unpack x1).1) ((fx_unpack x1).2.1) ((fx_unpack x1).2.2)).2)) else fx_sum_b35 x1 x2 no) else fx_sum_b35 x1 x2 no) else (124, no)) else (124, no))
set_option maxHeartbeats 8000000 in
set_option maxRecDepth 100000 in
theorem cx_sum (l : Launch) (D : va_G) (h : Nat) (mo : Int32) (no : Int32) (st : Int32) (sg : Int32) (fr : Int64) (ex : Int32) (x1 : Int32) (x2 : Int32)  : g_Met l yX0_sum cX0_sum 7 (some .int) (rmK 4) (wX h) [] D (mo, no, st, sg, fr, ex) [.ref h, .int x1, .int x2] (px_S (fx_sum mo no x1 x2) mo st) := by
  refine g_enter (by decide) (Nat.le_of_ble_eq_true rfl) (fun p e s m args below meth c A ls F hX hl => ?_)
  have hx := F.1
  have hb := F.2.1
  generalize hH0 : s.heap = H at hX ⊢
  generalize ([] : List Loc) = locs at hX ⊢
  have hl : lv_has ls 7 [(0, .ref h), (1, .int x1), (2, .int x2)] := hl
  clear hH0
  have K_61 : ∀ (no_ : Int32) (sg_ : Int32) (fr_ : Int64) (ex_ : Int32) (H : Heap) (locs : List Loc) (ls : Array Slot), ((fx_isNone x1) = 0) → ((fx_isNone x2) = 0) → fx_sum mo no x1 x2 = fx_sum_b61 x1 x2 no_ → g_At (wX h) D A s (mo, no_, st, sg_, fr_, ex_) H locs → lv_has ls 7 [(0, .ref h), (1, .int x1), (2, .int x2)] → W p l e (rmK 4) s m args below meth c H locs 0 0 (MQ below (va_Qi (px_S (fx_sum mo no x1 x2) mo st) (g_B (wX h) [] D A) A) args s 0 0 A) (F0 m 61 ls []) := by
    intro no_ sg_ fr_ ex_ H locs ls f61_0 f61_1 hF hX hl
    have hF := hF.trans (fx_sum_b61.eq_1 x1 x2 no_)
    refine lv_aload_n hx hb dX0_sum_61 rfl (lv_at hl 0 rfl) ?_
    refine lv_iload_n hx hb dX0_sum_62 rfl (lv_at hl 1 rfl) ?_
    refine x_callP (rest := []) F hX (cx_isInfinite l D h mo no_ st sg_ fr_ ex_ x1) cq_x_isInfinite rfl ⟨rfl, rfl⟩ (by decide) rfl hl.1 rfl (Nat.le_of_ble_eq_true rfl) dX0_sum_63 (fun H locs hX => ?_)
    refine lv_if_eq (tgt := 73) hx hb dX0_sum_66 (by decide) (fun c_66 => ?_) (fun c_66 => ?_)
    · have hF := hF.trans (if_pos c_66)
      refine lv_iload_n hx hb dX0_sum_73 rfl (lv_at hl 2 rfl) ?_
      exact g_iret F hX (lx_S hF) dX0_sum_74
    · have hF := hF.trans (if_neg c_66)
      refine lv_iload_n hx hb dX0_sum_69 rfl (lv_at hl 1 rfl) ?_
      refine lv_goto (tgt := 74) hx hb dX0_sum_70 (by decide) ?_
      exact g_iret F hX (lx_S hF) dX0_sum_74
  have K_35 : ∀ (no_ : Int32) (sg_ : Int32) (fr_ : Int64) (ex_ : Int32) (H : Heap) (locs : List Loc) (ls : Array Slot), ((fx_isNone x1) = 0) → ((fx_isNone x2) = 0) → fx_sum mo no x1 x2 = fx_sum_b35 x1 x2 no_ → g_At (wX h) D A s (mo, no_, st, sg_, fr_, ex_) H locs → lv_has ls 7 [(0, .ref h), (1, .int x1), (2, .int x2)] → W p l e (rmK 4) s m args below meth c H locs 0 0 (MQ below (va_Qi (px_S (fx_sum mo no x1 x2) mo st) (g_B (wX h) [] D A) A) args s 0 0 A) (F0 m 35 ls []) := by
    intro no_ sg_ fr_ ex_ H locs ls f35_0 f35_1 hF hX hl
    have hF := hF.trans (fx_sum_b35.eq_1 x1 x2 no_)
    refine lv_aload_n hx hb dX0_sum_35 rfl (lv_at hl 0 rfl) ?_
    refine lv_iload_n hx hb dX0_sum_36 rfl (lv_at hl 1 rfl) ?_
    refine x_callP (rest := []) F hX (cx_isInfinite l D h mo no_ st sg_ fr_ ex_ x1) cq_x_isInfinite rfl ⟨rfl, rfl⟩ (by decide) rfl hl.1 rfl (Nat.le_of_ble_eq_true rfl) dX0_sum_37 (fun H locs hX => ?_)
    refine lv_if_eq (tgt := 61) hx hb dX0_sum_40 (by decide) (fun c_40 => ?_) (fun c_40 => ?_)
    · have hF := hF.trans (if_pos c_40)
      exact K_61 no_ sg_ fr_ ex_ _ _ _ f35_0 f35_1 hF hX (lv_sub hl [0, 1, 2] rfl)
    · have hF := hF.trans (if_neg c_40)
      refine lv_aload_n hx hb dX0_sum_43 rfl (lv_at hl 0 rfl) ?_
      refine lv_iload_n hx hb dX0_sum_44 rfl (lv_at hl 2 rfl) ?_
      refine x_callP (rest := []) F hX (cx_isInfinite l D h mo no_ st sg_ fr_ ex_ x2) cq_x_isInfinite rfl ⟨rfl, rfl⟩ (by decide) rfl hl.1 rfl (Nat.le_of_ble_eq_true rfl) dX0_sum_45 (fun H locs hX => ?_)
      refine lv_if_eq (tgt := 61) hx hb dX0_sum_48 (by decide) (fun c_48 => ?_) (fun c_48 => ?_)
      · have hF := hF.trans (if_pos c_48)
        exact K_61 no_ sg_ fr_ ex_ _ _ _ f35_0 f35_1 hF hX (lv_sub hl [0, 1, 2] rfl)
      · have hF := hF.trans (if_neg c_48)
        refine lv_iload_n hx hb dX0_sum_51 rfl (lv_at hl 1 rfl) ?_
        refine lv_iload_n hx hb dX0_sum_52 rfl (lv_at hl 2 rfl) ?_
        refine lv_icmp_eq (tgt := 61) hx hb dX0_sum_53 (by decide) (fun c_53 => ?_) (fun c_53 => ?_)
        · have hF := hF.trans (if_pos c_53)
          exact K_61 no_ sg_ fr_ ex_ _ _ _ f35_0 f35_1 hF hX (lv_sub hl [0, 1, 2] rfl)
        · have hF := hF.trans (if_neg c_53)
          refine lv_aload_n hx hb dX0_sum_56 rfl (lv_at hl 0 rfl) ?_
          refine x_call (rest := []) F hX (cx_senseless l D h mo no_ st sg_ fr_ ex_) cq_x_senseless rfl ⟨rfl, rfl⟩ (by decide) rfl hl.1 rfl (Nat.le_of_ble_eq_true rfl) dX0_sum_57 (fun r u' H locs hq hX => ?_)
          obtain ⟨sg_57, fr_57, ex_57, rfl, rfl⟩ := hq
          exact g_iret F hX (lx_S hF) dX0_sum_60
  have hF := fx_sum.eq_1 mo no x1 x2
  refine lv_aload_n hx hb dX0_sum_0 rfl (lv_at hl 0 rfl) ?_
  refine lv_iload_n hx hb dX0_sum_1 rfl (lv_at hl 1 rfl) ?_
  refine x_callP (rest := []) F hX (cx_isNone l D h mo no st sg fr ex x1) cq_x_isNone rfl ⟨rfl, rfl⟩ (by decide) rfl hl.1 rfl (Nat.le_of_ble_eq_true rfl) dX0_sum_2 (fun H locs hX => ?_)
  refine lv_if_ne (tgt := 16) hx hb dX0_sum_5 (by decide) (fun c_5 => ?_) (fun c_5 => ?_)
  · have hF := hF.trans (if_neg c_5)
    refine lv_bipush (v := 124) hx hb dX0_sum_16 (by decide) ?_
    exact g_iret F hX (lx_S hF) dX0_sum_18
  · have hF := hF.trans (if_pos c_5)
    refine lv_aload_n hx hb dX0_sum_8 rfl (lv_at hl 0 rfl) ?_
    refine lv_iload_n hx hb dX0_sum_9 rfl (lv_at hl 2 rfl) ?_
    refine x_callP (rest := []) F hX (cx_isNone l D h mo no st sg fr ex x2) cq_x_isNone rfl ⟨rfl, rfl⟩ (by decide) rfl hl.1 rfl (Nat.le_of_ble_eq_true rfl) dX0_sum_10 (fun H locs hX => ?_)
    refine lv_if_eq (tgt := 19) hx hb dX0_sum_13 (by decide) (fun c_13 => ?_) (fun c_13 => ?_)
    · have hF := hF.trans (if_pos c_13)
      refine lv_aload_n hx hb dX0_sum_19 rfl (lv_at hl 0 rfl) ?_
      refine lv_iload_n hx hb dX0_sum_20 rfl (lv_at hl 1 rfl) ?_
      refine x_callP (rest := []) F hX (cx_isInfinite l D h mo no st sg fr ex x1) cq_x_isInfinite rfl ⟨rfl, rfl⟩ (by decide) rfl hl.1 rfl (Nat.le_of_ble_eq_true rfl) dX0_sum_21 (fun H locs hX => ?_)
      refine lv_if_ne (tgt := 35) hx hb dX0_sum_24 (by decide) (fun c_24 => ?_) (fun c_24 => ?_)
      · have hF := hF.trans (if_neg c_24)
        exact K_35 no sg fr ex _ _ _ c_5 c_13 hF hX (lv_sub hl [0, 1, 2] rfl)
      · have hF := hF.trans (if_pos c_24)
        refine lv_aload_n hx hb dX0_sum_27 rfl (lv_at hl 0 rfl) ?_
        refine lv_iload_n hx hb dX0_sum_28 rfl (lv_at hl 2 rfl) ?_
        refine x_callP (rest := []) F hX (cx_isInfinite l D h mo no st sg fr ex x2) cq_x_isInfinite rfl ⟨rfl, rfl⟩ (by decide) rfl hl.1 rfl (Nat.le_of_ble_eq_true rfl) dX0_sum_29 (fun H locs hX => ?_)
        refine lv_if_eq (tgt := 75) hx hb dX0_sum_32 (by decide) (fun c_32 => ?_) (fun c_32 => ?_)
        · have hF := hF.trans (if_pos c_32)
          refine lv_aload_n hx hb dX0_sum_75 rfl (lv_at hl 0 rfl) ?_
          refine lv_iload_n hx hb dX0_sum_76 rfl (lv_at hl 1 rfl) ?_
          refine x_callV (rest := []) F hX (cx_unpack l D h mo no st sg fr ex x1) cq_x_unpack rfl ⟨rfl, rfl⟩ (by decide) rfl hl.1 rfl (Nat.le_of_ble_eq_true rfl) dX0_sum_77 (fun u' H locs hq hX => ?_)
          obtain rfl := hq
          refine lv_aload_n hx hb dX0_sum_80 rfl (lv_at hl 0 rfl) ?_
          refine x_get F hX 3 (by decide) q43 rfl rfl dX0_sum_81 ?_
          refine lv_istore_n (lv' := [(3, .int (fx_unpack x1).1), (0, .ref h), (1, .int x1), (2, .int x2)]) hx hb dX0_sum_84 rfl hl (by decide) rfl (fun ls hl => ?_)
          refine lv_aload_n hx hb dX0_sum_85 rfl (lv_at hl 1 rfl) ?_
          refine x_get F hX 4 (by decide) q44 rfl rfl dX0_sum_86 ?_
          refine lv_lstore (lv' := [(4, .long (fx_unpack x1).2.1), (3, .int (fx_unpack x1).1), (0, .ref h), (1, .int x1), (2, .int x2)]) hx hb dX0_sum_89 hl (by decide) rfl (fun ls hl => ?_)
          refine lv_aload_n hx hb dX0_sum_91 rfl (lv_at hl 2 rfl) ?_
          refine x_get F hX 5 (by decide) q45 rfl rfl dX0_sum_92 ?_
          refine lv_istore (lv' := [(6, .int (fx_unpack x1).2.2), (4, .long (fx_unpack x1).2.1), (3, .int (fx_unpack x1).1), (0, .ref h), (1, .int x1), (2, .int x2)]) hx hb dX0_sum_95 hl (by decide) rfl (fun ls hl => ?_)
          refine lv_aload_n hx hb dX0_sum_97 rfl (lv_at hl 3 rfl) ?_
          refine lv_iload_n hx hb dX0_sum_98 rfl (lv_at hl 5 rfl) ?_
          refine x_callV (rest := []) F hX (cx_unpack l D h mo no st ((fx_unpack x1).1) ((fx_unpack x1).2.1) ((fx_unpack x1).2.2) x2) cq_x_unpack rfl ⟨rfl, rfl⟩ (by decide) rfl hl.1 rfl (Nat.le_of_ble_eq_true rfl) dX0_sum_99 (fun u' H locs hq hX => ?_)
          obtain rfl := hq
          refine lv_lload hx hb dX0_sum_102 (lv_at hl 1 rfl) ?_
          refine lv_lconst (v := 0) hx hb dX0_sum_104 (by decide) ?_
          refine ll_ne (tgt := 128) hx hb dX0_sum_105 dX0_sum_106 (by decide) (fun c_105 => ?_) (fun c_105 => ?_)
          · have hF := hF.trans (if_neg c_105)
            refine lv_aload_n hx hb dX0_sum_128 rfl (lv_at hl 3 rfl) ?_
            refine lv_iload_n hx hb dX0_sum_129 rfl (lv_at hl 2 rfl) ?_
            refine lv_lload hx hb dX0_sum_130 (lv_at hl 1 rfl) ?_
            refine lv_iload hx hb dX0_sum_132 (lv_at hl 0 rfl) ?_
            refine x_call (rest := []) F hX (cx_addUp l D h mo no st ((fx_unpack x2).1) ((fx_unpack x2).2.1) ((fx_unpack x2).2.2) ((fx_unpack x1).1) ((fx_unpack x1).2.1) ((fx_unpack x1).2.2)) cq_x_addUp rfl ⟨rfl, rfl⟩ (by decide) rfl hl.1 rfl (Nat.le_of_ble_eq_true rfl) dX0_sum_134 (fun r u' H locs hq hX => ?_)
            obtain ⟨sg_134, fr_134, ex_134, rfl, rfl⟩ := hq
            exact g_iret F hX (lx_S hF) dX0_sum_137
          · have hF := hF.trans (if_pos c_105)
            refine lv_aload_n hx hb dX0_sum_109 rfl (lv_at hl 3 rfl) ?_
            refine x_get F hX 4 (by decide) q44 rfl rfl dX0_sum_110 ?_
            refine lv_lconst (v := 0) hx hb dX0_sum_113 (by decide) ?_
            refine ll_ne (tgt := 128) hx hb dX0_sum_114 dX0_sum_115 (by decide) (fun c_114 => ?_) (fun c_114 => ?_)
            · have hF := hF.trans (if_neg c_114)
              refine lv_aload_n hx hb dX0_sum_128 rfl (lv_at hl 3 rfl) ?_
              refine lv_iload_n hx hb dX0_sum_129 rfl (lv_at hl 2 rfl) ?_
              refine lv_lload hx hb dX0_sum_130 (lv_at hl 1 rfl) ?_
              refine lv_iload hx hb dX0_sum_132 (lv_at hl 0 rfl) ?_
              refine x_call (rest := []) F hX (cx_addUp l D h mo no st ((fx_unpack x2).1) ((fx_unpack x2).2.1) ((fx_unpack x2).2.2) ((fx_unpack x1).1) ((fx_unpack x1).2.1) ((fx_unpack x1).2.2)) cq_x_addUp rfl ⟨rfl, rfl⟩ (by decide) rfl hl.1 rfl (Nat.le_of_ble_eq_true rfl) dX0_sum_134 (fun r u' H locs hq hX => ?_)
              obtain ⟨sg_134, fr_134, ex_134, rfl, rfl⟩ := hq
              exact g_iret F hX (lx_S hF) dX0_sum_137
            · have hF := hF.trans (if_pos c_114)
              refine lv_aload_n hx hb dX0_sum_118 rfl (lv_at hl 3 rfl) ?_
              refine lv_iload_n hx hb dX0_sum_119 rfl (lv_at hl 2 rfl) ?_
              refine lv_aload_n hx hb dX0_sum_120 rfl (lv_at hl 3 rfl) ?_
              refine x_get F hX 3 (by decide) q43 rfl rfl dX0_sum_121 ?_
              refine x_callP (rest := []) F hX (cx_zeroSum l D h mo no st ((fx_unpack x2).1) ((fx_unpack x2).2.1) ((fx_unpack x2).2.2) ((fx_unpack x1).1) ((fx_unpack x2).1)) cq_x_zeroSum rfl ⟨rfl, rfl⟩ (by decide) rfl hl.1 rfl (Nat.le_of_ble_eq_true rfl) dX0_sum_124 (fun H locs hX => ?_)
              exact g_iret F hX (lx_S hF) dX0_sum_127
        · have hF := hF.trans (if_neg c_32)
          exact K_35 no sg fr ex _ _ _ c_5 c_13 hF hX (lv_sub hl [0, 1, 2] rfl)
    · have hF := hF.trans (if_neg c_13)
      refine lv_bipush (v := 124) hx hb dX0_sum_16 (by decide) ?_
      exact g_iret F hX (lx_S hF) dX0_sum_18
def fx_productSum_b51 (x1 : Int32) (x2 : Int32) (x3 : Int32) (x4 : Int32) (no_ : Int32) : Int32 × Int32 :=
  (if (fx_isZero x1) = 0 then (if (fx_isZero x2) = 0 then (if (fx_isInfinite x3) = 0 then (((x4 * 128) + 120), no_) else (if (x3 >>> (7 &&& 31)) = x4 then (((x4 * 128) + 120), no_) else ((fx_senseless no_).1, (fx_senseless no_).2))) else ((fx_senseless no_).1, (fx_senseless no_).2)) else ((fx_senseless no_).1, (fx_senseless no_).2))
def fx_productSum (mo : Int32) (no : Int32) (x1 : Int32) (x2 : Int32) (x3 : Int32) : Int32 × Int32 :=
  (if (fx_isNone x1) = 0 then (if (fx_isNone x2) = 0 then (if (fx_isNone x3) = 0 then (if (fx_isInfinite x1) = 0 then (if (fx_isInfinite x2) = 0 then (if (fx_isInfinite x3) = 0 then (if ((fx_unpack x1).2.1 * (fx_unpack x2).2.1) = 0 then (if (fx_unpack x3).2.1 = 0 then ((fx_zeroSum mo ((x1 ^^^ x2) >>> (7 &&& 31)) ((fx_unpack x3).1)), no) else ((fx_addUp mo no ((fx_unpack x3).1) ((fx_unpack x3).2.1) ((fx_unpack x3).2.2) ((x1 ^^^ x2) >>> (7 &&& 31)) ((fx_unpack x1).2.1 * (fx_unpack x2).2.1) (((fx_unpack x1).2.2 + (fx_unpack x2).2.2) - 9)).1, (fx_addUp mo no ((fx_unpack x3).1) ((fx_unpack x3).2.1) ((fx_unpack x3).2.2) ((x1 ^^^ x2) >>> (7 &&& 31)) ((fx_unpack x1).2.1 * (fx_unpack x2).2.1) (((fx_unpack x1).2.2 + (fx_unpack x2).2.2) - 9)).2)) else ((fx_addUp mo no ((fx_unpack x3).1) ((fx_unpack x3).2.1) ((fx_unpack x3).2.2) ((x1 ^^^ x2) >>> (7 &&& 31)) ((fx_unpack x1).2.1 * (fx_unpack x2).2.1) (((fx_unpack x1).2.2 + (fx_unpack x2).2.2) - 9)).1, (fx_addUp mo no ((fx_unpack x3).1) ((fx_unpack x3).2.1) ((fx_unpack x3).2.2) ((x1 ^^^ x2) >>> (7 &&& 31)) ((fx_unpack x1).2.1 * (fx_unpack x2).2.1) (((fx_unpack x1).2.2 + (fx_unpack x2).2.2) - 9)).2)) else (x3, no)) else fx_productSum_b51 x1 x2 x3 ((x1 ^^^ x2) >>> (7 &&& 31)) no) else fx_productSum_b51 x1 x2 x3 ((x1 ^^^ x2) >>> (7 &&& 31)) no) else (124, no)) else (124, no)) else (124, no))
set_option maxHeartbeats 8000000 in
set_option maxRecDepth 100000 in
theorem cx_productSum (l : Launch) (D : va_G) (h : Nat) (mo : Int32) (no : Int32) (st : Int32) (sg : Int32) (fr : Int64) (ex : Int32) (x1 : Int32) (x2 : Int32) (x3 : Int32)  : g_Met l yX0_productSum cX0_productSum 8 (some .int) (rmK 4) (wX h) [] D (mo, no, st, sg, fr, ex) [.ref h, .int x1, .int x2, .int x3] (px_S (fx_productSum mo no x1 x2 x3) mo st) := by
  refine g_enter (by decide) (Nat.le_of_ble_eq_true rfl) (fun p e s m args below meth c A ls F hX hl => ?_)
  have hx := F.1
  have hb := F.2.1
  generalize hH0 : s.heap = H at hX ⊢
  generalize ([] : List Loc) = locs at hX ⊢
  have hl : lv_has ls 8 [(0, .ref h), (1, .int x1), (2, .int x2), (3, .int x3)] := hl
  clear hH0
  have K_51 : ∀ (x4 : Int32) (no_ : Int32) (sg_ : Int32) (fr_ : Int64) (ex_ : Int32) (H : Heap) (locs : List Loc) (ls : Array Slot), ((fx_isNone x1) = 0) → ((fx_isNone x2) = 0) → ((fx_isNone x3) = 0) → fx_productSum mo no x1 x2 x3 = fx_productSum_b51 x1 x2 x3 x4 no_ → g_At (wX h) D A s (mo, no_, st, sg_, fr_, ex_) H locs → lv_has ls 8 [(0, .ref h), (1, .int x1), (2, .int x2), (3, .int x3), (4, .int x4)] → W p l e (rmK 4) s m args below meth c H locs 0 0 (MQ below (va_Qi (px_S (fx_productSum mo no x1 x2 x3) mo st) (g_B (wX h) [] D A) A) args s 0 0 A) (F0 m 51 ls []) := by
    intro x4 no_ sg_ fr_ ex_ H locs ls f51_0 f51_1 f51_2 hF hX hl
    have hF := hF.trans (fx_productSum_b51.eq_1 x1 x2 x3 x4 no_)
    refine lv_aload_n hx hb dX0_productSum_51 rfl (lv_at hl 0 rfl) ?_
    refine lv_iload_n hx hb dX0_productSum_52 rfl (lv_at hl 1 rfl) ?_
    refine x_callP (rest := []) F hX (cx_isZero l D h mo no_ st sg_ fr_ ex_ x1) cq_x_isZero rfl ⟨rfl, rfl⟩ (by decide) rfl hl.1 rfl (Nat.le_of_ble_eq_true rfl) dX0_productSum_53 (fun H locs hX => ?_)
    refine lv_if_ne (tgt := 84) hx hb dX0_productSum_56 (by decide) (fun c_56 => ?_) (fun c_56 => ?_)
    · have hF := hF.trans (if_neg c_56)
      refine lv_aload_n hx hb dX0_productSum_84 rfl (lv_at hl 0 rfl) ?_
      refine x_call (rest := []) F hX (cx_senseless l D h mo no_ st sg_ fr_ ex_) cq_x_senseless rfl ⟨rfl, rfl⟩ (by decide) rfl hl.1 rfl (Nat.le_of_ble_eq_true rfl) dX0_productSum_85 (fun r u' H locs hq hX => ?_)
      obtain ⟨sg_85, fr_85, ex_85, rfl, rfl⟩ := hq
      exact g_iret F hX (lx_S hF) dX0_productSum_88
    · have hF := hF.trans (if_pos c_56)
      refine lv_aload_n hx hb dX0_productSum_59 rfl (lv_at hl 0 rfl) ?_
      refine lv_iload_n hx hb dX0_productSum_60 rfl (lv_at hl 2 rfl) ?_
      refine x_callP (rest := []) F hX (cx_isZero l D h mo no_ st sg_ fr_ ex_ x2) cq_x_isZero rfl ⟨rfl, rfl⟩ (by decide) rfl hl.1 rfl (Nat.le_of_ble_eq_true rfl) dX0_productSum_61 (fun H locs hX => ?_)
      refine lv_if_ne (tgt := 84) hx hb dX0_productSum_64 (by decide) (fun c_64 => ?_) (fun c_64 => ?_)
      · have hF := hF.trans (if_neg c_64)
        refine lv_aload_n hx hb dX0_productSum_84 rfl (lv_at hl 0 rfl) ?_
        refine x_call (rest := []) F hX (cx_senseless l D h mo no_ st sg_ fr_ ex_) cq_x_senseless rfl ⟨rfl, rfl⟩ (by decide) rfl hl.1 rfl (Nat.le_of_ble_eq_true rfl) dX0_productSum_85 (fun r u' H locs hq hX => ?_)
        obtain ⟨sg_85, fr_85, ex_85, rfl, rfl⟩ := hq
        exact g_iret F hX (lx_S hF) dX0_productSum_88
      · have hF := hF.trans (if_pos c_64)
        refine lv_aload_n hx hb dX0_productSum_67 rfl (lv_at hl 0 rfl) ?_
        refine lv_iload_n hx hb dX0_productSum_68 rfl (lv_at hl 3 rfl) ?_
        refine x_callP (rest := []) F hX (cx_isInfinite l D h mo no_ st sg_ fr_ ex_ x3) cq_x_isInfinite rfl ⟨rfl, rfl⟩ (by decide) rfl hl.1 rfl (Nat.le_of_ble_eq_true rfl) dX0_productSum_69 (fun H locs hX => ?_)
        refine lv_if_eq (tgt := 89) hx hb dX0_productSum_72 (by decide) (fun c_72 => ?_) (fun c_72 => ?_)
        · have hF := hF.trans (if_pos c_72)
          refine lv_iload hx hb dX0_productSum_89 (lv_at hl 4 rfl) ?_
          refine lv_sipush (v := 128) hx hb dX0_productSum_91 (by decide) ?_
          refine lv_imul hx hb dX0_productSum_94 ?_
          refine lv_bipush (v := 120) hx hb dX0_productSum_95 (by decide) ?_
          refine lv_iadd hx hb dX0_productSum_97 ?_
          exact g_iret F hX (lx_S hF) dX0_productSum_98
        · have hF := hF.trans (if_neg c_72)
          refine lv_iload_n hx hb dX0_productSum_75 rfl (lv_at hl 3 rfl) ?_
          refine lv_bipush (v := 7) hx hb dX0_productSum_76 (by decide) ?_
          refine lv_ishr hx hb dX0_productSum_78 ?_
          refine lv_iload hx hb dX0_productSum_79 (lv_at hl 4 rfl) ?_
          refine lv_icmp_eq (tgt := 89) hx hb dX0_productSum_81 (by decide) (fun c_81 => ?_) (fun c_81 => ?_)
          · have hF := hF.trans (if_pos c_81)
            refine lv_iload hx hb dX0_productSum_89 (lv_at hl 4 rfl) ?_
            refine lv_sipush (v := 128) hx hb dX0_productSum_91 (by decide) ?_
            refine lv_imul hx hb dX0_productSum_94 ?_
            refine lv_bipush (v := 120) hx hb dX0_productSum_95 (by decide) ?_
            refine lv_iadd hx hb dX0_productSum_97 ?_
            exact g_iret F hX (lx_S hF) dX0_productSum_98
          · have hF := hF.trans (if_neg c_81)
            refine lv_aload_n hx hb dX0_productSum_84 rfl (lv_at hl 0 rfl) ?_
            refine x_call (rest := []) F hX (cx_senseless l D h mo no_ st sg_ fr_ ex_) cq_x_senseless rfl ⟨rfl, rfl⟩ (by decide) rfl hl.1 rfl (Nat.le_of_ble_eq_true rfl) dX0_productSum_85 (fun r u' H locs hq hX => ?_)
            obtain ⟨sg_85, fr_85, ex_85, rfl, rfl⟩ := hq
            exact g_iret F hX (lx_S hF) dX0_productSum_88
  have hF := fx_productSum.eq_1 mo no x1 x2 x3
  refine lv_aload_n hx hb dX0_productSum_0 rfl (lv_at hl 0 rfl) ?_
  refine lv_iload_n hx hb dX0_productSum_1 rfl (lv_at hl 1 rfl) ?_
  refine x_callP (rest := []) F hX (cx_isNone l D h mo no st sg fr ex x1) cq_x_isNone rfl ⟨rfl, rfl⟩ (by decide) rfl hl.1 rfl (Nat.le_of_ble_eq_true rfl) dX0_productSum_2 (fun H locs hX => ?_)
  refine lv_if_ne (tgt := 24) hx hb dX0_productSum_5 (by decide) (fun c_5 => ?_) (fun c_5 => ?_)
  · have hF := hF.trans (if_neg c_5)
    refine lv_bipush (v := 124) hx hb dX0_productSum_24 (by decide) ?_
    exact g_iret F hX (lx_S hF) dX0_productSum_26
  · have hF := hF.trans (if_pos c_5)
    refine lv_aload_n hx hb dX0_productSum_8 rfl (lv_at hl 0 rfl) ?_
    refine lv_iload_n hx hb dX0_productSum_9 rfl (lv_at hl 2 rfl) ?_
    refine x_callP (rest := []) F hX (cx_isNone l D h mo no st sg fr ex x2) cq_x_isNone rfl ⟨rfl, rfl⟩ (by decide) rfl hl.1 rfl (Nat.le_of_ble_eq_true rfl) dX0_productSum_10 (fun H locs hX => ?_)
    refine lv_if_ne (tgt := 24) hx hb dX0_productSum_13 (by decide) (fun c_13 => ?_) (fun c_13 => ?_)
    · have hF := hF.trans (if_neg c_13)
      refine lv_bipush (v := 124) hx hb dX0_productSum_24 (by decide) ?_
      exact g_iret F hX (lx_S hF) dX0_productSum_26
    · have hF := hF.trans (if_pos c_13)
      refine lv_aload_n hx hb dX0_productSum_16 rfl (lv_at hl 0 rfl) ?_
      refine lv_iload_n hx hb dX0_productSum_17 rfl (lv_at hl 3 rfl) ?_
      refine x_callP (rest := []) F hX (cx_isNone l D h mo no st sg fr ex x3) cq_x_isNone rfl ⟨rfl, rfl⟩ (by decide) rfl hl.1 rfl (Nat.le_of_ble_eq_true rfl) dX0_productSum_18 (fun H locs hX => ?_)
      refine lv_if_eq (tgt := 27) hx hb dX0_productSum_21 (by decide) (fun c_21 => ?_) (fun c_21 => ?_)
      · have hF := hF.trans (if_pos c_21)
        refine lv_iload_n hx hb dX0_productSum_27 rfl (lv_at hl 1 rfl) ?_
        refine lv_iload_n hx hb dX0_productSum_28 rfl (lv_at hl 2 rfl) ?_
        refine lv_ixor hx hb dX0_productSum_29 ?_
        refine lv_bipush (v := 7) hx hb dX0_productSum_30 (by decide) ?_
        refine lv_ishr hx hb dX0_productSum_32 ?_
        refine lv_istore (lv' := [(4, .int ((x1 ^^^ x2) >>> (7 &&& 31))), (0, .ref h), (1, .int x1), (2, .int x2), (3, .int x3)]) hx hb dX0_productSum_33 hl (by decide) rfl (fun ls hl => ?_)
        refine lv_aload_n hx hb dX0_productSum_35 rfl (lv_at hl 1 rfl) ?_
        refine lv_iload_n hx hb dX0_productSum_36 rfl (lv_at hl 2 rfl) ?_
        refine x_callP (rest := []) F hX (cx_isInfinite l D h mo no st sg fr ex x1) cq_x_isInfinite rfl ⟨rfl, rfl⟩ (by decide) rfl hl.1 rfl (Nat.le_of_ble_eq_true rfl) dX0_productSum_37 (fun H locs hX => ?_)
        refine lv_if_ne (tgt := 51) hx hb dX0_productSum_40 (by decide) (fun c_40 => ?_) (fun c_40 => ?_)
        · have hF := hF.trans (if_neg c_40)
          exact K_51 ((x1 ^^^ x2) >>> (7 &&& 31)) no sg fr ex _ _ _ c_5 c_13 c_21 hF hX (lv_sub hl [1, 2, 3, 4, 0] rfl)
        · have hF := hF.trans (if_pos c_40)
          refine lv_aload_n hx hb dX0_productSum_43 rfl (lv_at hl 1 rfl) ?_
          refine lv_iload_n hx hb dX0_productSum_44 rfl (lv_at hl 3 rfl) ?_
          refine x_callP (rest := []) F hX (cx_isInfinite l D h mo no st sg fr ex x2) cq_x_isInfinite rfl ⟨rfl, rfl⟩ (by decide) rfl hl.1 rfl (Nat.le_of_ble_eq_true rfl) dX0_productSum_45 (fun H locs hX => ?_)
          refine lv_if_eq (tgt := 99) hx hb dX0_productSum_48 (by decide) (fun c_48 => ?_) (fun c_48 => ?_)
          · have hF := hF.trans (if_pos c_48)
            refine lv_aload_n hx hb dX0_productSum_99 rfl (lv_at hl 1 rfl) ?_
            refine lv_iload_n hx hb dX0_productSum_100 rfl (lv_at hl 4 rfl) ?_
            refine x_callP (rest := []) F hX (cx_isInfinite l D h mo no st sg fr ex x3) cq_x_isInfinite rfl ⟨rfl, rfl⟩ (by decide) rfl hl.1 rfl (Nat.le_of_ble_eq_true rfl) dX0_productSum_101 (fun H locs hX => ?_)
            refine lv_if_eq (tgt := 109) hx hb dX0_productSum_104 (by decide) (fun c_104 => ?_) (fun c_104 => ?_)
            · have hF := hF.trans (if_pos c_104)
              refine lv_aload_n hx hb dX0_productSum_109 rfl (lv_at hl 1 rfl) ?_
              refine lv_iload_n hx hb dX0_productSum_110 rfl (lv_at hl 2 rfl) ?_
              refine x_callV (rest := []) F hX (cx_unpack l D h mo no st sg fr ex x1) cq_x_unpack rfl ⟨rfl, rfl⟩ (by decide) rfl hl.1 rfl (Nat.le_of_ble_eq_true rfl) dX0_productSum_111 (fun u' H locs hq hX => ?_)
              obtain rfl := hq
              refine lv_aload_n hx hb dX0_productSum_114 rfl (lv_at hl 1 rfl) ?_
              refine x_get F hX 4 (by decide) q44 rfl rfl dX0_productSum_115 ?_
              refine lv_lstore (lv' := [(5, .long (fx_unpack x1).2.1), (4, .int ((x1 ^^^ x2) >>> (7 &&& 31))), (0, .ref h), (1, .int x1), (2, .int x2), (3, .int x3)]) hx hb dX0_productSum_118 hl (by decide) rfl (fun ls hl => ?_)
              refine lv_aload_n hx hb dX0_productSum_120 rfl (lv_at hl 2 rfl) ?_
              refine x_get F hX 5 (by decide) q45 rfl rfl dX0_productSum_121 ?_
              refine lv_istore (lv' := [(7, .int (fx_unpack x1).2.2), (5, .long (fx_unpack x1).2.1), (4, .int ((x1 ^^^ x2) >>> (7 &&& 31))), (0, .ref h), (1, .int x1), (2, .int x2), (3, .int x3)]) hx hb dX0_productSum_124 hl (by decide) rfl (fun ls hl => ?_)
              refine lv_aload_n hx hb dX0_productSum_126 rfl (lv_at hl 3 rfl) ?_
              refine lv_iload_n hx hb dX0_productSum_127 rfl (lv_at hl 5 rfl) ?_
              refine x_callV (rest := []) F hX (cx_unpack l D h mo no st ((fx_unpack x1).1) ((fx_unpack x1).2.1) ((fx_unpack x1).2.2) x2) cq_x_unpack rfl ⟨rfl, rfl⟩ (by decide) rfl hl.1 rfl (Nat.le_of_ble_eq_true rfl) dX0_productSum_128 (fun u' H locs hq hX => ?_)
              obtain rfl := hq
              refine lv_lload hx hb dX0_productSum_131 (lv_at hl 1 rfl) ?_
              refine lv_aload_n hx hb dX0_productSum_133 rfl (lv_at hl 3 rfl) ?_
              refine x_get F hX 4 (by decide) q44 rfl rfl dX0_productSum_134 ?_
              refine lv_lmul hx hb dX0_productSum_137 ?_
              refine lv_lstore (lv' := [(5, .long ((fx_unpack x1).2.1 * (fx_unpack x2).2.1)), (7, .int (fx_unpack x1).2.2), (4, .int ((x1 ^^^ x2) >>> (7 &&& 31))), (0, .ref h), (1, .int x1), (2, .int x2), (3, .int x3)]) hx hb dX0_productSum_138 hl (by decide) rfl (fun ls hl => ?_)
              refine lv_iload hx hb dX0_productSum_140 (lv_at hl 1 rfl) ?_
              refine lv_aload_n hx hb dX0_productSum_142 rfl (lv_at hl 3 rfl) ?_
              refine x_get F hX 5 (by decide) q45 rfl rfl dX0_productSum_143 ?_
              refine lv_iadd hx hb dX0_productSum_146 ?_
              refine lv_bipush (v := 9) hx hb dX0_productSum_147 (by decide) ?_
              refine lv_isub hx hb dX0_productSum_149 ?_
              refine lv_istore (lv' := [(7, .int (((fx_unpack x1).2.2 + (fx_unpack x2).2.2) - 9)), (5, .long ((fx_unpack x1).2.1 * (fx_unpack x2).2.1)), (4, .int ((x1 ^^^ x2) >>> (7 &&& 31))), (0, .ref h), (1, .int x1), (2, .int x2), (3, .int x3)]) hx hb dX0_productSum_150 hl (by decide) rfl (fun ls hl => ?_)
              refine lv_aload_n hx hb dX0_productSum_152 rfl (lv_at hl 3 rfl) ?_
              refine lv_iload_n hx hb dX0_productSum_153 rfl (lv_at hl 6 rfl) ?_
              refine x_callV (rest := []) F hX (cx_unpack l D h mo no st ((fx_unpack x2).1) ((fx_unpack x2).2.1) ((fx_unpack x2).2.2) x3) cq_x_unpack rfl ⟨rfl, rfl⟩ (by decide) rfl hl.1 rfl (Nat.le_of_ble_eq_true rfl) dX0_productSum_154 (fun u' H locs hq hX => ?_)
              obtain rfl := hq
              refine lv_lload hx hb dX0_productSum_157 (lv_at hl 1 rfl) ?_
              refine lv_lconst (v := 0) hx hb dX0_productSum_159 (by decide) ?_
              refine ll_ne (tgt := 184) hx hb dX0_productSum_160 dX0_productSum_161 (by decide) (fun c_160 => ?_) (fun c_160 => ?_)
              · have hF := hF.trans (if_neg c_160)
                refine lv_aload_n hx hb dX0_productSum_184 rfl (lv_at hl 3 rfl) ?_
                refine lv_iload hx hb dX0_productSum_185 (lv_at hl 2 rfl) ?_
                refine lv_lload hx hb dX0_productSum_187 (lv_at hl 1 rfl) ?_
                refine lv_iload hx hb dX0_productSum_189 (lv_at hl 0 rfl) ?_
                refine x_call (rest := []) F hX (cx_addUp l D h mo no st ((fx_unpack x3).1) ((fx_unpack x3).2.1) ((fx_unpack x3).2.2) ((x1 ^^^ x2) >>> (7 &&& 31)) ((fx_unpack x1).2.1 * (fx_unpack x2).2.1) (((fx_unpack x1).2.2 + (fx_unpack x2).2.2) - 9)) cq_x_addUp rfl ⟨rfl, rfl⟩ (by decide) rfl hl.1 rfl (Nat.le_of_ble_eq_true rfl) dX0_productSum_191 (fun r u' H locs hq hX => ?_)
                obtain ⟨sg_191, fr_191, ex_191, rfl, rfl⟩ := hq
                exact g_iret F hX (lx_S hF) dX0_productSum_194
              · have hF := hF.trans (if_pos c_160)
                refine lv_aload_n hx hb dX0_productSum_164 rfl (lv_at hl 3 rfl) ?_
                refine x_get F hX 4 (by decide) q44 rfl rfl dX0_productSum_165 ?_
                refine lv_lconst (v := 0) hx hb dX0_productSum_168 (by decide) ?_
                refine ll_ne (tgt := 184) hx hb dX0_productSum_169 dX0_productSum_170 (by decide) (fun c_169 => ?_) (fun c_169 => ?_)
                · have hF := hF.trans (if_neg c_169)
                  refine lv_aload_n hx hb dX0_productSum_184 rfl (lv_at hl 3 rfl) ?_
                  refine lv_iload hx hb dX0_productSum_185 (lv_at hl 2 rfl) ?_
                  refine lv_lload hx hb dX0_productSum_187 (lv_at hl 1 rfl) ?_
                  refine lv_iload hx hb dX0_productSum_189 (lv_at hl 0 rfl) ?_
                  refine x_call (rest := []) F hX (cx_addUp l D h mo no st ((fx_unpack x3).1) ((fx_unpack x3).2.1) ((fx_unpack x3).2.2) ((x1 ^^^ x2) >>> (7 &&& 31)) ((fx_unpack x1).2.1 * (fx_unpack x2).2.1) (((fx_unpack x1).2.2 + (fx_unpack x2).2.2) - 9)) cq_x_addUp rfl ⟨rfl, rfl⟩ (by decide) rfl hl.1 rfl (Nat.le_of_ble_eq_true rfl) dX0_productSum_191 (fun r u' H locs hq hX => ?_)
                  obtain ⟨sg_191, fr_191, ex_191, rfl, rfl⟩ := hq
                  exact g_iret F hX (lx_S hF) dX0_productSum_194
                · have hF := hF.trans (if_pos c_169)
                  refine lv_aload_n hx hb dX0_productSum_173 rfl (lv_at hl 3 rfl) ?_
                  refine lv_iload hx hb dX0_productSum_174 (lv_at hl 2 rfl) ?_
                  refine lv_aload_n hx hb dX0_productSum_176 rfl (lv_at hl 3 rfl) ?_
                  refine x_get F hX 3 (by decide) q43 rfl rfl dX0_productSum_177 ?_
                  refine x_callP (rest := []) F hX (cx_zeroSum l D h mo no st ((fx_unpack x3).1) ((fx_unpack x3).2.1) ((fx_unpack x3).2.2) ((x1 ^^^ x2) >>> (7 &&& 31)) ((fx_unpack x3).1)) cq_x_zeroSum rfl ⟨rfl, rfl⟩ (by decide) rfl hl.1 rfl (Nat.le_of_ble_eq_true rfl) dX0_productSum_180 (fun H locs hX => ?_)
                  exact g_iret F hX (lx_S hF) dX0_productSum_183
            · have hF := hF.trans (if_neg c_104)
              refine lv_iload_n hx hb dX0_productSum_107 rfl (lv_at hl 4 rfl) ?_
              exact g_iret F hX (lx_S hF) dX0_productSum_108
          · have hF := hF.trans (if_neg c_48)
            exact K_51 ((x1 ^^^ x2) >>> (7 &&& 31)) no sg fr ex _ _ _ c_5 c_13 c_21 hF hX (lv_sub hl [1, 2, 3, 4, 0] rfl)
      · have hF := hF.trans (if_neg c_21)
        refine lv_bipush (v := 124) hx hb dX0_productSum_24 (by decide) ?_
        exact g_iret F hX (lx_S hF) dX0_productSum_26
def fx_add (mo : Int32) (no : Int32) (x1 : Int32) (x2 : Int32) : Int32 × Int32 :=
  (if (fx_bad x1) = 0 then (if (fx_bad x2) = 0 then ((fx_sum mo no x1 x2).1, (fx_sum mo no x1 x2).2) else ((-1), no)) else ((-1), no))
set_option maxHeartbeats 8000000 in
set_option maxRecDepth 100000 in
theorem cx_add (l : Launch) (D : va_G) (h : Nat) (mo : Int32) (no : Int32) (st : Int32) (sg : Int32) (fr : Int64) (ex : Int32) (x1 : Int32) (x2 : Int32)  : g_Met l yX0_add cX0_add 3 (some .int) (rmK 5) (wX h) [] D (mo, no, st, sg, fr, ex) [.ref h, .int x1, .int x2] (px_S (fx_add mo no x1 x2) mo st) := by
  refine g_enter (by decide) (Nat.le_of_ble_eq_true rfl) (fun p e s m args below meth c A ls F hX hl => ?_)
  have hx := F.1
  have hb := F.2.1
  generalize hH0 : s.heap = H at hX ⊢
  generalize ([] : List Loc) = locs at hX ⊢
  have hl : lv_has ls 3 [(0, .ref h), (1, .int x1), (2, .int x2)] := hl
  clear hH0
  have hF := fx_add.eq_1 mo no x1 x2
  refine lv_aload_n hx hb dX0_add_0 rfl (lv_at hl 0 rfl) ?_
  refine lv_iload_n hx hb dX0_add_1 rfl (lv_at hl 1 rfl) ?_
  refine x_callP (rest := []) F hX (cx_bad l D h mo no st sg fr ex x1) cq_x_bad rfl ⟨rfl, rfl⟩ (by decide) rfl hl.1 rfl (Nat.le_of_ble_eq_true rfl) dX0_add_2 (fun H locs hX => ?_)
  refine lv_if_ne (tgt := 16) hx hb dX0_add_5 (by decide) (fun c_5 => ?_) (fun c_5 => ?_)
  · have hF := hF.trans (if_neg c_5)
    refine lv_iconst (v := (-1)) hx hb dX0_add_16 (by decide) ?_
    refine lv_goto (tgt := 26) hx hb dX0_add_17 (by decide) ?_
    exact g_iret F hX (lx_S hF) dX0_add_26
  · have hF := hF.trans (if_pos c_5)
    refine lv_aload_n hx hb dX0_add_8 rfl (lv_at hl 0 rfl) ?_
    refine lv_iload_n hx hb dX0_add_9 rfl (lv_at hl 2 rfl) ?_
    refine x_callP (rest := []) F hX (cx_bad l D h mo no st sg fr ex x2) cq_x_bad rfl ⟨rfl, rfl⟩ (by decide) rfl hl.1 rfl (Nat.le_of_ble_eq_true rfl) dX0_add_10 (fun H locs hX => ?_)
    refine lv_if_eq (tgt := 20) hx hb dX0_add_13 (by decide) (fun c_13 => ?_) (fun c_13 => ?_)
    · have hF := hF.trans (if_pos c_13)
      refine lv_aload_n hx hb dX0_add_20 rfl (lv_at hl 0 rfl) ?_
      refine lv_iload_n hx hb dX0_add_21 rfl (lv_at hl 1 rfl) ?_
      refine lv_iload_n hx hb dX0_add_22 rfl (lv_at hl 2 rfl) ?_
      refine x_call (rest := []) F hX (cx_sum l D h mo no st sg fr ex x1 x2) cq_x_sum rfl ⟨rfl, rfl⟩ (by decide) rfl hl.1 rfl (Nat.le_of_ble_eq_true rfl) dX0_add_23 (fun r u' H locs hq hX => ?_)
      obtain ⟨sg_23, fr_23, ex_23, rfl, rfl⟩ := hq
      exact g_iret F hX (lx_S hF) dX0_add_26
    · have hF := hF.trans (if_neg c_13)
      refine lv_iconst (v := (-1)) hx hb dX0_add_16 (by decide) ?_
      refine lv_goto (tgt := 26) hx hb dX0_add_17 (by decide) ?_
      exact g_iret F hX (lx_S hF) dX0_add_26
def fx_subtract_b35 (mo : Int32) (x1 : Int32) (t0 : Int32) (no_ : Int32) : Int32 × Int32 :=
  ((fx_sum mo no_ x1 t0).1, (fx_sum mo no_ x1 t0).2)
def fx_subtract (mo : Int32) (no : Int32) (x1 : Int32) (x2 : Int32) : Int32 × Int32 :=
  (if (fx_bad x1) = 0 then (if (fx_bad x2) = 0 then (if (fx_isNone x2) = 0 then fx_subtract_b35 mo x1 (x2 ^^^ 128) no else fx_subtract_b35 mo x1 x2 no) else ((-1), no)) else ((-1), no))
set_option maxHeartbeats 8000000 in
set_option maxRecDepth 100000 in
theorem cx_subtract (l : Launch) (D : va_G) (h : Nat) (mo : Int32) (no : Int32) (st : Int32) (sg : Int32) (fr : Int64) (ex : Int32) (x1 : Int32) (x2 : Int32)  : g_Met l yX0_subtract cX0_subtract 4 (some .int) (rmK 5) (wX h) [] D (mo, no, st, sg, fr, ex) [.ref h, .int x1, .int x2] (px_S (fx_subtract mo no x1 x2) mo st) := by
  refine g_enter (by decide) (Nat.le_of_ble_eq_true rfl) (fun p e s m args below meth c A ls F hX hl => ?_)
  have hx := F.1
  have hb := F.2.1
  generalize hH0 : s.heap = H at hX ⊢
  generalize ([] : List Loc) = locs at hX ⊢
  have hl : lv_has ls 4 [(0, .ref h), (1, .int x1), (2, .int x2)] := hl
  clear hH0
  have K_35 : ∀ (t0 : Int32) (no_ : Int32) (sg_ : Int32) (fr_ : Int64) (ex_ : Int32) (H : Heap) (locs : List Loc) (ls : Array Slot), ((fx_bad x1) = 0) → ((fx_bad x2) = 0) → fx_subtract mo no x1 x2 = fx_subtract_b35 mo x1 t0 no_ → g_At (wX h) D A s (mo, no_, st, sg_, fr_, ex_) H locs → lv_has ls 4 [(0, .ref h), (1, .int x1), (2, .int x2)] → W p l e (rmK 5) s m args below meth c H locs 0 0 (MQ below (va_Qi (px_S (fx_subtract mo no x1 x2) mo st) (g_B (wX h) [] D A) A) args s 0 0 A) (F0 m 35 ls [.int t0]) := by
    intro t0 no_ sg_ fr_ ex_ H locs ls f35_0 f35_1 hF hX hl
    have hF := hF.trans (fx_subtract_b35.eq_1 mo x1 t0 no_)
    refine lv_istore_n (lv' := [(3, .int t0), (0, .ref h), (1, .int x1), (2, .int x2)]) hx hb dX0_subtract_35 rfl hl (by decide) rfl (fun ls hl => ?_)
    refine lv_aload_n hx hb dX0_subtract_36 rfl (lv_at hl 1 rfl) ?_
    refine lv_iload_n hx hb dX0_subtract_37 rfl (lv_at hl 2 rfl) ?_
    refine lv_iload_n hx hb dX0_subtract_38 rfl (lv_at hl 0 rfl) ?_
    refine x_call (rest := []) F hX (cx_sum l D h mo no_ st sg_ fr_ ex_ x1 t0) cq_x_sum rfl ⟨rfl, rfl⟩ (by decide) rfl hl.1 rfl (Nat.le_of_ble_eq_true rfl) dX0_subtract_39 (fun r u' H locs hq hX => ?_)
    obtain ⟨sg_39, fr_39, ex_39, rfl, rfl⟩ := hq
    exact g_iret F hX (lx_S hF) dX0_subtract_42
  have hF := fx_subtract.eq_1 mo no x1 x2
  refine lv_aload_n hx hb dX0_subtract_0 rfl (lv_at hl 0 rfl) ?_
  refine lv_iload_n hx hb dX0_subtract_1 rfl (lv_at hl 1 rfl) ?_
  refine x_callP (rest := []) F hX (cx_bad l D h mo no st sg fr ex x1) cq_x_bad rfl ⟨rfl, rfl⟩ (by decide) rfl hl.1 rfl (Nat.le_of_ble_eq_true rfl) dX0_subtract_2 (fun H locs hX => ?_)
  refine lv_if_ne (tgt := 16) hx hb dX0_subtract_5 (by decide) (fun c_5 => ?_) (fun c_5 => ?_)
  · have hF := hF.trans (if_neg c_5)
    refine lv_iconst (v := (-1)) hx hb dX0_subtract_16 (by decide) ?_
    exact g_iret F hX (lx_S hF) dX0_subtract_17
  · have hF := hF.trans (if_pos c_5)
    refine lv_aload_n hx hb dX0_subtract_8 rfl (lv_at hl 0 rfl) ?_
    refine lv_iload_n hx hb dX0_subtract_9 rfl (lv_at hl 2 rfl) ?_
    refine x_callP (rest := []) F hX (cx_bad l D h mo no st sg fr ex x2) cq_x_bad rfl ⟨rfl, rfl⟩ (by decide) rfl hl.1 rfl (Nat.le_of_ble_eq_true rfl) dX0_subtract_10 (fun H locs hX => ?_)
    refine lv_if_eq (tgt := 18) hx hb dX0_subtract_13 (by decide) (fun c_13 => ?_) (fun c_13 => ?_)
    · have hF := hF.trans (if_pos c_13)
      refine lv_aload_n hx hb dX0_subtract_18 rfl (lv_at hl 0 rfl) ?_
      refine lv_iload_n hx hb dX0_subtract_19 rfl (lv_at hl 2 rfl) ?_
      refine x_callP (rest := []) F hX (cx_isNone l D h mo no st sg fr ex x2) cq_x_isNone rfl ⟨rfl, rfl⟩ (by decide) rfl hl.1 rfl (Nat.le_of_ble_eq_true rfl) dX0_subtract_20 (fun H locs hX => ?_)
      refine lv_if_eq (tgt := 30) hx hb dX0_subtract_23 (by decide) (fun c_23 => ?_) (fun c_23 => ?_)
      · have hF := hF.trans (if_pos c_23)
        refine lv_iload_n hx hb dX0_subtract_30 rfl (lv_at hl 2 rfl) ?_
        refine lv_sipush (v := 128) hx hb dX0_subtract_31 (by decide) ?_
        refine lv_ixor hx hb dX0_subtract_34 ?_
        exact K_35 (x2 ^^^ 128) no sg fr ex _ _ _ c_5 c_13 hF hX (lv_sub hl [0, 1, 2] rfl)
      · have hF := hF.trans (if_neg c_23)
        refine lv_iload_n hx hb dX0_subtract_26 rfl (lv_at hl 2 rfl) ?_
        refine lv_goto (tgt := 35) hx hb dX0_subtract_27 (by decide) ?_
        exact K_35 x2 no sg fr ex _ _ _ c_5 c_13 hF hX (lv_sub hl [0, 1, 2] rfl)
    · have hF := hF.trans (if_neg c_13)
      refine lv_iconst (v := (-1)) hx hb dX0_subtract_16 (by decide) ?_
      exact g_iret F hX (lx_S hF) dX0_subtract_17
def fx_together (mo : Int32) (no : Int32) (x1 : Int32) (x2 : Int32) (x3 : Int32) : Int32 × Int32 :=
  (if (fx_bad x1) = 0 then (if (fx_bad x2) = 0 then (if (fx_bad x3) = 0 then ((fx_productSum mo no x1 x2 x3).1, (fx_productSum mo no x1 x2 x3).2) else ((-1), no)) else ((-1), no)) else ((-1), no))
set_option maxHeartbeats 8000000 in
set_option maxRecDepth 100000 in
theorem cx_together (l : Launch) (D : va_G) (h : Nat) (mo : Int32) (no : Int32) (st : Int32) (sg : Int32) (fr : Int64) (ex : Int32) (x1 : Int32) (x2 : Int32) (x3 : Int32)  : g_Met l yX0_together cX0_together 4 (some .int) (rmK 5) (wX h) [] D (mo, no, st, sg, fr, ex) [.ref h, .int x1, .int x2, .int x3] (px_S (fx_together mo no x1 x2 x3) mo st) := by
  refine g_enter (by decide) (Nat.le_of_ble_eq_true rfl) (fun p e s m args below meth c A ls F hX hl => ?_)
  have hx := F.1
  have hb := F.2.1
  generalize hH0 : s.heap = H at hX ⊢
  generalize ([] : List Loc) = locs at hX ⊢
  have hl : lv_has ls 4 [(0, .ref h), (1, .int x1), (2, .int x2), (3, .int x3)] := hl
  clear hH0
  have hF := fx_together.eq_1 mo no x1 x2 x3
  refine lv_aload_n hx hb dX0_together_0 rfl (lv_at hl 0 rfl) ?_
  refine lv_iload_n hx hb dX0_together_1 rfl (lv_at hl 1 rfl) ?_
  refine x_callP (rest := []) F hX (cx_bad l D h mo no st sg fr ex x1) cq_x_bad rfl ⟨rfl, rfl⟩ (by decide) rfl hl.1 rfl (Nat.le_of_ble_eq_true rfl) dX0_together_2 (fun H locs hX => ?_)
  refine lv_if_ne (tgt := 24) hx hb dX0_together_5 (by decide) (fun c_5 => ?_) (fun c_5 => ?_)
  · have hF := hF.trans (if_neg c_5)
    refine lv_iconst (v := (-1)) hx hb dX0_together_24 (by decide) ?_
    refine lv_goto (tgt := 35) hx hb dX0_together_25 (by decide) ?_
    exact g_iret F hX (lx_S hF) dX0_together_35
  · have hF := hF.trans (if_pos c_5)
    refine lv_aload_n hx hb dX0_together_8 rfl (lv_at hl 0 rfl) ?_
    refine lv_iload_n hx hb dX0_together_9 rfl (lv_at hl 2 rfl) ?_
    refine x_callP (rest := []) F hX (cx_bad l D h mo no st sg fr ex x2) cq_x_bad rfl ⟨rfl, rfl⟩ (by decide) rfl hl.1 rfl (Nat.le_of_ble_eq_true rfl) dX0_together_10 (fun H locs hX => ?_)
    refine lv_if_ne (tgt := 24) hx hb dX0_together_13 (by decide) (fun c_13 => ?_) (fun c_13 => ?_)
    · have hF := hF.trans (if_neg c_13)
      refine lv_iconst (v := (-1)) hx hb dX0_together_24 (by decide) ?_
      refine lv_goto (tgt := 35) hx hb dX0_together_25 (by decide) ?_
      exact g_iret F hX (lx_S hF) dX0_together_35
    · have hF := hF.trans (if_pos c_13)
      refine lv_aload_n hx hb dX0_together_16 rfl (lv_at hl 0 rfl) ?_
      refine lv_iload_n hx hb dX0_together_17 rfl (lv_at hl 3 rfl) ?_
      refine x_callP (rest := []) F hX (cx_bad l D h mo no st sg fr ex x3) cq_x_bad rfl ⟨rfl, rfl⟩ (by decide) rfl hl.1 rfl (Nat.le_of_ble_eq_true rfl) dX0_together_18 (fun H locs hX => ?_)
      refine lv_if_eq (tgt := 28) hx hb dX0_together_21 (by decide) (fun c_21 => ?_) (fun c_21 => ?_)
      · have hF := hF.trans (if_pos c_21)
        refine lv_aload_n hx hb dX0_together_28 rfl (lv_at hl 0 rfl) ?_
        refine lv_iload_n hx hb dX0_together_29 rfl (lv_at hl 1 rfl) ?_
        refine lv_iload_n hx hb dX0_together_30 rfl (lv_at hl 2 rfl) ?_
        refine lv_iload_n hx hb dX0_together_31 rfl (lv_at hl 3 rfl) ?_
        refine x_call (rest := []) F hX (cx_productSum l D h mo no st sg fr ex x1 x2 x3) cq_x_productSum rfl ⟨rfl, rfl⟩ (by decide) rfl hl.1 rfl (Nat.le_of_ble_eq_true rfl) dX0_together_32 (fun r u' H locs hq hX => ?_)
        obtain ⟨sg_32, fr_32, ex_32, rfl, rfl⟩ := hq
        exact g_iret F hX (lx_S hF) dX0_together_35
      · have hF := hF.trans (if_neg c_21)
        refine lv_iconst (v := (-1)) hx hb dX0_together_24 (by decide) ?_
        refine lv_goto (tgt := 35) hx hb dX0_together_25 (by decide) ?_
        exact g_iret F hX (lx_S hF) dX0_together_35
end
section
set_option maxRecDepth 100000
def fx_multiply_b60 (x1 : Int32) (x2 : Int32) (x3 : Int32) (no_ : Int32) : Int32 × Int32 :=
  (if (fx_isZero x1) = 0 then (if (fx_isZero x2) = 0 then (((x3 * 128) + 120), no_) else ((fx_senseless no_).1, (fx_senseless no_).2)) else ((fx_senseless no_).1, (fx_senseless no_).2))
def fx_multiply (mo : Int32) (no : Int32) (x1 : Int32) (x2 : Int32) : Int32 × Int32 :=
  (if (fx_bad x1) = 0 then (if (fx_bad x2) = 0 then (if (fx_isNone x1) = 0 then (if (fx_isNone x2) = 0 then (if (fx_isInfinite x1) = 0 then (if (fx_isInfinite x2) = 0 then (if (fx_isZero x1) = 0 then (if (fx_isZero x2) = 0 then ((fx_round mo no ((x1 ^^^ x2) >>> (7 &&& 31)) ((fx_unpack x1).2.1 * (fx_unpack x2).2.1) (((fx_unpack x1).2.2 + (fx_unpack x2).2.2) - 9) 0).1, (fx_round mo no ((x1 ^^^ x2) >>> (7 &&& 31)) ((fx_unpack x1).2.1 * (fx_unpack x2).2.1) (((fx_unpack x1).2.2 + (fx_unpack x2).2.2) - 9) 0).2) else ((((x1 ^^^ x2) >>> (7 &&& 31)) * 128), no)) else ((((x1 ^^^ x2) >>> (7 &&& 31)) * 128), no)) else fx_multiply_b60 x1 x2 ((x1 ^^^ x2) >>> (7 &&& 31)) no) else fx_multiply_b60 x1 x2 ((x1 ^^^ x2) >>> (7 &&& 31)) no) else (124, no)) else (124, no)) else ((-1), no)) else ((-1), no))
set_option maxHeartbeats 8000000 in
set_option maxRecDepth 100000 in
theorem cx_multiply (l : Launch) (D : va_G) (h : Nat) (mo : Int32) (no : Int32) (st : Int32) (sg : Int32) (fr : Int64) (ex : Int32) (x1 : Int32) (x2 : Int32)  : g_Met l yX0_multiply cX0_multiply 7 (some .int) (rmK 2) (wX h) [] D (mo, no, st, sg, fr, ex) [.ref h, .int x1, .int x2] (px_S (fx_multiply mo no x1 x2) mo st) := by
  refine g_enter (by decide) (Nat.le_of_ble_eq_true rfl) (fun p e s m args below meth c A ls F hX hl => ?_)
  have hx := F.1
  have hb := F.2.1
  generalize hH0 : s.heap = H at hX ⊢
  generalize ([] : List Loc) = locs at hX ⊢
  have hl : lv_has ls 7 [(0, .ref h), (1, .int x1), (2, .int x2)] := hl
  clear hH0
  have K_60 : ∀ (x3 : Int32) (no_ : Int32) (sg_ : Int32) (fr_ : Int64) (ex_ : Int32) (H : Heap) (locs : List Loc) (ls : Array Slot), ((fx_bad x1) = 0) → ((fx_bad x2) = 0) → ((fx_isNone x1) = 0) → ((fx_isNone x2) = 0) → fx_multiply mo no x1 x2 = fx_multiply_b60 x1 x2 x3 no_ → g_At (wX h) D A s (mo, no_, st, sg_, fr_, ex_) H locs → lv_has ls 7 [(0, .ref h), (1, .int x1), (2, .int x2), (3, .int x3)] → W p l e (rmK 2) s m args below meth c H locs 0 0 (MQ below (va_Qi (px_S (fx_multiply mo no x1 x2) mo st) (g_B (wX h) [] D A) A) args s 0 0 A) (F0 m 60 ls []) := by
    intro x3 no_ sg_ fr_ ex_ H locs ls f60_0 f60_1 f60_2 f60_3 hF hX hl
    have hF := hF.trans (fx_multiply_b60.eq_1 x1 x2 x3 no_)
    refine lv_aload_n hx hb dX0_multiply_60 rfl (lv_at hl 0 rfl) ?_
    refine lv_iload_n hx hb dX0_multiply_61 rfl (lv_at hl 1 rfl) ?_
    refine x_callP (rest := []) F hX (cx_isZero l D h mo no_ st sg_ fr_ ex_ x1) cq_x_isZero rfl ⟨rfl, rfl⟩ (by decide) rfl hl.1 rfl (Nat.le_of_ble_eq_true rfl) dX0_multiply_62 (fun H locs hX => ?_)
    refine lv_if_ne (tgt := 76) hx hb dX0_multiply_65 (by decide) (fun c_65 => ?_) (fun c_65 => ?_)
    · have hF := hF.trans (if_neg c_65)
      refine lv_aload_n hx hb dX0_multiply_76 rfl (lv_at hl 0 rfl) ?_
      refine x_call (rest := []) F hX (cx_senseless l D h mo no_ st sg_ fr_ ex_) cq_x_senseless rfl ⟨rfl, rfl⟩ (by decide) rfl hl.1 rfl (Nat.le_of_ble_eq_true rfl) dX0_multiply_77 (fun r u' H locs hq hX => ?_)
      obtain ⟨sg_77, fr_77, ex_77, rfl, rfl⟩ := hq
      refine lv_goto (tgt := 91) hx hb dX0_multiply_80 (by decide) ?_
      exact g_iret F hX (lx_S hF) dX0_multiply_91
    · have hF := hF.trans (if_pos c_65)
      refine lv_aload_n hx hb dX0_multiply_68 rfl (lv_at hl 0 rfl) ?_
      refine lv_iload_n hx hb dX0_multiply_69 rfl (lv_at hl 2 rfl) ?_
      refine x_callP (rest := []) F hX (cx_isZero l D h mo no_ st sg_ fr_ ex_ x2) cq_x_isZero rfl ⟨rfl, rfl⟩ (by decide) rfl hl.1 rfl (Nat.le_of_ble_eq_true rfl) dX0_multiply_70 (fun H locs hX => ?_)
      refine lv_if_eq (tgt := 83) hx hb dX0_multiply_73 (by decide) (fun c_73 => ?_) (fun c_73 => ?_)
      · have hF := hF.trans (if_pos c_73)
        refine lv_iload_n hx hb dX0_multiply_83 rfl (lv_at hl 3 rfl) ?_
        refine lv_sipush (v := 128) hx hb dX0_multiply_84 (by decide) ?_
        refine lv_imul hx hb dX0_multiply_87 ?_
        refine lv_bipush (v := 120) hx hb dX0_multiply_88 (by decide) ?_
        refine lv_iadd hx hb dX0_multiply_90 ?_
        exact g_iret F hX (lx_S hF) dX0_multiply_91
      · have hF := hF.trans (if_neg c_73)
        refine lv_aload_n hx hb dX0_multiply_76 rfl (lv_at hl 0 rfl) ?_
        refine x_call (rest := []) F hX (cx_senseless l D h mo no_ st sg_ fr_ ex_) cq_x_senseless rfl ⟨rfl, rfl⟩ (by decide) rfl hl.1 rfl (Nat.le_of_ble_eq_true rfl) dX0_multiply_77 (fun r u' H locs hq hX => ?_)
        obtain ⟨sg_77, fr_77, ex_77, rfl, rfl⟩ := hq
        refine lv_goto (tgt := 91) hx hb dX0_multiply_80 (by decide) ?_
        exact g_iret F hX (lx_S hF) dX0_multiply_91
  have hF := fx_multiply.eq_1 mo no x1 x2
  refine lv_aload_n hx hb dX0_multiply_0 rfl (lv_at hl 0 rfl) ?_
  refine lv_iload_n hx hb dX0_multiply_1 rfl (lv_at hl 1 rfl) ?_
  refine x_callP (rest := []) F hX (cx_bad l D h mo no st sg fr ex x1) cq_x_bad rfl ⟨rfl, rfl⟩ (by decide) rfl hl.1 rfl (Nat.le_of_ble_eq_true rfl) dX0_multiply_2 (fun H locs hX => ?_)
  refine lv_if_ne (tgt := 16) hx hb dX0_multiply_5 (by decide) (fun c_5 => ?_) (fun c_5 => ?_)
  · have hF := hF.trans (if_neg c_5)
    refine lv_iconst (v := (-1)) hx hb dX0_multiply_16 (by decide) ?_
    exact g_iret F hX (lx_S hF) dX0_multiply_17
  · have hF := hF.trans (if_pos c_5)
    refine lv_aload_n hx hb dX0_multiply_8 rfl (lv_at hl 0 rfl) ?_
    refine lv_iload_n hx hb dX0_multiply_9 rfl (lv_at hl 2 rfl) ?_
    refine x_callP (rest := []) F hX (cx_bad l D h mo no st sg fr ex x2) cq_x_bad rfl ⟨rfl, rfl⟩ (by decide) rfl hl.1 rfl (Nat.le_of_ble_eq_true rfl) dX0_multiply_10 (fun H locs hX => ?_)
    refine lv_if_eq (tgt := 18) hx hb dX0_multiply_13 (by decide) (fun c_13 => ?_) (fun c_13 => ?_)
    · have hF := hF.trans (if_pos c_13)
      refine lv_aload_n hx hb dX0_multiply_18 rfl (lv_at hl 0 rfl) ?_
      refine lv_iload_n hx hb dX0_multiply_19 rfl (lv_at hl 1 rfl) ?_
      refine x_callP (rest := []) F hX (cx_isNone l D h mo no st sg fr ex x1) cq_x_isNone rfl ⟨rfl, rfl⟩ (by decide) rfl hl.1 rfl (Nat.le_of_ble_eq_true rfl) dX0_multiply_20 (fun H locs hX => ?_)
      refine lv_if_ne (tgt := 34) hx hb dX0_multiply_23 (by decide) (fun c_23 => ?_) (fun c_23 => ?_)
      · have hF := hF.trans (if_neg c_23)
        refine lv_bipush (v := 124) hx hb dX0_multiply_34 (by decide) ?_
        exact g_iret F hX (lx_S hF) dX0_multiply_36
      · have hF := hF.trans (if_pos c_23)
        refine lv_aload_n hx hb dX0_multiply_26 rfl (lv_at hl 0 rfl) ?_
        refine lv_iload_n hx hb dX0_multiply_27 rfl (lv_at hl 2 rfl) ?_
        refine x_callP (rest := []) F hX (cx_isNone l D h mo no st sg fr ex x2) cq_x_isNone rfl ⟨rfl, rfl⟩ (by decide) rfl hl.1 rfl (Nat.le_of_ble_eq_true rfl) dX0_multiply_28 (fun H locs hX => ?_)
        refine lv_if_eq (tgt := 37) hx hb dX0_multiply_31 (by decide) (fun c_31 => ?_) (fun c_31 => ?_)
        · have hF := hF.trans (if_pos c_31)
          refine lv_iload_n hx hb dX0_multiply_37 rfl (lv_at hl 1 rfl) ?_
          refine lv_iload_n hx hb dX0_multiply_38 rfl (lv_at hl 2 rfl) ?_
          refine lv_ixor hx hb dX0_multiply_39 ?_
          refine lv_bipush (v := 7) hx hb dX0_multiply_40 (by decide) ?_
          refine lv_ishr hx hb dX0_multiply_42 ?_
          refine lv_istore_n (lv' := [(3, .int ((x1 ^^^ x2) >>> (7 &&& 31))), (0, .ref h), (1, .int x1), (2, .int x2)]) hx hb dX0_multiply_43 rfl hl (by decide) rfl (fun ls hl => ?_)
          refine lv_aload_n hx hb dX0_multiply_44 rfl (lv_at hl 1 rfl) ?_
          refine lv_iload_n hx hb dX0_multiply_45 rfl (lv_at hl 2 rfl) ?_
          refine x_callP (rest := []) F hX (cx_isInfinite l D h mo no st sg fr ex x1) cq_x_isInfinite rfl ⟨rfl, rfl⟩ (by decide) rfl hl.1 rfl (Nat.le_of_ble_eq_true rfl) dX0_multiply_46 (fun H locs hX => ?_)
          refine lv_if_ne (tgt := 60) hx hb dX0_multiply_49 (by decide) (fun c_49 => ?_) (fun c_49 => ?_)
          · have hF := hF.trans (if_neg c_49)
            exact K_60 ((x1 ^^^ x2) >>> (7 &&& 31)) no sg fr ex _ _ _ c_5 c_13 c_23 c_31 hF hX (lv_sub hl [1, 2, 3, 0] rfl)
          · have hF := hF.trans (if_pos c_49)
            refine lv_aload_n hx hb dX0_multiply_52 rfl (lv_at hl 1 rfl) ?_
            refine lv_iload_n hx hb dX0_multiply_53 rfl (lv_at hl 3 rfl) ?_
            refine x_callP (rest := []) F hX (cx_isInfinite l D h mo no st sg fr ex x2) cq_x_isInfinite rfl ⟨rfl, rfl⟩ (by decide) rfl hl.1 rfl (Nat.le_of_ble_eq_true rfl) dX0_multiply_54 (fun H locs hX => ?_)
            refine lv_if_eq (tgt := 92) hx hb dX0_multiply_57 (by decide) (fun c_57 => ?_) (fun c_57 => ?_)
            · have hF := hF.trans (if_pos c_57)
              refine lv_aload_n hx hb dX0_multiply_92 rfl (lv_at hl 1 rfl) ?_
              refine lv_iload_n hx hb dX0_multiply_93 rfl (lv_at hl 2 rfl) ?_
              refine x_callP (rest := []) F hX (cx_isZero l D h mo no st sg fr ex x1) cq_x_isZero rfl ⟨rfl, rfl⟩ (by decide) rfl hl.1 rfl (Nat.le_of_ble_eq_true rfl) dX0_multiply_94 (fun H locs hX => ?_)
              refine lv_if_ne (tgt := 108) hx hb dX0_multiply_97 (by decide) (fun c_97 => ?_) (fun c_97 => ?_)
              · have hF := hF.trans (if_neg c_97)
                refine lv_iload_n hx hb dX0_multiply_108 rfl (lv_at hl 0 rfl) ?_
                refine lv_sipush (v := 128) hx hb dX0_multiply_109 (by decide) ?_
                refine lv_imul hx hb dX0_multiply_112 ?_
                exact g_iret F hX (lx_S hF) dX0_multiply_113
              · have hF := hF.trans (if_pos c_97)
                refine lv_aload_n hx hb dX0_multiply_100 rfl (lv_at hl 1 rfl) ?_
                refine lv_iload_n hx hb dX0_multiply_101 rfl (lv_at hl 3 rfl) ?_
                refine x_callP (rest := []) F hX (cx_isZero l D h mo no st sg fr ex x2) cq_x_isZero rfl ⟨rfl, rfl⟩ (by decide) rfl hl.1 rfl (Nat.le_of_ble_eq_true rfl) dX0_multiply_102 (fun H locs hX => ?_)
                refine lv_if_eq (tgt := 114) hx hb dX0_multiply_105 (by decide) (fun c_105 => ?_) (fun c_105 => ?_)
                · have hF := hF.trans (if_pos c_105)
                  refine lv_aload_n hx hb dX0_multiply_114 rfl (lv_at hl 1 rfl) ?_
                  refine lv_iload_n hx hb dX0_multiply_115 rfl (lv_at hl 2 rfl) ?_
                  refine x_callV (rest := []) F hX (cx_unpack l D h mo no st sg fr ex x1) cq_x_unpack rfl ⟨rfl, rfl⟩ (by decide) rfl hl.1 rfl (Nat.le_of_ble_eq_true rfl) dX0_multiply_116 (fun u' H locs hq hX => ?_)
                  obtain rfl := hq
                  refine lv_aload_n hx hb dX0_multiply_119 rfl (lv_at hl 1 rfl) ?_
                  refine x_get F hX 4 (by decide) q44 rfl rfl dX0_multiply_120 ?_
                  refine lv_lstore (lv' := [(4, .long (fx_unpack x1).2.1), (3, .int ((x1 ^^^ x2) >>> (7 &&& 31))), (0, .ref h), (1, .int x1), (2, .int x2)]) hx hb dX0_multiply_123 hl (by decide) rfl (fun ls hl => ?_)
                  refine lv_aload_n hx hb dX0_multiply_125 rfl (lv_at hl 2 rfl) ?_
                  refine x_get F hX 5 (by decide) q45 rfl rfl dX0_multiply_126 ?_
                  refine lv_istore (lv' := [(6, .int (fx_unpack x1).2.2), (4, .long (fx_unpack x1).2.1), (3, .int ((x1 ^^^ x2) >>> (7 &&& 31))), (0, .ref h), (1, .int x1), (2, .int x2)]) hx hb dX0_multiply_129 hl (by decide) rfl (fun ls hl => ?_)
                  refine lv_aload_n hx hb dX0_multiply_131 rfl (lv_at hl 3 rfl) ?_
                  refine lv_iload_n hx hb dX0_multiply_132 rfl (lv_at hl 5 rfl) ?_
                  refine x_callV (rest := []) F hX (cx_unpack l D h mo no st ((fx_unpack x1).1) ((fx_unpack x1).2.1) ((fx_unpack x1).2.2) x2) cq_x_unpack rfl ⟨rfl, rfl⟩ (by decide) rfl hl.1 rfl (Nat.le_of_ble_eq_true rfl) dX0_multiply_133 (fun u' H locs hq hX => ?_)
                  obtain rfl := hq
                  refine lv_aload_n hx hb dX0_multiply_136 rfl (lv_at hl 3 rfl) ?_
                  refine lv_iload_n hx hb dX0_multiply_137 rfl (lv_at hl 2 rfl) ?_
                  refine lv_lload hx hb dX0_multiply_138 (lv_at hl 1 rfl) ?_
                  refine lv_aload_n hx hb dX0_multiply_140 rfl (lv_at hl 3 rfl) ?_
                  refine x_get F hX 4 (by decide) q44 rfl rfl dX0_multiply_141 ?_
                  refine lv_lmul hx hb dX0_multiply_144 ?_
                  refine lv_iload hx hb dX0_multiply_145 (lv_at hl 0 rfl) ?_
                  refine lv_aload_n hx hb dX0_multiply_147 rfl (lv_at hl 3 rfl) ?_
                  refine x_get F hX 5 (by decide) q45 rfl rfl dX0_multiply_148 ?_
                  refine lv_iadd hx hb dX0_multiply_151 ?_
                  refine lv_bipush (v := 9) hx hb dX0_multiply_152 (by decide) ?_
                  refine lv_isub hx hb dX0_multiply_154 ?_
                  refine lv_iconst (v := 0) hx hb dX0_multiply_155 (by decide) ?_
                  refine x_call (rest := []) F hX (cx_round l D h mo no st ((fx_unpack x2).1) ((fx_unpack x2).2.1) ((fx_unpack x2).2.2) ((x1 ^^^ x2) >>> (7 &&& 31)) ((fx_unpack x1).2.1 * (fx_unpack x2).2.1) (((fx_unpack x1).2.2 + (fx_unpack x2).2.2) - 9) 0) cq_x_round rfl ⟨rfl, rfl⟩ (by decide) rfl hl.1 rfl (Nat.le_of_ble_eq_true rfl) dX0_multiply_156 (fun r u' H locs hq hX => ?_)
                  obtain ⟨sg_156, fr_156, ex_156, rfl, rfl⟩ := hq
                  exact g_iret F hX (lx_S hF) dX0_multiply_159
                · have hF := hF.trans (if_neg c_105)
                  refine lv_iload_n hx hb dX0_multiply_108 rfl (lv_at hl 0 rfl) ?_
                  refine lv_sipush (v := 128) hx hb dX0_multiply_109 (by decide) ?_
                  refine lv_imul hx hb dX0_multiply_112 ?_
                  exact g_iret F hX (lx_S hF) dX0_multiply_113
            · have hF := hF.trans (if_neg c_57)
              exact K_60 ((x1 ^^^ x2) >>> (7 &&& 31)) no sg fr ex _ _ _ c_5 c_13 c_23 c_31 hF hX (lv_sub hl [1, 2, 3, 0] rfl)
        · have hF := hF.trans (if_neg c_31)
          refine lv_bipush (v := 124) hx hb dX0_multiply_34 (by decide) ?_
          exact g_iret F hX (lx_S hF) dX0_multiply_36
    · have hF := hF.trans (if_neg c_13)
      refine lv_iconst (v := (-1)) hx hb dX0_multiply_16 (by decide) ?_
      exact g_iret F hX (lx_S hF) dX0_multiply_17
def fx_divide_b224 (mo : Int32) (x3 : Int32) (x6 : Int32) (x7 : Int64) (t0 : Int32) (no_ : Int32) (ex_ : Int32) : Int32 × Int32 :=
  ((fx_round mo no_ x3 x7 ((x6 - ex_) + 9) t0).1, (fx_round mo no_ x3 x7 ((x6 - ex_) + 9) t0).2)
def fx_divide_b223 (mo : Int32) (x3 : Int32) (x6 : Int32) (x7 : Int64) (no_ : Int32) (ex_ : Int32) : Int32 × Int32 :=
  fx_divide_b224 mo x3 x6 x7 0 no_ ex_
def fx_divide_b196 (mo : Int32) (x3 : Int32) (x4 : Int64) (x6 : Int32) (t0 : Int64) (no_ : Int32) (fr_ : Int64) (ex_ : Int32) : Int32 × Int32 :=
  (if fr_ ≤ 0 then fx_divide_b223 mo x3 x6 t0 no_ ex_ else (if (x4 - x4 / fr_ * fr_) = 0 then fx_divide_b223 mo x3 x6 t0 no_ ex_ else fx_divide_b224 mo x3 x6 t0 1 no_ ex_))
def fx_divide_b81 (mo : Int32) (x1 : Int32) (x2 : Int32) (x3 : Int32) (no_ : Int32) : Int32 × Int32 :=
  (if (fx_isInfinite x1) = 0 then (if (fx_isZero x1) = 0 then (if (fx_isInfinite x2) = 0 then (if (fx_isZero x2) = 0 then (if (fx_unpack x2).2.1 ≤ 0 then fx_divide_b196 mo x3 ((fx_unpack x1).2.1 <<< ((12 : Int32).toInt64 &&& 63)) ((fx_unpack x1).2.2 - 12) 0 no_ ((fx_unpack x2).2.1) ((fx_unpack x2).2.2) else fx_divide_b196 mo x3 ((fx_unpack x1).2.1 <<< ((12 : Int32).toInt64 &&& 63)) ((fx_unpack x1).2.2 - 12) (((fx_unpack x1).2.1 <<< ((12 : Int32).toInt64 &&& 63)) / (fx_unpack x2).2.1) no_ ((fx_unpack x2).2.1) ((fx_unpack x2).2.2)) else (((x3 * 128) + 120), (no_ ||| 8))) else ((x3 * 128), no_)) else ((x3 * 128), no_)) else (((x3 * 128) + 120), no_))
def fx_divide_b60 (mo : Int32) (x1 : Int32) (x2 : Int32) (x3 : Int32) (no_ : Int32) : Int32 × Int32 :=
  (if (fx_isInfinite x1) = 0 then fx_divide_b81 mo x1 x2 x3 no_ else (if (fx_isInfinite x2) = 0 then fx_divide_b81 mo x1 x2 x3 no_ else ((fx_senseless no_).1, (fx_senseless no_).2)))
def fx_divide (mo : Int32) (no : Int32) (x1 : Int32) (x2 : Int32) : Int32 × Int32 :=
  (if (fx_bad x1) = 0 then (if (fx_bad x2) = 0 then (if (fx_isNone x1) = 0 then (if (fx_isNone x2) = 0 then (if (fx_isZero x1) = 0 then fx_divide_b60 mo x1 x2 ((x1 ^^^ x2) >>> (7 &&& 31)) no else (if (fx_isZero x2) = 0 then fx_divide_b60 mo x1 x2 ((x1 ^^^ x2) >>> (7 &&& 31)) no else ((fx_senseless no).1, (fx_senseless no).2))) else (124, no)) else (124, no)) else ((-1), no)) else ((-1), no))
set_option maxHeartbeats 8000000 in
set_option maxRecDepth 100000 in
theorem cx_divide (l : Launch) (D : va_G) (h : Nat) (mo : Int32) (no : Int32) (st : Int32) (sg : Int32) (fr : Int64) (ex : Int32) (x1 : Int32) (x2 : Int32)  : g_Met l yX0_divide cX0_divide 10 (some .int) (rmK 2) (wX h) [] D (mo, no, st, sg, fr, ex) [.ref h, .int x1, .int x2] (px_S (fx_divide mo no x1 x2) mo st) := by
  refine g_enter (by decide) (Nat.le_of_ble_eq_true rfl) (fun p e s m args below meth c A ls F hX hl => ?_)
  have hx := F.1
  have hb := F.2.1
  generalize hH0 : s.heap = H at hX ⊢
  generalize ([] : List Loc) = locs at hX ⊢
  have hl : lv_has ls 10 [(0, .ref h), (1, .int x1), (2, .int x2)] := hl
  clear hH0
  have K_224 : ∀ (x3 : Int32) (x4 : Int64) (x6 : Int32) (x7 : Int64) (t0 : Int32) (no_ : Int32) (sg_ : Int32) (fr_ : Int64) (ex_ : Int32) (H : Heap) (locs : List Loc) (ls : Array Slot), ((fx_bad x1) = 0) → ((fx_bad x2) = 0) → ((fx_isNone x1) = 0) → ((fx_isNone x2) = 0) → ((fx_isInfinite x1) = 0) → ((fx_isZero x1) = 0) → ((fx_isInfinite x2) = 0) → ((fx_isZero x2) = 0) → fx_divide mo no x1 x2 = fx_divide_b224 mo x3 x6 x7 t0 no_ ex_ → g_At (wX h) D A s (mo, no_, st, sg_, fr_, ex_) H locs → lv_has ls 10 [(0, .ref h), (1, .int x1), (2, .int x2), (3, .int x3), (4, .long x4), (6, .int x6), (7, .long x7)] → W p l e (rmK 2) s m args below meth c H locs 0 0 (MQ below (va_Qi (px_S (fx_divide mo no x1 x2) mo st) (g_B (wX h) [] D A) A) args s 0 0 A) (F0 m 224 ls [.int t0]) := by
    intro x3 x4 x6 x7 t0 no_ sg_ fr_ ex_ H locs ls f224_0 f224_1 f224_2 f224_3 f224_4 f224_5 f224_6 f224_7 hF hX hl
    have hF := hF.trans (fx_divide_b224.eq_1 mo x3 x6 x7 t0 no_ ex_)
    refine lv_istore (lv' := [(9, .int t0), (0, .ref h), (1, .int x1), (2, .int x2), (3, .int x3), (4, .long x4), (6, .int x6), (7, .long x7)]) hx hb dX0_divide_224 hl (by decide) rfl (fun ls hl => ?_)
    refine lv_aload_n hx hb dX0_divide_226 rfl (lv_at hl 1 rfl) ?_
    refine lv_iload_n hx hb dX0_divide_227 rfl (lv_at hl 4 rfl) ?_
    refine lv_lload hx hb dX0_divide_228 (lv_at hl 7 rfl) ?_
    refine lv_iload hx hb dX0_divide_230 (lv_at hl 6 rfl) ?_
    refine lv_aload_n hx hb dX0_divide_232 rfl (lv_at hl 1 rfl) ?_
    refine x_get F hX 5 (by decide) q45 rfl rfl dX0_divide_233 ?_
    refine lv_isub hx hb dX0_divide_236 ?_
    refine lv_bipush (v := 9) hx hb dX0_divide_237 (by decide) ?_
    refine lv_iadd hx hb dX0_divide_239 ?_
    refine lv_iload hx hb dX0_divide_240 (lv_at hl 0 rfl) ?_
    refine x_call (rest := []) F hX (cx_round l D h mo no_ st sg_ fr_ ex_ x3 x7 ((x6 - ex_) + 9) t0) cq_x_round rfl ⟨rfl, rfl⟩ (by decide) rfl hl.1 rfl (Nat.le_of_ble_eq_true rfl) dX0_divide_242 (fun r u' H locs hq hX => ?_)
    obtain ⟨sg_242, fr_242, ex_242, rfl, rfl⟩ := hq
    exact g_iret F hX (lx_S hF) dX0_divide_245
  have K_223 : ∀ (x3 : Int32) (x4 : Int64) (x6 : Int32) (x7 : Int64) (no_ : Int32) (sg_ : Int32) (fr_ : Int64) (ex_ : Int32) (H : Heap) (locs : List Loc) (ls : Array Slot), ((fx_bad x1) = 0) → ((fx_bad x2) = 0) → ((fx_isNone x1) = 0) → ((fx_isNone x2) = 0) → ((fx_isInfinite x1) = 0) → ((fx_isZero x1) = 0) → ((fx_isInfinite x2) = 0) → ((fx_isZero x2) = 0) → fx_divide mo no x1 x2 = fx_divide_b223 mo x3 x6 x7 no_ ex_ → g_At (wX h) D A s (mo, no_, st, sg_, fr_, ex_) H locs → lv_has ls 10 [(0, .ref h), (1, .int x1), (2, .int x2), (3, .int x3), (4, .long x4), (6, .int x6), (7, .long x7)] → W p l e (rmK 2) s m args below meth c H locs 0 0 (MQ below (va_Qi (px_S (fx_divide mo no x1 x2) mo st) (g_B (wX h) [] D A) A) args s 0 0 A) (F0 m 223 ls []) := by
    intro x3 x4 x6 x7 no_ sg_ fr_ ex_ H locs ls f223_0 f223_1 f223_2 f223_3 f223_4 f223_5 f223_6 f223_7 hF hX hl
    have hF := hF.trans (fx_divide_b223.eq_1 mo x3 x6 x7 no_ ex_)
    refine lv_iconst (v := 0) hx hb dX0_divide_223 (by decide) ?_
    exact K_224 x3 x4 x6 x7 0 no_ sg_ fr_ ex_ _ _ _ f223_0 f223_1 f223_2 f223_3 f223_4 f223_5 f223_6 f223_7 hF hX (lv_sub hl [0, 1, 2, 3, 4, 5, 6] rfl)
  have K_196 : ∀ (x3 : Int32) (x4 : Int64) (x6 : Int32) (t0 : Int64) (no_ : Int32) (sg_ : Int32) (fr_ : Int64) (ex_ : Int32) (H : Heap) (locs : List Loc) (ls : Array Slot), ((fx_bad x1) = 0) → ((fx_bad x2) = 0) → ((fx_isNone x1) = 0) → ((fx_isNone x2) = 0) → ((fx_isInfinite x1) = 0) → ((fx_isZero x1) = 0) → ((fx_isInfinite x2) = 0) → ((fx_isZero x2) = 0) → fx_divide mo no x1 x2 = fx_divide_b196 mo x3 x4 x6 t0 no_ fr_ ex_ → g_At (wX h) D A s (mo, no_, st, sg_, fr_, ex_) H locs → lv_has ls 10 [(0, .ref h), (1, .int x1), (2, .int x2), (3, .int x3), (4, .long x4), (6, .int x6)] → W p l e (rmK 2) s m args below meth c H locs 0 0 (MQ below (va_Qi (px_S (fx_divide mo no x1 x2) mo st) (g_B (wX h) [] D A) A) args s 0 0 A) (F0 m 196 ls [.long t0]) := by
    intro x3 x4 x6 t0 no_ sg_ fr_ ex_ H locs ls f196_0 f196_1 f196_2 f196_3 f196_4 f196_5 f196_6 f196_7 hF hX hl
    have hF := hF.trans (fx_divide_b196.eq_1 mo x3 x4 x6 t0 no_ fr_ ex_)
    refine lv_lstore (lv' := [(7, .long t0), (0, .ref h), (1, .int x1), (2, .int x2), (3, .int x3), (4, .long x4), (6, .int x6)]) hx hb dX0_divide_196 hl (by decide) rfl (fun ls hl => ?_)
    refine lv_aload_n hx hb dX0_divide_198 rfl (lv_at hl 1 rfl) ?_
    refine x_get F hX 4 (by decide) q44 rfl rfl dX0_divide_199 ?_
    refine lv_lconst (v := 0) hx hb dX0_divide_202 (by decide) ?_
    refine ll_le (tgt := 223) hx hb dX0_divide_203 dX0_divide_204 (by decide) (fun c_203 => ?_) (fun c_203 => ?_)
    · have hF := hF.trans (if_pos c_203)
      exact K_223 x3 x4 x6 t0 no_ sg_ fr_ ex_ _ _ _ f196_0 f196_1 f196_2 f196_3 f196_4 f196_5 f196_6 f196_7 hF hX (lv_sub hl [1, 2, 3, 4, 5, 6, 0] rfl)
    · have hF := hF.trans (if_neg c_203)
      refine lv_lload hx hb dX0_divide_207 (lv_at hl 5 rfl) ?_
      refine lv_aload_n hx hb dX0_divide_209 rfl (lv_at hl 1 rfl) ?_
      refine x_get F hX 4 (by decide) q44 rfl rfl dX0_divide_210 ?_
      refine lv_lrem hx hb dX0_divide_213 (l_ne0 c_203) ?_
      refine lv_lconst (v := 0) hx hb dX0_divide_214 (by decide) ?_
      refine ll_eq (tgt := 223) hx hb dX0_divide_215 dX0_divide_216 (by decide) (fun c_215 => ?_) (fun c_215 => ?_)
      · have hF := hF.trans (if_pos c_215)
        exact K_223 x3 x4 x6 t0 no_ sg_ fr_ ex_ _ _ _ f196_0 f196_1 f196_2 f196_3 f196_4 f196_5 f196_6 f196_7 hF hX (lv_sub hl [1, 2, 3, 4, 5, 6, 0] rfl)
      · have hF := hF.trans (if_neg c_215)
        refine lv_iconst (v := 1) hx hb dX0_divide_219 (by decide) ?_
        refine lv_goto (tgt := 224) hx hb dX0_divide_220 (by decide) ?_
        exact K_224 x3 x4 x6 t0 1 no_ sg_ fr_ ex_ _ _ _ f196_0 f196_1 f196_2 f196_3 f196_4 f196_5 f196_6 f196_7 hF hX (lv_sub hl [1, 2, 3, 4, 5, 6, 0] rfl)
  have K_81 : ∀ (x3 : Int32) (no_ : Int32) (sg_ : Int32) (fr_ : Int64) (ex_ : Int32) (H : Heap) (locs : List Loc) (ls : Array Slot), ((fx_bad x1) = 0) → ((fx_bad x2) = 0) → ((fx_isNone x1) = 0) → ((fx_isNone x2) = 0) → fx_divide mo no x1 x2 = fx_divide_b81 mo x1 x2 x3 no_ → g_At (wX h) D A s (mo, no_, st, sg_, fr_, ex_) H locs → lv_has ls 10 [(0, .ref h), (1, .int x1), (2, .int x2), (3, .int x3)] → W p l e (rmK 2) s m args below meth c H locs 0 0 (MQ below (va_Qi (px_S (fx_divide mo no x1 x2) mo st) (g_B (wX h) [] D A) A) args s 0 0 A) (F0 m 81 ls []) := by
    intro x3 no_ sg_ fr_ ex_ H locs ls f81_0 f81_1 f81_2 f81_3 hF hX hl
    have hF := hF.trans (fx_divide_b81.eq_1 mo x1 x2 x3 no_)
    refine lv_aload_n hx hb dX0_divide_81 rfl (lv_at hl 0 rfl) ?_
    refine lv_iload_n hx hb dX0_divide_82 rfl (lv_at hl 1 rfl) ?_
    refine x_callP (rest := []) F hX (cx_isInfinite l D h mo no_ st sg_ fr_ ex_ x1) cq_x_isInfinite rfl ⟨rfl, rfl⟩ (by decide) rfl hl.1 rfl (Nat.le_of_ble_eq_true rfl) dX0_divide_83 (fun H locs hX => ?_)
    refine lv_if_eq (tgt := 98) hx hb dX0_divide_86 (by decide) (fun c_86 => ?_) (fun c_86 => ?_)
    · have hF := hF.trans (if_pos c_86)
      refine lv_aload_n hx hb dX0_divide_98 rfl (lv_at hl 0 rfl) ?_
      refine lv_iload_n hx hb dX0_divide_99 rfl (lv_at hl 1 rfl) ?_
      refine x_callP (rest := []) F hX (cx_isZero l D h mo no_ st sg_ fr_ ex_ x1) cq_x_isZero rfl ⟨rfl, rfl⟩ (by decide) rfl hl.1 rfl (Nat.le_of_ble_eq_true rfl) dX0_divide_100 (fun H locs hX => ?_)
      refine lv_if_ne (tgt := 114) hx hb dX0_divide_103 (by decide) (fun c_103 => ?_) (fun c_103 => ?_)
      · have hF := hF.trans (if_neg c_103)
        refine lv_iload_n hx hb dX0_divide_114 rfl (lv_at hl 3 rfl) ?_
        refine lv_sipush (v := 128) hx hb dX0_divide_115 (by decide) ?_
        refine lv_imul hx hb dX0_divide_118 ?_
        exact g_iret F hX (lx_S hF) dX0_divide_119
      · have hF := hF.trans (if_pos c_103)
        refine lv_aload_n hx hb dX0_divide_106 rfl (lv_at hl 0 rfl) ?_
        refine lv_iload_n hx hb dX0_divide_107 rfl (lv_at hl 2 rfl) ?_
        refine x_callP (rest := []) F hX (cx_isInfinite l D h mo no_ st sg_ fr_ ex_ x2) cq_x_isInfinite rfl ⟨rfl, rfl⟩ (by decide) rfl hl.1 rfl (Nat.le_of_ble_eq_true rfl) dX0_divide_108 (fun H locs hX => ?_)
        refine lv_if_eq (tgt := 120) hx hb dX0_divide_111 (by decide) (fun c_111 => ?_) (fun c_111 => ?_)
        · have hF := hF.trans (if_pos c_111)
          refine lv_aload_n hx hb dX0_divide_120 rfl (lv_at hl 0 rfl) ?_
          refine lv_iload_n hx hb dX0_divide_121 rfl (lv_at hl 2 rfl) ?_
          refine x_callP (rest := []) F hX (cx_isZero l D h mo no_ st sg_ fr_ ex_ x2) cq_x_isZero rfl ⟨rfl, rfl⟩ (by decide) rfl hl.1 rfl (Nat.le_of_ble_eq_true rfl) dX0_divide_122 (fun H locs hX => ?_)
          refine lv_if_eq (tgt := 148) hx hb dX0_divide_125 (by decide) (fun c_125 => ?_) (fun c_125 => ?_)
          · have hF := hF.trans (if_pos c_125)
            refine lv_aload_n hx hb dX0_divide_148 rfl (lv_at hl 0 rfl) ?_
            refine lv_iload_n hx hb dX0_divide_149 rfl (lv_at hl 1 rfl) ?_
            refine x_callV (rest := []) F hX (cx_unpack l D h mo no_ st sg_ fr_ ex_ x1) cq_x_unpack rfl ⟨rfl, rfl⟩ (by decide) rfl hl.1 rfl (Nat.le_of_ble_eq_true rfl) dX0_divide_150 (fun u' H locs hq hX => ?_)
            obtain rfl := hq
            refine lv_aload_n hx hb dX0_divide_153 rfl (lv_at hl 0 rfl) ?_
            refine x_get F hX 4 (by decide) q44 rfl rfl dX0_divide_154 ?_
            refine lv_bipush (v := 12) hx hb dX0_divide_157 (by decide) ?_
            refine lv_lshl (v := ((fx_unpack x1).2.1 <<< ((12 : Int32).toInt64 &&& 63))) hx hb dX0_divide_159 rfl ?_
            refine lv_lstore (lv' := [(4, .long ((fx_unpack x1).2.1 <<< ((12 : Int32).toInt64 &&& 63))), (0, .ref h), (1, .int x1), (2, .int x2), (3, .int x3)]) hx hb dX0_divide_160 hl (by decide) rfl (fun ls hl => ?_)
            refine lv_aload_n hx hb dX0_divide_162 rfl (lv_at hl 1 rfl) ?_
            refine x_get F hX 5 (by decide) q45 rfl rfl dX0_divide_163 ?_
            refine lv_bipush (v := 12) hx hb dX0_divide_166 (by decide) ?_
            refine lv_isub hx hb dX0_divide_168 ?_
            refine lv_istore (lv' := [(6, .int ((fx_unpack x1).2.2 - 12)), (4, .long ((fx_unpack x1).2.1 <<< ((12 : Int32).toInt64 &&& 63))), (0, .ref h), (1, .int x1), (2, .int x2), (3, .int x3)]) hx hb dX0_divide_169 hl (by decide) rfl (fun ls hl => ?_)
            refine lv_aload_n hx hb dX0_divide_171 rfl (lv_at hl 2 rfl) ?_
            refine lv_iload_n hx hb dX0_divide_172 rfl (lv_at hl 4 rfl) ?_
            refine x_callV (rest := []) F hX (cx_unpack l D h mo no_ st ((fx_unpack x1).1) ((fx_unpack x1).2.1) ((fx_unpack x1).2.2) x2) cq_x_unpack rfl ⟨rfl, rfl⟩ (by decide) rfl hl.1 rfl (Nat.le_of_ble_eq_true rfl) dX0_divide_173 (fun u' H locs hq hX => ?_)
            obtain rfl := hq
            refine lv_aload_n hx hb dX0_divide_176 rfl (lv_at hl 2 rfl) ?_
            refine x_get F hX 4 (by decide) q44 rfl rfl dX0_divide_177 ?_
            refine lv_lconst (v := 0) hx hb dX0_divide_180 (by decide) ?_
            refine ll_le (tgt := 195) hx hb dX0_divide_181 dX0_divide_182 (by decide) (fun c_181 => ?_) (fun c_181 => ?_)
            · have hF := hF.trans (if_pos c_181)
              refine lv_lconst (v := 0) hx hb dX0_divide_195 (by decide) ?_
              exact K_196 x3 ((fx_unpack x1).2.1 <<< ((12 : Int32).toInt64 &&& 63)) ((fx_unpack x1).2.2 - 12) 0 no_ ((fx_unpack x2).1) ((fx_unpack x2).2.1) ((fx_unpack x2).2.2) _ _ _ f81_0 f81_1 f81_2 f81_3 c_86 c_103 c_111 c_125 hF hX (lv_sub hl [2, 3, 4, 5, 1, 0] rfl)
            · have hF := hF.trans (if_neg c_181)
              refine lv_lload hx hb dX0_divide_185 (lv_at hl 1 rfl) ?_
              refine lv_aload_n hx hb dX0_divide_187 rfl (lv_at hl 2 rfl) ?_
              refine x_get F hX 4 (by decide) q44 rfl rfl dX0_divide_188 ?_
              refine lv_ldiv hx hb dX0_divide_191 (l_ne0 c_181) ?_
              refine lv_goto (tgt := 196) hx hb dX0_divide_192 (by decide) ?_
              exact K_196 x3 ((fx_unpack x1).2.1 <<< ((12 : Int32).toInt64 &&& 63)) ((fx_unpack x1).2.2 - 12) (((fx_unpack x1).2.1 <<< ((12 : Int32).toInt64 &&& 63)) / (fx_unpack x2).2.1) no_ ((fx_unpack x2).1) ((fx_unpack x2).2.1) ((fx_unpack x2).2.2) _ _ _ f81_0 f81_1 f81_2 f81_3 c_86 c_103 c_111 c_125 hF hX (lv_sub hl [2, 3, 4, 5, 1, 0] rfl)
          · have hF := hF.trans (if_neg c_125)
            refine lv_aload_n hx hb dX0_divide_128 rfl (lv_at hl 0 rfl) ?_
            refine lv_aload_n hx hb dX0_divide_129 rfl (lv_at hl 0 rfl) ?_
            refine x_get F hX 1 (by decide) q41 rfl rfl dX0_divide_130 ?_
            refine lv_bipush (v := 8) hx hb dX0_divide_133 (by decide) ?_
            refine lv_ior hx hb dX0_divide_135 ?_
            refine x_put (u' := (mo, (no_ ||| 8), st, sg_, fr_, ex_)) F hX 1 (by decide) q41 rfl rfl (tyX0_ok 1 (by decide)) rfl rfl rfl dX0_divide_136 (fun H locs hX => ?_)
            refine lv_iload_n hx hb dX0_divide_139 rfl (lv_at hl 3 rfl) ?_
            refine lv_sipush (v := 128) hx hb dX0_divide_140 (by decide) ?_
            refine lv_imul hx hb dX0_divide_143 ?_
            refine lv_bipush (v := 120) hx hb dX0_divide_144 (by decide) ?_
            refine lv_iadd hx hb dX0_divide_146 ?_
            exact g_iret F hX (lx_S hF) dX0_divide_147
        · have hF := hF.trans (if_neg c_111)
          refine lv_iload_n hx hb dX0_divide_114 rfl (lv_at hl 3 rfl) ?_
          refine lv_sipush (v := 128) hx hb dX0_divide_115 (by decide) ?_
          refine lv_imul hx hb dX0_divide_118 ?_
          exact g_iret F hX (lx_S hF) dX0_divide_119
    · have hF := hF.trans (if_neg c_86)
      refine lv_iload_n hx hb dX0_divide_89 rfl (lv_at hl 3 rfl) ?_
      refine lv_sipush (v := 128) hx hb dX0_divide_90 (by decide) ?_
      refine lv_imul hx hb dX0_divide_93 ?_
      refine lv_bipush (v := 120) hx hb dX0_divide_94 (by decide) ?_
      refine lv_iadd hx hb dX0_divide_96 ?_
      exact g_iret F hX (lx_S hF) dX0_divide_97
  have K_60 : ∀ (x3 : Int32) (no_ : Int32) (sg_ : Int32) (fr_ : Int64) (ex_ : Int32) (H : Heap) (locs : List Loc) (ls : Array Slot), ((fx_bad x1) = 0) → ((fx_bad x2) = 0) → ((fx_isNone x1) = 0) → ((fx_isNone x2) = 0) → fx_divide mo no x1 x2 = fx_divide_b60 mo x1 x2 x3 no_ → g_At (wX h) D A s (mo, no_, st, sg_, fr_, ex_) H locs → lv_has ls 10 [(0, .ref h), (1, .int x1), (2, .int x2), (3, .int x3)] → W p l e (rmK 2) s m args below meth c H locs 0 0 (MQ below (va_Qi (px_S (fx_divide mo no x1 x2) mo st) (g_B (wX h) [] D A) A) args s 0 0 A) (F0 m 60 ls []) := by
    intro x3 no_ sg_ fr_ ex_ H locs ls f60_0 f60_1 f60_2 f60_3 hF hX hl
    have hF := hF.trans (fx_divide_b60.eq_1 mo x1 x2 x3 no_)
    refine lv_aload_n hx hb dX0_divide_60 rfl (lv_at hl 0 rfl) ?_
    refine lv_iload_n hx hb dX0_divide_61 rfl (lv_at hl 1 rfl) ?_
    refine x_callP (rest := []) F hX (cx_isInfinite l D h mo no_ st sg_ fr_ ex_ x1) cq_x_isInfinite rfl ⟨rfl, rfl⟩ (by decide) rfl hl.1 rfl (Nat.le_of_ble_eq_true rfl) dX0_divide_62 (fun H locs hX => ?_)
    refine lv_if_eq (tgt := 81) hx hb dX0_divide_65 (by decide) (fun c_65 => ?_) (fun c_65 => ?_)
    · have hF := hF.trans (if_pos c_65)
      exact K_81 x3 no_ sg_ fr_ ex_ _ _ _ f60_0 f60_1 f60_2 f60_3 hF hX (lv_sub hl [0, 1, 2, 3] rfl)
    · have hF := hF.trans (if_neg c_65)
      refine lv_aload_n hx hb dX0_divide_68 rfl (lv_at hl 0 rfl) ?_
      refine lv_iload_n hx hb dX0_divide_69 rfl (lv_at hl 2 rfl) ?_
      refine x_callP (rest := []) F hX (cx_isInfinite l D h mo no_ st sg_ fr_ ex_ x2) cq_x_isInfinite rfl ⟨rfl, rfl⟩ (by decide) rfl hl.1 rfl (Nat.le_of_ble_eq_true rfl) dX0_divide_70 (fun H locs hX => ?_)
      refine lv_if_eq (tgt := 81) hx hb dX0_divide_73 (by decide) (fun c_73 => ?_) (fun c_73 => ?_)
      · have hF := hF.trans (if_pos c_73)
        exact K_81 x3 no_ sg_ fr_ ex_ _ _ _ f60_0 f60_1 f60_2 f60_3 hF hX (lv_sub hl [0, 1, 2, 3] rfl)
      · have hF := hF.trans (if_neg c_73)
        refine lv_aload_n hx hb dX0_divide_76 rfl (lv_at hl 0 rfl) ?_
        refine x_call (rest := []) F hX (cx_senseless l D h mo no_ st sg_ fr_ ex_) cq_x_senseless rfl ⟨rfl, rfl⟩ (by decide) rfl hl.1 rfl (Nat.le_of_ble_eq_true rfl) dX0_divide_77 (fun r u' H locs hq hX => ?_)
        obtain ⟨sg_77, fr_77, ex_77, rfl, rfl⟩ := hq
        exact g_iret F hX (lx_S hF) dX0_divide_80
  have hF := fx_divide.eq_1 mo no x1 x2
  refine lv_aload_n hx hb dX0_divide_0 rfl (lv_at hl 0 rfl) ?_
  refine lv_iload_n hx hb dX0_divide_1 rfl (lv_at hl 1 rfl) ?_
  refine x_callP (rest := []) F hX (cx_bad l D h mo no st sg fr ex x1) cq_x_bad rfl ⟨rfl, rfl⟩ (by decide) rfl hl.1 rfl (Nat.le_of_ble_eq_true rfl) dX0_divide_2 (fun H locs hX => ?_)
  refine lv_if_ne (tgt := 16) hx hb dX0_divide_5 (by decide) (fun c_5 => ?_) (fun c_5 => ?_)
  · have hF := hF.trans (if_neg c_5)
    refine lv_iconst (v := (-1)) hx hb dX0_divide_16 (by decide) ?_
    exact g_iret F hX (lx_S hF) dX0_divide_17
  · have hF := hF.trans (if_pos c_5)
    refine lv_aload_n hx hb dX0_divide_8 rfl (lv_at hl 0 rfl) ?_
    refine lv_iload_n hx hb dX0_divide_9 rfl (lv_at hl 2 rfl) ?_
    refine x_callP (rest := []) F hX (cx_bad l D h mo no st sg fr ex x2) cq_x_bad rfl ⟨rfl, rfl⟩ (by decide) rfl hl.1 rfl (Nat.le_of_ble_eq_true rfl) dX0_divide_10 (fun H locs hX => ?_)
    refine lv_if_eq (tgt := 18) hx hb dX0_divide_13 (by decide) (fun c_13 => ?_) (fun c_13 => ?_)
    · have hF := hF.trans (if_pos c_13)
      refine lv_aload_n hx hb dX0_divide_18 rfl (lv_at hl 0 rfl) ?_
      refine lv_iload_n hx hb dX0_divide_19 rfl (lv_at hl 1 rfl) ?_
      refine x_callP (rest := []) F hX (cx_isNone l D h mo no st sg fr ex x1) cq_x_isNone rfl ⟨rfl, rfl⟩ (by decide) rfl hl.1 rfl (Nat.le_of_ble_eq_true rfl) dX0_divide_20 (fun H locs hX => ?_)
      refine lv_if_ne (tgt := 34) hx hb dX0_divide_23 (by decide) (fun c_23 => ?_) (fun c_23 => ?_)
      · have hF := hF.trans (if_neg c_23)
        refine lv_bipush (v := 124) hx hb dX0_divide_34 (by decide) ?_
        exact g_iret F hX (lx_S hF) dX0_divide_36
      · have hF := hF.trans (if_pos c_23)
        refine lv_aload_n hx hb dX0_divide_26 rfl (lv_at hl 0 rfl) ?_
        refine lv_iload_n hx hb dX0_divide_27 rfl (lv_at hl 2 rfl) ?_
        refine x_callP (rest := []) F hX (cx_isNone l D h mo no st sg fr ex x2) cq_x_isNone rfl ⟨rfl, rfl⟩ (by decide) rfl hl.1 rfl (Nat.le_of_ble_eq_true rfl) dX0_divide_28 (fun H locs hX => ?_)
        refine lv_if_eq (tgt := 37) hx hb dX0_divide_31 (by decide) (fun c_31 => ?_) (fun c_31 => ?_)
        · have hF := hF.trans (if_pos c_31)
          refine lv_iload_n hx hb dX0_divide_37 rfl (lv_at hl 1 rfl) ?_
          refine lv_iload_n hx hb dX0_divide_38 rfl (lv_at hl 2 rfl) ?_
          refine lv_ixor hx hb dX0_divide_39 ?_
          refine lv_bipush (v := 7) hx hb dX0_divide_40 (by decide) ?_
          refine lv_ishr hx hb dX0_divide_42 ?_
          refine lv_istore_n (lv' := [(3, .int ((x1 ^^^ x2) >>> (7 &&& 31))), (0, .ref h), (1, .int x1), (2, .int x2)]) hx hb dX0_divide_43 rfl hl (by decide) rfl (fun ls hl => ?_)
          refine lv_aload_n hx hb dX0_divide_44 rfl (lv_at hl 1 rfl) ?_
          refine lv_iload_n hx hb dX0_divide_45 rfl (lv_at hl 2 rfl) ?_
          refine x_callP (rest := []) F hX (cx_isZero l D h mo no st sg fr ex x1) cq_x_isZero rfl ⟨rfl, rfl⟩ (by decide) rfl hl.1 rfl (Nat.le_of_ble_eq_true rfl) dX0_divide_46 (fun H locs hX => ?_)
          refine lv_if_eq (tgt := 60) hx hb dX0_divide_49 (by decide) (fun c_49 => ?_) (fun c_49 => ?_)
          · have hF := hF.trans (if_pos c_49)
            exact K_60 ((x1 ^^^ x2) >>> (7 &&& 31)) no sg fr ex _ _ _ c_5 c_13 c_23 c_31 hF hX (lv_sub hl [1, 2, 3, 0] rfl)
          · have hF := hF.trans (if_neg c_49)
            refine lv_aload_n hx hb dX0_divide_52 rfl (lv_at hl 1 rfl) ?_
            refine lv_iload_n hx hb dX0_divide_53 rfl (lv_at hl 3 rfl) ?_
            refine x_callP (rest := []) F hX (cx_isZero l D h mo no st sg fr ex x2) cq_x_isZero rfl ⟨rfl, rfl⟩ (by decide) rfl hl.1 rfl (Nat.le_of_ble_eq_true rfl) dX0_divide_54 (fun H locs hX => ?_)
            refine lv_if_ne (tgt := 76) hx hb dX0_divide_57 (by decide) (fun c_57 => ?_) (fun c_57 => ?_)
            · have hF := hF.trans (if_neg c_57)
              refine lv_aload_n hx hb dX0_divide_76 rfl (lv_at hl 1 rfl) ?_
              refine x_call (rest := []) F hX (cx_senseless l D h mo no st sg fr ex) cq_x_senseless rfl ⟨rfl, rfl⟩ (by decide) rfl hl.1 rfl (Nat.le_of_ble_eq_true rfl) dX0_divide_77 (fun r u' H locs hq hX => ?_)
              obtain ⟨sg_77, fr_77, ex_77, rfl, rfl⟩ := hq
              exact g_iret F hX (lx_S hF) dX0_divide_80
            · have hF := hF.trans (if_pos c_57)
              exact K_60 ((x1 ^^^ x2) >>> (7 &&& 31)) no sg fr ex _ _ _ c_5 c_13 c_23 c_31 hF hX (lv_sub hl [1, 2, 3, 0] rfl)
        · have hF := hF.trans (if_neg c_31)
          refine lv_bipush (v := 124) hx hb dX0_divide_34 (by decide) ?_
          exact g_iret F hX (lx_S hF) dX0_divide_36
    · have hF := hF.trans (if_neg c_13)
      refine lv_iconst (v := (-1)) hx hb dX0_divide_16 (by decide) ?_
      exact g_iret F hX (lx_S hF) dX0_divide_17
def fx_root_b100 : Nat → Int32 → Int32 → Int64 → Int64 → Int32 → Int32 → Int32 × Int32
  | 0, _, _, _, _, _, _ => (0, 0)
  | n + 1, mo, x2, x3, x5, x7, no_ =>
  (if x7 < 0 then (if (x5 * x5) = x3 then ((fx_round mo no_ 0 x5 (x2 / 2) 0).1, (fx_round mo no_ 0 x5 (x2 / 2) 0).2) else ((fx_round mo no_ 0 x5 (x2 / 2) 1).1, (fx_round mo no_ 0 x5 (x2 / 2) 1).2)) else (if x3 < ((x5 ||| (1 <<< ((x7 : Int32).toInt64 &&& 63))) * (x5 ||| (1 <<< ((x7 : Int32).toInt64 &&& 63)))) then fx_root_b100 n mo x2 x3 x5 (x7 + (-1)) no_ else fx_root_b100 n mo x2 x3 (x5 ||| (1 <<< ((x7 : Int32).toInt64 &&& 63))) (x7 + (-1)) no_))
def fx_root_b93 (mo : Int32) (x2 : Int32) (x3 : Int64) (no_ : Int32) : Int32 × Int32 :=
  fx_root_b100 14 mo x2 x3 0 12 no_
def fx_root (mo : Int32) (no : Int32) (x1 : Int32) : Int32 × Int32 :=
  (if (fx_bad x1) = 0 then (if (fx_isNone x1) = 0 then (if (fx_isZero x1) = 0 then (if x1 < 128 then (if (fx_isInfinite x1) = 0 then (if ((((fx_unpack x1).2.2 + 9) - 16) &&& 1) = 1 then fx_root_b93 mo ((((fx_unpack x1).2.2 + 9) - 16) + (-1)) (((fx_unpack x1).2.1 <<< ((16 : Int32).toInt64 &&& 63)) <<< ((1 : Int32).toInt64 &&& 63)) no else fx_root_b93 mo (((fx_unpack x1).2.2 + 9) - 16) ((fx_unpack x1).2.1 <<< ((16 : Int32).toInt64 &&& 63)) no) else (x1, no)) else ((fx_senseless no).1, (fx_senseless no).2)) else (x1, no)) else (124, no)) else ((-1), no))
set_option maxHeartbeats 8000000 in
set_option maxRecDepth 100000 in
theorem cx_root (l : Launch) (D : va_G) (h : Nat) (mo : Int32) (no : Int32) (st : Int32) (sg : Int32) (fr : Int64) (ex : Int32) (x1 : Int32)  : g_Met l yX0_root cX0_root 10 (some .int) (rmK 2) (wX h) [] D (mo, no, st, sg, fr, ex) [.ref h, .int x1] (px_S (fx_root mo no x1) mo st) := by
  refine g_enter (by decide) (Nat.le_of_ble_eq_true rfl) (fun p e s m args below meth c A ls F hX hl => ?_)
  have hx := F.1
  have hb := F.2.1
  generalize hH0 : s.heap = H at hX ⊢
  generalize ([] : List Loc) = locs at hX ⊢
  have hl : lv_has ls 10 [(0, .ref h), (1, .int x1)] := hl
  clear hH0
  have K_100 : ∀ (n : Nat) (x2 : Int32) (x3 : Int64) (x5 : Int64) (x7 : Int32) (no_ : Int32) (sg_ : Int32) (fr_ : Int64) (ex_ : Int32) (H : Heap) (locs : List Loc) (ls : Array Slot), (x7 + 2 = nI n ∧ 1 ≤ n ∧ n ≤ 14) → ((fx_bad x1) = 0) → ((fx_isNone x1) = 0) → ((fx_isZero x1) = 0) → (x1 < 128) → ((fx_isInfinite x1) = 0) → fx_root mo no x1 = fx_root_b100 n mo x2 x3 x5 x7 no_ → g_At (wX h) D A s (mo, no_, st, sg_, fr_, ex_) H locs → lv_has ls 10 [(0, .ref h), (1, .int x1), (2, .int x2), (3, .long x3), (5, .long x5), (7, .int x7)] → W p l e (rmK 2) s m args below meth c H locs 0 0 (MQ below (va_Qi (px_S (fx_root mo no x1) mo st) (g_B (wX h) [] D A) A) args s 0 0 A) (F0 m 100 ls []) := by
    intro n
    induction n with
    | zero => intro x2 x3 x5 x7 no_ sg_ fr_ ex_ H locs ls hi; exact absurd hi (fun h => absurd h.2.1 (by decide))
    | succ n ih =>
      intro x2 x3 x5 x7 no_ sg_ fr_ ex_ H locs ls hi f100_0 f100_1 f100_2 f100_3 f100_4 hF hX hl
      have hF := hF.trans (fx_root_b100.eq_2 _ _ _ _ _ _ _)
      refine lv_iload hx hb dX0_root_100 (lv_at hl 5 rfl) ?_
      refine lv_if_lt (tgt := 134) hx hb dX0_root_102 (by decide) (fun c_102 => ?_) (fun c_102 => ?_)
      · have hF := hF.trans (if_pos c_102)
        refine lv_aload_n hx hb dX0_root_134 rfl (lv_at hl 0 rfl) ?_
        refine lv_iconst (v := 0) hx hb dX0_root_135 (by decide) ?_
        refine lv_lload hx hb dX0_root_136 (lv_at hl 4 rfl) ?_
        refine lv_iload_n hx hb dX0_root_138 rfl (lv_at hl 2 rfl) ?_
        refine lv_iconst (v := 2) hx hb dX0_root_139 (by decide) ?_
        refine lv_idiv hx hb dX0_root_140 (by decide) ?_
        refine lv_lload hx hb dX0_root_141 (lv_at hl 4 rfl) ?_
        refine lv_lload hx hb dX0_root_143 (lv_at hl 4 rfl) ?_
        refine lv_lmul hx hb dX0_root_145 ?_
        refine lv_lload_n hx hb dX0_root_146 rfl (lv_at hl 3 rfl) ?_
        refine ll_eq (tgt := 155) hx hb dX0_root_147 dX0_root_148 (by decide) (fun c_147 => ?_) (fun c_147 => ?_)
        · have hF := hF.trans (if_pos c_147)
          refine lv_iconst (v := 0) hx hb dX0_root_155 (by decide) ?_
          refine x_call (rest := []) F hX (cx_round l D h mo no_ st sg_ fr_ ex_ 0 x5 (x2 / 2) 0) cq_x_round rfl ⟨rfl, rfl⟩ (by decide) rfl hl.1 rfl (Nat.le_of_ble_eq_true rfl) dX0_root_156 (fun r u' H locs hq hX => ?_)
          obtain ⟨sg_156, fr_156, ex_156, rfl, rfl⟩ := hq
          exact g_iret F hX (lx_S hF) dX0_root_159
        · have hF := hF.trans (if_neg c_147)
          refine lv_iconst (v := 1) hx hb dX0_root_151 (by decide) ?_
          refine lv_goto (tgt := 156) hx hb dX0_root_152 (by decide) ?_
          refine x_call (rest := []) F hX (cx_round l D h mo no_ st sg_ fr_ ex_ 0 x5 (x2 / 2) 1) cq_x_round rfl ⟨rfl, rfl⟩ (by decide) rfl hl.1 rfl (Nat.le_of_ble_eq_true rfl) dX0_root_156 (fun r u' H locs hq hX => ?_)
          obtain ⟨sg_156, fr_156, ex_156, rfl, rfl⟩ := hq
          exact g_iret F hX (lx_S hF) dX0_root_159
      · have hF := hF.trans (if_neg c_102)
        refine lv_lload hx hb dX0_root_105 (lv_at hl 4 rfl) ?_
        refine lv_lconst (v := 1) hx hb dX0_root_107 (by decide) ?_
        refine lv_iload hx hb dX0_root_108 (lv_at hl 5 rfl) ?_
        refine lv_lshl (v := (1 <<< ((x7 : Int32).toInt64 &&& 63))) hx hb dX0_root_110 rfl ?_
        refine lv_lor hx hb dX0_root_111 ?_
        refine lv_lstore (lv' := [(8, .long (x5 ||| (1 <<< ((x7 : Int32).toInt64 &&& 63)))), (0, .ref h), (1, .int x1), (2, .int x2), (3, .long x3), (5, .long x5), (7, .int x7)]) hx hb dX0_root_112 hl (by decide) rfl (fun ls hl => ?_)
        refine lv_lload hx hb dX0_root_114 (lv_at hl 0 rfl) ?_
        refine lv_lload hx hb dX0_root_116 (lv_at hl 0 rfl) ?_
        refine lv_lmul hx hb dX0_root_118 ?_
        refine lv_lload_n hx hb dX0_root_119 rfl (lv_at hl 4 rfl) ?_
        refine ll_gt (tgt := 128) hx hb dX0_root_120 dX0_root_121 (by decide) (fun c_120 => ?_) (fun c_120 => ?_)
        · have hF := hF.trans (if_pos c_120)
          refine lv_iinc (v := (x7 + (-1))) (lv' := [(7, .int (x7 + (-1))), (8, .long (x5 ||| (1 <<< ((x7 : Int32).toInt64 &&& 63)))), (0, .ref h), (1, .int x1), (2, .int x2), (3, .long x3), (5, .long x5)]) hx hb dX0_root_128 hl (k := 6) rfl rfl (by decide) rfl (fun ls hl => ?_)
          refine lv_goto (tgt := 100) hx hb dX0_root_131 (by decide) ?_
          exact ih x2 x3 x5 (x7 + (-1)) no_ sg_ fr_ ex_ _ _ _ (lp_dn hi c_102) f100_0 f100_1 f100_2 f100_3 f100_4 hF hX (lv_sub hl [2, 3, 4, 5, 6, 0] rfl)
        · have hF := hF.trans (if_neg c_120)
          refine lv_lload hx hb dX0_root_124 (lv_at hl 0 rfl) ?_
          refine lv_lstore (lv' := [(5, .long (x5 ||| (1 <<< ((x7 : Int32).toInt64 &&& 63)))), (8, .long (x5 ||| (1 <<< ((x7 : Int32).toInt64 &&& 63)))), (0, .ref h), (1, .int x1), (2, .int x2), (3, .long x3), (7, .int x7)]) hx hb dX0_root_126 hl (by decide) rfl (fun ls hl => ?_)
          refine lv_iinc (v := (x7 + (-1))) (lv' := [(7, .int (x7 + (-1))), (5, .long (x5 ||| (1 <<< ((x7 : Int32).toInt64 &&& 63)))), (8, .long (x5 ||| (1 <<< ((x7 : Int32).toInt64 &&& 63)))), (0, .ref h), (1, .int x1), (2, .int x2), (3, .long x3)]) hx hb dX0_root_128 hl (k := 6) rfl rfl (by decide) rfl (fun ls hl => ?_)
          refine lv_goto (tgt := 100) hx hb dX0_root_131 (by decide) ?_
          exact ih x2 x3 (x5 ||| (1 <<< ((x7 : Int32).toInt64 &&& 63))) (x7 + (-1)) no_ sg_ fr_ ex_ _ _ _ (lp_dn hi c_102) f100_0 f100_1 f100_2 f100_3 f100_4 hF hX (lv_sub hl [3, 4, 5, 6, 1, 0] rfl)
  have K_93 : ∀ (x2 : Int32) (x3 : Int64) (no_ : Int32) (sg_ : Int32) (fr_ : Int64) (ex_ : Int32) (H : Heap) (locs : List Loc) (ls : Array Slot), ((fx_bad x1) = 0) → ((fx_isNone x1) = 0) → ((fx_isZero x1) = 0) → (x1 < 128) → ((fx_isInfinite x1) = 0) → fx_root mo no x1 = fx_root_b93 mo x2 x3 no_ → g_At (wX h) D A s (mo, no_, st, sg_, fr_, ex_) H locs → lv_has ls 10 [(0, .ref h), (1, .int x1), (2, .int x2), (3, .long x3)] → W p l e (rmK 2) s m args below meth c H locs 0 0 (MQ below (va_Qi (px_S (fx_root mo no x1) mo st) (g_B (wX h) [] D A) A) args s 0 0 A) (F0 m 93 ls []) := by
    intro x2 x3 no_ sg_ fr_ ex_ H locs ls f93_0 f93_1 f93_2 f93_3 f93_4 hF hX hl
    have hF := hF.trans (fx_root_b93.eq_1 mo x2 x3 no_)
    refine lv_lconst (v := 0) hx hb dX0_root_93 (by decide) ?_
    refine lv_lstore (lv' := [(5, .long 0), (0, .ref h), (1, .int x1), (2, .int x2), (3, .long x3)]) hx hb dX0_root_94 hl (by decide) rfl (fun ls hl => ?_)
    refine lv_bipush (v := 12) hx hb dX0_root_96 (by decide) ?_
    refine lv_istore (lv' := [(7, .int 12), (5, .long 0), (0, .ref h), (1, .int x1), (2, .int x2), (3, .long x3)]) hx hb dX0_root_98 hl (by decide) rfl (fun ls hl => ?_)
    exact K_100 14 x2 x3 0 12 no_ sg_ fr_ ex_ _ _ _ ⟨by decide, by decide, by decide⟩ f93_0 f93_1 f93_2 f93_3 f93_4 hF hX (lv_sub hl [2, 3, 4, 5, 1, 0] rfl)
  have hF := fx_root.eq_1 mo no x1
  refine lv_aload_n hx hb dX0_root_0 rfl (lv_at hl 0 rfl) ?_
  refine lv_iload_n hx hb dX0_root_1 rfl (lv_at hl 1 rfl) ?_
  refine x_callP (rest := []) F hX (cx_bad l D h mo no st sg fr ex x1) cq_x_bad rfl ⟨rfl, rfl⟩ (by decide) rfl hl.1 rfl (Nat.le_of_ble_eq_true rfl) dX0_root_2 (fun H locs hX => ?_)
  refine lv_if_eq (tgt := 10) hx hb dX0_root_5 (by decide) (fun c_5 => ?_) (fun c_5 => ?_)
  · have hF := hF.trans (if_pos c_5)
    refine lv_aload_n hx hb dX0_root_10 rfl (lv_at hl 0 rfl) ?_
    refine lv_iload_n hx hb dX0_root_11 rfl (lv_at hl 1 rfl) ?_
    refine x_callP (rest := []) F hX (cx_isNone l D h mo no st sg fr ex x1) cq_x_isNone rfl ⟨rfl, rfl⟩ (by decide) rfl hl.1 rfl (Nat.le_of_ble_eq_true rfl) dX0_root_12 (fun H locs hX => ?_)
    refine lv_if_eq (tgt := 21) hx hb dX0_root_15 (by decide) (fun c_15 => ?_) (fun c_15 => ?_)
    · have hF := hF.trans (if_pos c_15)
      refine lv_aload_n hx hb dX0_root_21 rfl (lv_at hl 0 rfl) ?_
      refine lv_iload_n hx hb dX0_root_22 rfl (lv_at hl 1 rfl) ?_
      refine x_callP (rest := []) F hX (cx_isZero l D h mo no st sg fr ex x1) cq_x_isZero rfl ⟨rfl, rfl⟩ (by decide) rfl hl.1 rfl (Nat.le_of_ble_eq_true rfl) dX0_root_23 (fun H locs hX => ?_)
      refine lv_if_eq (tgt := 31) hx hb dX0_root_26 (by decide) (fun c_26 => ?_) (fun c_26 => ?_)
      · have hF := hF.trans (if_pos c_26)
        refine lv_iload_n hx hb dX0_root_31 rfl (lv_at hl 1 rfl) ?_
        refine lv_sipush (v := 128) hx hb dX0_root_32 (by decide) ?_
        refine lv_icmp_lt (tgt := 43) hx hb dX0_root_35 (by decide) (fun c_35 => ?_) (fun c_35 => ?_)
        · have hF := hF.trans (if_pos c_35)
          refine lv_aload_n hx hb dX0_root_43 rfl (lv_at hl 0 rfl) ?_
          refine lv_iload_n hx hb dX0_root_44 rfl (lv_at hl 1 rfl) ?_
          refine x_callP (rest := []) F hX (cx_isInfinite l D h mo no st sg fr ex x1) cq_x_isInfinite rfl ⟨rfl, rfl⟩ (by decide) rfl hl.1 rfl (Nat.le_of_ble_eq_true rfl) dX0_root_45 (fun H locs hX => ?_)
          refine lv_if_eq (tgt := 53) hx hb dX0_root_48 (by decide) (fun c_48 => ?_) (fun c_48 => ?_)
          · have hF := hF.trans (if_pos c_48)
            refine lv_aload_n hx hb dX0_root_53 rfl (lv_at hl 0 rfl) ?_
            refine lv_iload_n hx hb dX0_root_54 rfl (lv_at hl 1 rfl) ?_
            refine x_callV (rest := []) F hX (cx_unpack l D h mo no st sg fr ex x1) cq_x_unpack rfl ⟨rfl, rfl⟩ (by decide) rfl hl.1 rfl (Nat.le_of_ble_eq_true rfl) dX0_root_55 (fun u' H locs hq hX => ?_)
            obtain rfl := hq
            refine lv_aload_n hx hb dX0_root_58 rfl (lv_at hl 0 rfl) ?_
            refine x_get F hX 5 (by decide) q45 rfl rfl dX0_root_59 ?_
            refine lv_bipush (v := 9) hx hb dX0_root_62 (by decide) ?_
            refine lv_iadd hx hb dX0_root_64 ?_
            refine lv_istore_n (lv' := [(2, .int ((fx_unpack x1).2.2 + 9)), (0, .ref h), (1, .int x1)]) hx hb dX0_root_65 rfl hl (by decide) rfl (fun ls hl => ?_)
            refine lv_aload_n hx hb dX0_root_66 rfl (lv_at hl 1 rfl) ?_
            refine x_get F hX 4 (by decide) q44 rfl rfl dX0_root_67 ?_
            refine lv_bipush (v := 16) hx hb dX0_root_70 (by decide) ?_
            refine lv_lshl (v := ((fx_unpack x1).2.1 <<< ((16 : Int32).toInt64 &&& 63))) hx hb dX0_root_72 rfl ?_
            refine lv_lstore_n (lv' := [(3, .long ((fx_unpack x1).2.1 <<< ((16 : Int32).toInt64 &&& 63))), (2, .int ((fx_unpack x1).2.2 + 9)), (0, .ref h), (1, .int x1)]) hx hb dX0_root_73 rfl hl (by decide) rfl (fun ls hl => ?_)
            refine lv_iload_n hx hb dX0_root_74 rfl (lv_at hl 1 rfl) ?_
            refine lv_bipush (v := 16) hx hb dX0_root_75 (by decide) ?_
            refine lv_isub hx hb dX0_root_77 ?_
            refine lv_istore_n (lv' := [(2, .int (((fx_unpack x1).2.2 + 9) - 16)), (3, .long ((fx_unpack x1).2.1 <<< ((16 : Int32).toInt64 &&& 63))), (0, .ref h), (1, .int x1)]) hx hb dX0_root_78 rfl hl (by decide) rfl (fun ls hl => ?_)
            refine lv_iload_n hx hb dX0_root_79 rfl (lv_at hl 0 rfl) ?_
            refine lv_iconst (v := 1) hx hb dX0_root_80 (by decide) ?_
            refine lv_iand hx hb dX0_root_81 ?_
            refine lv_iconst (v := 1) hx hb dX0_root_82 (by decide) ?_
            refine lv_icmp_ne (tgt := 93) hx hb dX0_root_83 (by decide) (fun c_83 => ?_) (fun c_83 => ?_)
            · have hF := hF.trans (if_neg c_83)
              exact K_93 (((fx_unpack x1).2.2 + 9) - 16) ((fx_unpack x1).2.1 <<< ((16 : Int32).toInt64 &&& 63)) no ((fx_unpack x1).1) ((fx_unpack x1).2.1) ((fx_unpack x1).2.2) _ _ _ c_5 c_15 c_26 c_35 c_48 hF hX (lv_sub hl [2, 3, 0, 1] rfl)
            · have hF := hF.trans (if_pos c_83)
              refine lv_lload_n hx hb dX0_root_86 rfl (lv_at hl 1 rfl) ?_
              refine lv_iconst (v := 1) hx hb dX0_root_87 (by decide) ?_
              refine lv_lshl (v := (((fx_unpack x1).2.1 <<< ((16 : Int32).toInt64 &&& 63)) <<< ((1 : Int32).toInt64 &&& 63))) hx hb dX0_root_88 rfl ?_
              refine lv_lstore_n (lv' := [(3, .long (((fx_unpack x1).2.1 <<< ((16 : Int32).toInt64 &&& 63)) <<< ((1 : Int32).toInt64 &&& 63))), (2, .int (((fx_unpack x1).2.2 + 9) - 16)), (0, .ref h), (1, .int x1)]) hx hb dX0_root_89 rfl hl (by decide) rfl (fun ls hl => ?_)
              refine lv_iinc (v := ((((fx_unpack x1).2.2 + 9) - 16) + (-1))) (lv' := [(2, .int ((((fx_unpack x1).2.2 + 9) - 16) + (-1))), (3, .long (((fx_unpack x1).2.1 <<< ((16 : Int32).toInt64 &&& 63)) <<< ((1 : Int32).toInt64 &&& 63))), (0, .ref h), (1, .int x1)]) hx hb dX0_root_90 hl (k := 1) rfl rfl (by decide) rfl (fun ls hl => ?_)
              exact K_93 ((((fx_unpack x1).2.2 + 9) - 16) + (-1)) (((fx_unpack x1).2.1 <<< ((16 : Int32).toInt64 &&& 63)) <<< ((1 : Int32).toInt64 &&& 63)) no ((fx_unpack x1).1) ((fx_unpack x1).2.1) ((fx_unpack x1).2.2) _ _ _ c_5 c_15 c_26 c_35 c_48 hF hX (lv_sub hl [2, 3, 0, 1] rfl)
          · have hF := hF.trans (if_neg c_48)
            refine lv_iload_n hx hb dX0_root_51 rfl (lv_at hl 1 rfl) ?_
            exact g_iret F hX (lx_S hF) dX0_root_52
        · have hF := hF.trans (if_neg c_35)
          refine lv_aload_n hx hb dX0_root_38 rfl (lv_at hl 0 rfl) ?_
          refine x_call (rest := []) F hX (cx_senseless l D h mo no st sg fr ex) cq_x_senseless rfl ⟨rfl, rfl⟩ (by decide) rfl hl.1 rfl (Nat.le_of_ble_eq_true rfl) dX0_root_39 (fun r u' H locs hq hX => ?_)
          obtain ⟨sg_39, fr_39, ex_39, rfl, rfl⟩ := hq
          exact g_iret F hX (lx_S hF) dX0_root_42
      · have hF := hF.trans (if_neg c_26)
        refine lv_iload_n hx hb dX0_root_29 rfl (lv_at hl 1 rfl) ?_
        exact g_iret F hX (lx_S hF) dX0_root_30
    · have hF := hF.trans (if_neg c_15)
      refine lv_bipush (v := 124) hx hb dX0_root_18 (by decide) ?_
      exact g_iret F hX (lx_S hF) dX0_root_20
  · have hF := hF.trans (if_neg c_5)
    refine lv_iconst (v := (-1)) hx hb dX0_root_8 (by decide) ?_
    exact g_iret F hX (lx_S hF) dX0_root_9
def fx_compare (x1 : Int32) (x2 : Int32) : Int32 :=
  (if (fx_bad x1) = 0 then (if (fx_bad x2) = 0 then (if (fx_isNone x1) = 0 then (if (fx_isNone x2) = 0 then (if (fx_rank x1) = (fx_rank x2) then 0 else (if (fx_rank x2) ≤ (fx_rank x1) then 1 else (-1))) else 2) else 2) else (-1)) else (-1))
set_option maxHeartbeats 8000000 in
set_option maxRecDepth 100000 in
theorem cx_compare (l : Launch) (D : va_G) (h : Nat) (mo : Int32) (no : Int32) (st : Int32) (sg : Int32) (fr : Int64) (ex : Int32) (x1 : Int32) (x2 : Int32)  : g_Met l yX0_compare cX0_compare 5 (some .int) (rmK 1) (wX h) [] D (mo, no, st, sg, fr, ex) [.ref h, .int x1, .int x2] (p_P (fx_compare x1 x2) ((mo, no, st, sg, fr, ex) : SX)) := by
  refine g_enter (by decide) (Nat.le_of_ble_eq_true rfl) (fun p e s m args below meth c A ls F hX hl => ?_)
  have hx := F.1
  have hb := F.2.1
  generalize hH0 : s.heap = H at hX ⊢
  generalize ([] : List Loc) = locs at hX ⊢
  have hl : lv_has ls 5 [(0, .ref h), (1, .int x1), (2, .int x2)] := hl
  clear hH0
  have hF := fx_compare.eq_1 x1 x2
  refine lv_aload_n hx hb dX0_compare_0 rfl (lv_at hl 0 rfl) ?_
  refine lv_iload_n hx hb dX0_compare_1 rfl (lv_at hl 1 rfl) ?_
  refine x_callP (rest := []) F hX (cx_bad l D h mo no st sg fr ex x1) cq_x_bad rfl ⟨rfl, rfl⟩ (by decide) rfl hl.1 rfl (Nat.le_of_ble_eq_true rfl) dX0_compare_2 (fun H locs hX => ?_)
  refine lv_if_ne (tgt := 16) hx hb dX0_compare_5 (by decide) (fun c_5 => ?_) (fun c_5 => ?_)
  · have hF := hF.trans (if_neg c_5)
    refine lv_iconst (v := (-1)) hx hb dX0_compare_16 (by decide) ?_
    exact g_iret F hX ⟨hF.symm, rfl⟩ dX0_compare_17
  · have hF := hF.trans (if_pos c_5)
    refine lv_aload_n hx hb dX0_compare_8 rfl (lv_at hl 0 rfl) ?_
    refine lv_iload_n hx hb dX0_compare_9 rfl (lv_at hl 2 rfl) ?_
    refine x_callP (rest := []) F hX (cx_bad l D h mo no st sg fr ex x2) cq_x_bad rfl ⟨rfl, rfl⟩ (by decide) rfl hl.1 rfl (Nat.le_of_ble_eq_true rfl) dX0_compare_10 (fun H locs hX => ?_)
    refine lv_if_eq (tgt := 18) hx hb dX0_compare_13 (by decide) (fun c_13 => ?_) (fun c_13 => ?_)
    · have hF := hF.trans (if_pos c_13)
      refine lv_aload_n hx hb dX0_compare_18 rfl (lv_at hl 0 rfl) ?_
      refine lv_iload_n hx hb dX0_compare_19 rfl (lv_at hl 1 rfl) ?_
      refine x_callP (rest := []) F hX (cx_isNone l D h mo no st sg fr ex x1) cq_x_isNone rfl ⟨rfl, rfl⟩ (by decide) rfl hl.1 rfl (Nat.le_of_ble_eq_true rfl) dX0_compare_20 (fun H locs hX => ?_)
      refine lv_if_ne (tgt := 34) hx hb dX0_compare_23 (by decide) (fun c_23 => ?_) (fun c_23 => ?_)
      · have hF := hF.trans (if_neg c_23)
        refine lv_iconst (v := 2) hx hb dX0_compare_34 (by decide) ?_
        exact g_iret F hX ⟨hF.symm, rfl⟩ dX0_compare_35
      · have hF := hF.trans (if_pos c_23)
        refine lv_aload_n hx hb dX0_compare_26 rfl (lv_at hl 0 rfl) ?_
        refine lv_iload_n hx hb dX0_compare_27 rfl (lv_at hl 2 rfl) ?_
        refine x_callP (rest := []) F hX (cx_isNone l D h mo no st sg fr ex x2) cq_x_isNone rfl ⟨rfl, rfl⟩ (by decide) rfl hl.1 rfl (Nat.le_of_ble_eq_true rfl) dX0_compare_28 (fun H locs hX => ?_)
        refine lv_if_eq (tgt := 36) hx hb dX0_compare_31 (by decide) (fun c_31 => ?_) (fun c_31 => ?_)
        · have hF := hF.trans (if_pos c_31)
          refine lv_aload_n hx hb dX0_compare_36 rfl (lv_at hl 0 rfl) ?_
          refine lv_iload_n hx hb dX0_compare_37 rfl (lv_at hl 1 rfl) ?_
          refine x_callP (rest := []) F hX (cx_rank l D h mo no st sg fr ex x1) cq_x_rank rfl ⟨rfl, rfl⟩ (by decide) rfl hl.1 rfl (Nat.le_of_ble_eq_true rfl) dX0_compare_38 (fun H locs hX => ?_)
          refine lv_istore_n (lv' := [(3, .int (fx_rank x1)), (0, .ref h), (1, .int x1), (2, .int x2)]) hx hb dX0_compare_41 rfl hl (by decide) rfl (fun ls hl => ?_)
          refine lv_aload_n hx hb dX0_compare_42 rfl (lv_at hl 1 rfl) ?_
          refine lv_iload_n hx hb dX0_compare_43 rfl (lv_at hl 3 rfl) ?_
          refine x_callP (rest := []) F hX (cx_rank l D h mo no st sg fr ex x2) cq_x_rank rfl ⟨rfl, rfl⟩ (by decide) rfl hl.1 rfl (Nat.le_of_ble_eq_true rfl) dX0_compare_44 (fun H locs hX => ?_)
          refine lv_istore (lv' := [(4, .int (fx_rank x2)), (3, .int (fx_rank x1)), (0, .ref h), (1, .int x1), (2, .int x2)]) hx hb dX0_compare_47 hl (by decide) rfl (fun ls hl => ?_)
          refine lv_iload_n hx hb dX0_compare_49 rfl (lv_at hl 1 rfl) ?_
          refine lv_iload hx hb dX0_compare_50 (lv_at hl 0 rfl) ?_
          refine lv_icmp_ne (tgt := 57) hx hb dX0_compare_52 (by decide) (fun c_52 => ?_) (fun c_52 => ?_)
          · have hF := hF.trans (if_neg c_52)
            refine lv_iload_n hx hb dX0_compare_57 rfl (lv_at hl 1 rfl) ?_
            refine lv_iload hx hb dX0_compare_58 (lv_at hl 0 rfl) ?_
            refine lv_icmp_ge (tgt := 67) hx hb dX0_compare_60 (by decide) (fun c_60 => ?_) (fun c_60 => ?_)
            · have hF := hF.trans (if_pos c_60)
              refine lv_iconst (v := 1) hx hb dX0_compare_67 (by decide) ?_
              exact g_iret F hX ⟨hF.symm, rfl⟩ dX0_compare_68
            · have hF := hF.trans (if_neg c_60)
              refine lv_iconst (v := (-1)) hx hb dX0_compare_63 (by decide) ?_
              refine lv_goto (tgt := 68) hx hb dX0_compare_64 (by decide) ?_
              exact g_iret F hX ⟨hF.symm, rfl⟩ dX0_compare_68
          · have hF := hF.trans (if_pos c_52)
            refine lv_iconst (v := 0) hx hb dX0_compare_55 (by decide) ?_
            exact g_iret F hX ⟨hF.symm, rfl⟩ dX0_compare_56
        · have hF := hF.trans (if_neg c_31)
          refine lv_iconst (v := 2) hx hb dX0_compare_34 (by decide) ?_
          exact g_iret F hX ⟨hF.symm, rfl⟩ dX0_compare_35
    · have hF := hF.trans (if_neg c_13)
      refine lv_iconst (v := (-1)) hx hb dX0_compare_16 (by decide) ?_
      exact g_iret F hX ⟨hF.symm, rfl⟩ dX0_compare_17
def fx_from (mo : Int32) (no : Int32) (x1 : Int32) : Int32 × Int32 :=
  (if x1 < (-1000000) then ((-1), no) else (if x1 ≤ 1000000 then (if x1 = 0 then (0, no) else (if x1 ≤ 0 then ((fx_round mo no 1 (((-x1) : Int32).toInt64) 9 0).1, (fx_round mo no 1 (((-x1) : Int32).toInt64) 9 0).2) else ((fx_round mo no 0 ((x1 : Int32).toInt64) 9 0).1, (fx_round mo no 0 ((x1 : Int32).toInt64) 9 0).2))) else ((-1), no)))
set_option maxHeartbeats 8000000 in
set_option maxRecDepth 100000 in
theorem cx_from (l : Launch) (D : va_G) (h : Nat) (mo : Int32) (no : Int32) (st : Int32) (sg : Int32) (fr : Int64) (ex : Int32) (x1 : Int32)  : g_Met l yX0_from cX0_from 2 (some .int) (rmK 2) (wX h) [] D (mo, no, st, sg, fr, ex) [.ref h, .int x1] (px_S (fx_from mo no x1) mo st) := by
  refine g_enter (by decide) (Nat.le_of_ble_eq_true rfl) (fun p e s m args below meth c A ls F hX hl => ?_)
  have hx := F.1
  have hb := F.2.1
  generalize hH0 : s.heap = H at hX ⊢
  generalize ([] : List Loc) = locs at hX ⊢
  have hl : lv_has ls 2 [(0, .ref h), (1, .int x1)] := hl
  clear hH0
  have hF := fx_from.eq_1 mo no x1
  refine lv_iload_n hx hb dX0_from_0 rfl (lv_at hl 1 rfl) ?_
  refine lv_ldc hx hb F.2.2.2.1 (F.2.2.2.2.1 _ q165) dX0_from_1 ?_
  refine lv_icmp_lt (tgt := 12) hx hb dX0_from_3 (by decide) (fun c_3 => ?_) (fun c_3 => ?_)
  · have hF := hF.trans (if_pos c_3)
    refine lv_iconst (v := (-1)) hx hb dX0_from_12 (by decide) ?_
    exact g_iret F hX (lx_S hF) dX0_from_13
  · have hF := hF.trans (if_neg c_3)
    refine lv_iload_n hx hb dX0_from_6 rfl (lv_at hl 1 rfl) ?_
    refine lv_ldc hx hb F.2.2.2.1 (F.2.2.2.2.1 _ q166) dX0_from_7 ?_
    refine lv_icmp_le (tgt := 14) hx hb dX0_from_9 (by decide) (fun c_9 => ?_) (fun c_9 => ?_)
    · have hF := hF.trans (if_pos c_9)
      refine lv_iload_n hx hb dX0_from_14 rfl (lv_at hl 1 rfl) ?_
      refine lv_if_ne (tgt := 20) hx hb dX0_from_15 (by decide) (fun c_15 => ?_) (fun c_15 => ?_)
      · have hF := hF.trans (if_neg c_15)
        refine lv_iload_n hx hb dX0_from_20 rfl (lv_at hl 1 rfl) ?_
        refine lv_if_le (tgt := 37) hx hb dX0_from_21 (by decide) (fun c_21 => ?_) (fun c_21 => ?_)
        · have hF := hF.trans (if_pos c_21)
          refine lv_aload_n hx hb dX0_from_37 rfl (lv_at hl 0 rfl) ?_
          refine lv_iconst (v := 1) hx hb dX0_from_38 (by decide) ?_
          refine lv_iload_n hx hb dX0_from_39 rfl (lv_at hl 1 rfl) ?_
          refine lv_ineg hx hb dX0_from_40 ?_
          refine lv_i2l (v := (((-x1) : Int32).toInt64)) hx hb dX0_from_41 rfl ?_
          refine lv_bipush (v := 9) hx hb dX0_from_42 (by decide) ?_
          refine lv_iconst (v := 0) hx hb dX0_from_44 (by decide) ?_
          refine x_call (rest := []) F hX (cx_round l D h mo no st sg fr ex 1 (((-x1) : Int32).toInt64) 9 0) cq_x_round rfl ⟨rfl, rfl⟩ (by decide) rfl hl.1 rfl (Nat.le_of_ble_eq_true rfl) dX0_from_45 (fun r u' H locs hq hX => ?_)
          obtain ⟨sg_45, fr_45, ex_45, rfl, rfl⟩ := hq
          exact g_iret F hX (lx_S hF) dX0_from_48
        · have hF := hF.trans (if_neg c_21)
          refine lv_aload_n hx hb dX0_from_24 rfl (lv_at hl 0 rfl) ?_
          refine lv_iconst (v := 0) hx hb dX0_from_25 (by decide) ?_
          refine lv_iload_n hx hb dX0_from_26 rfl (lv_at hl 1 rfl) ?_
          refine lv_i2l (v := ((x1 : Int32).toInt64)) hx hb dX0_from_27 rfl ?_
          refine lv_bipush (v := 9) hx hb dX0_from_28 (by decide) ?_
          refine lv_iconst (v := 0) hx hb dX0_from_30 (by decide) ?_
          refine x_call (rest := []) F hX (cx_round l D h mo no st sg fr ex 0 ((x1 : Int32).toInt64) 9 0) cq_x_round rfl ⟨rfl, rfl⟩ (by decide) rfl hl.1 rfl (Nat.le_of_ble_eq_true rfl) dX0_from_31 (fun r u' H locs hq hX => ?_)
          obtain ⟨sg_31, fr_31, ex_31, rfl, rfl⟩ := hq
          refine lv_goto (tgt := 48) hx hb dX0_from_34 (by decide) ?_
          exact g_iret F hX (lx_S hF) dX0_from_48
      · have hF := hF.trans (if_pos c_15)
        refine lv_iconst (v := 0) hx hb dX0_from_18 (by decide) ?_
        exact g_iret F hX (lx_S hF) dX0_from_19
    · have hF := hF.trans (if_neg c_9)
      refine lv_iconst (v := (-1)) hx hb dX0_from_12 (by decide) ?_
      exact g_iret F hX (lx_S hF) dX0_from_13
def fx_whole_b130 (no : Int32) (t0 : Int32) (t1 : Int32) (sg_ : Int32) : Int32 × Int32 :=
  (if sg_ = 0 then ((t0 + t1), no) else ((-(t0 + t1)), no))
def fx_whole_b99 (mo : Int32) (no : Int32) (x4 : Int64) (x6 : Int32) (t0 : Int32) (sg_ : Int32) : Int32 × Int32 :=
  (if (fx_upward mo sg_ x4 x6 t0) = 0 then fx_whole_b130 no ((x4 : Int64).toInt32) 0 sg_ else fx_whole_b130 no ((x4 : Int64).toInt32) 1 sg_)
def fx_whole_b82 (mo : Int32) (no : Int32) (x2 : Int64) (x4 : Int64) (t0 : Int32) (sg_ : Int32) : Int32 × Int32 :=
  (if (x2 &&& 255) = 0 then fx_whole_b99 mo no x4 t0 0 sg_ else fx_whole_b99 mo no x4 t0 1 sg_)
def fx_whole (mo : Int32) (no : Int32) (x1 : Int32) : Int32 × Int32 :=
  (if (fx_bad x1) = 0 then (if (fx_isNone x1) = 0 then (if (fx_isInfinite x1) = 0 then (if ((((((fx_unpack x1).2.1 <<< (((fx_unpack x1).2.2 : Int32).toInt64 &&& 63)) : Int64).toUInt64 >>> ((8 : Int32).toInt64.toUInt64 &&& Int64.toUInt64 63)).toInt64) &&& 1) = 1 then fx_whole_b82 mo no ((fx_unpack x1).2.1 <<< (((fx_unpack x1).2.2 : Int32).toInt64 &&& 63)) (((((fx_unpack x1).2.1 <<< (((fx_unpack x1).2.2 : Int32).toInt64 &&& 63)) : Int64).toUInt64 >>> ((9 : Int32).toInt64.toUInt64 &&& Int64.toUInt64 63)).toInt64) 1 ((fx_unpack x1).1) else fx_whole_b82 mo no ((fx_unpack x1).2.1 <<< (((fx_unpack x1).2.2 : Int32).toInt64 &&& 63)) (((((fx_unpack x1).2.1 <<< (((fx_unpack x1).2.2 : Int32).toInt64 &&& 63)) : Int64).toUInt64 >>> ((9 : Int32).toInt64.toUInt64 &&& Int64.toUInt64 63)).toInt64) 0 ((fx_unpack x1).1)) else (if (128 : Int32) ≤ x1 then ((-1000), no) else (1000, no))) else (9999, no)) else (9999, no))
set_option maxHeartbeats 8000000 in
set_option maxRecDepth 100000 in
theorem cx_whole (l : Launch) (D : va_G) (h : Nat) (mo : Int32) (no : Int32) (st : Int32) (sg : Int32) (fr : Int64) (ex : Int32) (x1 : Int32)  : g_Met l yX0_whole cX0_whole 10 (some .int) (rmK 1) (wX h) [] D (mo, no, st, sg, fr, ex) [.ref h, .int x1] (px_S (fx_whole mo no x1) mo st) := by
  refine g_enter (by decide) (Nat.le_of_ble_eq_true rfl) (fun p e s m args below meth c A ls F hX hl => ?_)
  have hx := F.1
  have hb := F.2.1
  generalize hH0 : s.heap = H at hX ⊢
  generalize ([] : List Loc) = locs at hX ⊢
  have hl : lv_has ls 10 [(0, .ref h), (1, .int x1)] := hl
  clear hH0
  have K_130 : ∀ (x2 : Int64) (x4 : Int64) (x6 : Int32) (x7 : Int32) (x8 : Int32) (t0 : Int32) (t1 : Int32) (sg_ : Int32) (fr_ : Int64) (ex_ : Int32) (H : Heap) (locs : List Loc) (ls : Array Slot), ((fx_bad x1) = 0) → ((fx_isNone x1) = 0) → ((fx_isInfinite x1) = 0) → fx_whole mo no x1 = fx_whole_b130 no t0 t1 sg_ → g_At (wX h) D A s (mo, no, st, sg_, fr_, ex_) H locs → lv_has ls 10 [(0, .ref h), (1, .int x1), (2, .long x2), (4, .long x4), (6, .int x6), (7, .int x7), (8, .int x8)] → W p l e (rmK 1) s m args below meth c H locs 0 0 (MQ below (va_Qi (px_S (fx_whole mo no x1) mo st) (g_B (wX h) [] D A) A) args s 0 0 A) (F0 m 130 ls [.int t1, .int t0]) := by
    intro x2 x4 x6 x7 x8 t0 t1 sg_ fr_ ex_ H locs ls f130_0 f130_1 f130_2 hF hX hl
    have hF := hF.trans (fx_whole_b130.eq_1 no t0 t1 sg_)
    refine lv_iadd hx hb dX0_whole_130 ?_
    refine lv_istore (lv' := [(9, .int (t0 + t1)), (0, .ref h), (1, .int x1), (2, .long x2), (4, .long x4), (6, .int x6), (7, .int x7), (8, .int x8)]) hx hb dX0_whole_131 hl (by decide) rfl (fun ls hl => ?_)
    refine lv_aload_n hx hb dX0_whole_133 rfl (lv_at hl 1 rfl) ?_
    refine x_get F hX 3 (by decide) q43 rfl rfl dX0_whole_134 ?_
    refine lv_if_ne (tgt := 145) hx hb dX0_whole_137 (by decide) (fun c_137 => ?_) (fun c_137 => ?_)
    · have hF := hF.trans (if_neg c_137)
      refine lv_iload hx hb dX0_whole_145 (lv_at hl 0 rfl) ?_
      refine lv_ineg hx hb dX0_whole_147 ?_
      exact g_iret F hX (lx_S hF) dX0_whole_148
    · have hF := hF.trans (if_pos c_137)
      refine lv_iload hx hb dX0_whole_140 (lv_at hl 0 rfl) ?_
      refine lv_goto (tgt := 148) hx hb dX0_whole_142 (by decide) ?_
      exact g_iret F hX (lx_S hF) dX0_whole_148
  have K_99 : ∀ (x2 : Int64) (x4 : Int64) (x6 : Int32) (t0 : Int32) (sg_ : Int32) (fr_ : Int64) (ex_ : Int32) (H : Heap) (locs : List Loc) (ls : Array Slot), ((fx_bad x1) = 0) → ((fx_isNone x1) = 0) → ((fx_isInfinite x1) = 0) → fx_whole mo no x1 = fx_whole_b99 mo no x4 x6 t0 sg_ → g_At (wX h) D A s (mo, no, st, sg_, fr_, ex_) H locs → lv_has ls 10 [(0, .ref h), (1, .int x1), (2, .long x2), (4, .long x4), (6, .int x6)] → W p l e (rmK 1) s m args below meth c H locs 0 0 (MQ below (va_Qi (px_S (fx_whole mo no x1) mo st) (g_B (wX h) [] D A) A) args s 0 0 A) (F0 m 99 ls [.int t0]) := by
    intro x2 x4 x6 t0 sg_ fr_ ex_ H locs ls f99_0 f99_1 f99_2 hF hX hl
    have hF := hF.trans (fx_whole_b99.eq_1 mo no x4 x6 t0 sg_)
    refine lv_istore (lv' := [(7, .int t0), (0, .ref h), (1, .int x1), (2, .long x2), (4, .long x4), (6, .int x6)]) hx hb dX0_whole_99 hl (by decide) rfl (fun ls hl => ?_)
    refine lv_aload_n hx hb dX0_whole_101 rfl (lv_at hl 1 rfl) ?_
    refine lv_aload_n hx hb dX0_whole_102 rfl (lv_at hl 1 rfl) ?_
    refine x_get F hX 3 (by decide) q43 rfl rfl dX0_whole_103 ?_
    refine lv_lload hx hb dX0_whole_106 (lv_at hl 4 rfl) ?_
    refine lv_iload hx hb dX0_whole_108 (lv_at hl 5 rfl) ?_
    refine lv_iload hx hb dX0_whole_110 (lv_at hl 0 rfl) ?_
    refine x_callP (rest := []) F hX (cx_upward l D h mo no st sg_ fr_ ex_ sg_ x4 x6 t0) cq_x_upward rfl ⟨rfl, rfl⟩ (by decide) rfl hl.1 rfl (Nat.le_of_ble_eq_true rfl) dX0_whole_112 (fun H locs hX => ?_)
    refine lv_istore (lv' := [(8, .int (fx_upward mo sg_ x4 x6 t0)), (7, .int t0), (0, .ref h), (1, .int x1), (2, .long x2), (4, .long x4), (6, .int x6)]) hx hb dX0_whole_115 hl (by decide) rfl (fun ls hl => ?_)
    refine lv_lload hx hb dX0_whole_117 (lv_at hl 5 rfl) ?_
    refine lv_l2i (v := ((x4 : Int64).toInt32)) hx hb dX0_whole_119 rfl ?_
    refine lv_iload hx hb dX0_whole_120 (lv_at hl 0 rfl) ?_
    refine lv_if_eq (tgt := 129) hx hb dX0_whole_122 (by decide) (fun c_122 => ?_) (fun c_122 => ?_)
    · have hF := hF.trans (if_pos c_122)
      refine lv_iconst (v := 0) hx hb dX0_whole_129 (by decide) ?_
      exact K_130 x2 x4 x6 t0 (fx_upward mo sg_ x4 x6 t0) ((x4 : Int64).toInt32) 0 sg_ fr_ ex_ _ _ _ f99_0 f99_1 f99_2 hF hX (lv_sub hl [2, 3, 4, 5, 6, 1, 0] rfl)
    · have hF := hF.trans (if_neg c_122)
      refine lv_iconst (v := 1) hx hb dX0_whole_125 (by decide) ?_
      refine lv_goto (tgt := 130) hx hb dX0_whole_126 (by decide) ?_
      exact K_130 x2 x4 x6 t0 (fx_upward mo sg_ x4 x6 t0) ((x4 : Int64).toInt32) 1 sg_ fr_ ex_ _ _ _ f99_0 f99_1 f99_2 hF hX (lv_sub hl [2, 3, 4, 5, 6, 1, 0] rfl)
  have K_82 : ∀ (x2 : Int64) (x4 : Int64) (t0 : Int32) (sg_ : Int32) (fr_ : Int64) (ex_ : Int32) (H : Heap) (locs : List Loc) (ls : Array Slot), ((fx_bad x1) = 0) → ((fx_isNone x1) = 0) → ((fx_isInfinite x1) = 0) → fx_whole mo no x1 = fx_whole_b82 mo no x2 x4 t0 sg_ → g_At (wX h) D A s (mo, no, st, sg_, fr_, ex_) H locs → lv_has ls 10 [(0, .ref h), (1, .int x1), (2, .long x2), (4, .long x4)] → W p l e (rmK 1) s m args below meth c H locs 0 0 (MQ below (va_Qi (px_S (fx_whole mo no x1) mo st) (g_B (wX h) [] D A) A) args s 0 0 A) (F0 m 82 ls [.int t0]) := by
    intro x2 x4 t0 sg_ fr_ ex_ H locs ls f82_0 f82_1 f82_2 hF hX hl
    have hF := hF.trans (fx_whole_b82.eq_1 mo no x2 x4 t0 sg_)
    refine lv_istore (lv' := [(6, .int t0), (0, .ref h), (1, .int x1), (2, .long x2), (4, .long x4)]) hx hb dX0_whole_82 hl (by decide) rfl (fun ls hl => ?_)
    refine lv_lload_n hx hb dX0_whole_84 rfl (lv_at hl 3 rfl) ?_
    refine lv_ldc2 hx hb F.2.2.2.1 (F.2.2.2.2.1 _ q171) dX0_whole_85 ?_
    refine lv_land hx hb dX0_whole_88 ?_
    refine lv_lconst (v := 0) hx hb dX0_whole_89 (by decide) ?_
    refine ll_eq (tgt := 98) hx hb dX0_whole_90 dX0_whole_91 (by decide) (fun c_90 => ?_) (fun c_90 => ?_)
    · have hF := hF.trans (if_pos c_90)
      refine lv_iconst (v := 0) hx hb dX0_whole_98 (by decide) ?_
      exact K_99 x2 x4 t0 0 sg_ fr_ ex_ _ _ _ f82_0 f82_1 f82_2 hF hX (lv_sub hl [1, 2, 3, 4, 0] rfl)
    · have hF := hF.trans (if_neg c_90)
      refine lv_iconst (v := 1) hx hb dX0_whole_94 (by decide) ?_
      refine lv_goto (tgt := 99) hx hb dX0_whole_95 (by decide) ?_
      exact K_99 x2 x4 t0 1 sg_ fr_ ex_ _ _ _ f82_0 f82_1 f82_2 hF hX (lv_sub hl [1, 2, 3, 4, 0] rfl)
  have hF := fx_whole.eq_1 mo no x1
  refine lv_aload_n hx hb dX0_whole_0 rfl (lv_at hl 0 rfl) ?_
  refine lv_iload_n hx hb dX0_whole_1 rfl (lv_at hl 1 rfl) ?_
  refine x_callP (rest := []) F hX (cx_bad l D h mo no st sg fr ex x1) cq_x_bad rfl ⟨rfl, rfl⟩ (by decide) rfl hl.1 rfl (Nat.le_of_ble_eq_true rfl) dX0_whole_2 (fun H locs hX => ?_)
  refine lv_if_ne (tgt := 16) hx hb dX0_whole_5 (by decide) (fun c_5 => ?_) (fun c_5 => ?_)
  · have hF := hF.trans (if_neg c_5)
    refine lv_sipush (v := 9999) hx hb dX0_whole_16 (by decide) ?_
    exact g_iret F hX (lx_S hF) dX0_whole_19
  · have hF := hF.trans (if_pos c_5)
    refine lv_aload_n hx hb dX0_whole_8 rfl (lv_at hl 0 rfl) ?_
    refine lv_iload_n hx hb dX0_whole_9 rfl (lv_at hl 1 rfl) ?_
    refine x_callP (rest := []) F hX (cx_isNone l D h mo no st sg fr ex x1) cq_x_isNone rfl ⟨rfl, rfl⟩ (by decide) rfl hl.1 rfl (Nat.le_of_ble_eq_true rfl) dX0_whole_10 (fun H locs hX => ?_)
    refine lv_if_eq (tgt := 20) hx hb dX0_whole_13 (by decide) (fun c_13 => ?_) (fun c_13 => ?_)
    · have hF := hF.trans (if_pos c_13)
      refine lv_aload_n hx hb dX0_whole_20 rfl (lv_at hl 0 rfl) ?_
      refine lv_iload_n hx hb dX0_whole_21 rfl (lv_at hl 1 rfl) ?_
      refine x_callP (rest := []) F hX (cx_isInfinite l D h mo no st sg fr ex x1) cq_x_isInfinite rfl ⟨rfl, rfl⟩ (by decide) rfl hl.1 rfl (Nat.le_of_ble_eq_true rfl) dX0_whole_22 (fun H locs hX => ?_)
      refine lv_if_eq (tgt := 45) hx hb dX0_whole_25 (by decide) (fun c_25 => ?_) (fun c_25 => ?_)
      · have hF := hF.trans (if_pos c_25)
        refine lv_aload_n hx hb dX0_whole_45 rfl (lv_at hl 0 rfl) ?_
        refine lv_iload_n hx hb dX0_whole_46 rfl (lv_at hl 1 rfl) ?_
        refine x_callV (rest := []) F hX (cx_unpack l D h mo no st sg fr ex x1) cq_x_unpack rfl ⟨rfl, rfl⟩ (by decide) rfl hl.1 rfl (Nat.le_of_ble_eq_true rfl) dX0_whole_47 (fun u' H locs hq hX => ?_)
        obtain rfl := hq
        refine lv_aload_n hx hb dX0_whole_50 rfl (lv_at hl 0 rfl) ?_
        refine x_get F hX 4 (by decide) q44 rfl rfl dX0_whole_51 ?_
        refine lv_aload_n hx hb dX0_whole_54 rfl (lv_at hl 0 rfl) ?_
        refine x_get F hX 5 (by decide) q45 rfl rfl dX0_whole_55 ?_
        refine lv_lshl (v := ((fx_unpack x1).2.1 <<< (((fx_unpack x1).2.2 : Int32).toInt64 &&& 63))) hx hb dX0_whole_58 rfl ?_
        refine lv_lstore_n (lv' := [(2, .long ((fx_unpack x1).2.1 <<< (((fx_unpack x1).2.2 : Int32).toInt64 &&& 63))), (0, .ref h), (1, .int x1)]) hx hb dX0_whole_59 rfl hl (by decide) rfl (fun ls hl => ?_)
        refine lv_lload_n hx hb dX0_whole_60 rfl (lv_at hl 0 rfl) ?_
        refine lv_bipush (v := 9) hx hb dX0_whole_61 (by decide) ?_
        refine lv_lushr (v := (((((fx_unpack x1).2.1 <<< (((fx_unpack x1).2.2 : Int32).toInt64 &&& 63)) : Int64).toUInt64 >>> ((9 : Int32).toInt64.toUInt64 &&& Int64.toUInt64 63)).toInt64)) hx hb dX0_whole_63 rfl ?_
        refine lv_lstore (lv' := [(4, .long (((((fx_unpack x1).2.1 <<< (((fx_unpack x1).2.2 : Int32).toInt64 &&& 63)) : Int64).toUInt64 >>> ((9 : Int32).toInt64.toUInt64 &&& Int64.toUInt64 63)).toInt64)), (2, .long ((fx_unpack x1).2.1 <<< (((fx_unpack x1).2.2 : Int32).toInt64 &&& 63))), (0, .ref h), (1, .int x1)]) hx hb dX0_whole_64 hl (by decide) rfl (fun ls hl => ?_)
        refine lv_lload_n hx hb dX0_whole_66 rfl (lv_at hl 1 rfl) ?_
        refine lv_bipush (v := 8) hx hb dX0_whole_67 (by decide) ?_
        refine lv_lushr (v := (((((fx_unpack x1).2.1 <<< (((fx_unpack x1).2.2 : Int32).toInt64 &&& 63)) : Int64).toUInt64 >>> ((8 : Int32).toInt64.toUInt64 &&& Int64.toUInt64 63)).toInt64)) hx hb dX0_whole_69 rfl ?_
        refine lv_lconst (v := 1) hx hb dX0_whole_70 (by decide) ?_
        refine lv_land hx hb dX0_whole_71 ?_
        refine lv_lconst (v := 1) hx hb dX0_whole_72 (by decide) ?_
        refine ll_ne (tgt := 81) hx hb dX0_whole_73 dX0_whole_74 (by decide) (fun c_73 => ?_) (fun c_73 => ?_)
        · have hF := hF.trans (if_neg c_73)
          refine lv_iconst (v := 0) hx hb dX0_whole_81 (by decide) ?_
          exact K_82 ((fx_unpack x1).2.1 <<< (((fx_unpack x1).2.2 : Int32).toInt64 &&& 63)) (((((fx_unpack x1).2.1 <<< (((fx_unpack x1).2.2 : Int32).toInt64 &&& 63)) : Int64).toUInt64 >>> ((9 : Int32).toInt64.toUInt64 &&& Int64.toUInt64 63)).toInt64) 0 ((fx_unpack x1).1) ((fx_unpack x1).2.1) ((fx_unpack x1).2.2) _ _ _ c_5 c_13 c_25 hF hX (lv_sub hl [2, 3, 1, 0] rfl)
        · have hF := hF.trans (if_pos c_73)
          refine lv_iconst (v := 1) hx hb dX0_whole_77 (by decide) ?_
          refine lv_goto (tgt := 82) hx hb dX0_whole_78 (by decide) ?_
          exact K_82 ((fx_unpack x1).2.1 <<< (((fx_unpack x1).2.2 : Int32).toInt64 &&& 63)) (((((fx_unpack x1).2.1 <<< (((fx_unpack x1).2.2 : Int32).toInt64 &&& 63)) : Int64).toUInt64 >>> ((9 : Int32).toInt64.toUInt64 &&& Int64.toUInt64 63)).toInt64) 1 ((fx_unpack x1).1) ((fx_unpack x1).2.1) ((fx_unpack x1).2.2) _ _ _ c_5 c_13 c_25 hF hX (lv_sub hl [2, 3, 1, 0] rfl)
      · have hF := hF.trans (if_neg c_25)
        refine lv_iload_n hx hb dX0_whole_28 rfl (lv_at hl 1 rfl) ?_
        refine lv_sipush (v := 128) hx hb dX0_whole_29 (by decide) ?_
        refine lv_icmp_ge (tgt := 41) hx hb dX0_whole_32 (by decide) (fun c_32 => ?_) (fun c_32 => ?_)
        · have hF := hF.trans (if_pos c_32)
          refine lv_sipush (v := (-1000)) hx hb dX0_whole_41 (by decide) ?_
          exact g_iret F hX (lx_S hF) dX0_whole_44
        · have hF := hF.trans (if_neg c_32)
          refine lv_sipush (v := 1000) hx hb dX0_whole_35 (by decide) ?_
          refine lv_goto (tgt := 44) hx hb dX0_whole_38 (by decide) ?_
          exact g_iret F hX (lx_S hF) dX0_whole_44
    · have hF := hF.trans (if_neg c_13)
      refine lv_sipush (v := 9999) hx hb dX0_whole_16 (by decide) ?_
      exact g_iret F hX (lx_S hF) dX0_whole_19
def fx_pile (mo : Int32) (no : Int32) (st : Int32) (x1 : Int32) : Int32 × Int32 × Int32 × Int32 :=
  (if (fx_bad x1) = 0 then ((fx_sum mo no st x1).1, mo, (fx_sum mo no st x1).2, (fx_sum mo no st x1).1) else ((-1), mo, no, st))
set_option maxHeartbeats 8000000 in
set_option maxRecDepth 100000 in
theorem cx_pile (l : Launch) (D : va_G) (h : Nat) (mo : Int32) (no : Int32) (st : Int32) (sg : Int32) (fr : Int64) (ex : Int32) (x1 : Int32)  : g_Met l yX0_pile cX0_pile 2 (some .int) (rmK 5) (wX h) [] D (mo, no, st, sg, fr, ex) [.ref h, .int x1] (px_T (fx_pile mo no st x1)) := by
  refine g_enter (by decide) (Nat.le_of_ble_eq_true rfl) (fun p e s m args below meth c A ls F hX hl => ?_)
  have hx := F.1
  have hb := F.2.1
  generalize hH0 : s.heap = H at hX ⊢
  generalize ([] : List Loc) = locs at hX ⊢
  have hl : lv_has ls 2 [(0, .ref h), (1, .int x1)] := hl
  clear hH0
  have hF := fx_pile.eq_1 mo no st x1
  refine lv_aload_n hx hb dX0_pile_0 rfl (lv_at hl 0 rfl) ?_
  refine lv_iload_n hx hb dX0_pile_1 rfl (lv_at hl 1 rfl) ?_
  refine x_callP (rest := []) F hX (cx_bad l D h mo no st sg fr ex x1) cq_x_bad rfl ⟨rfl, rfl⟩ (by decide) rfl hl.1 rfl (Nat.le_of_ble_eq_true rfl) dX0_pile_2 (fun H locs hX => ?_)
  refine lv_if_eq (tgt := 10) hx hb dX0_pile_5 (by decide) (fun c_5 => ?_) (fun c_5 => ?_)
  · have hF := hF.trans (if_pos c_5)
    refine lv_aload_n hx hb dX0_pile_10 rfl (lv_at hl 0 rfl) ?_
    refine lv_aload_n hx hb dX0_pile_11 rfl (lv_at hl 0 rfl) ?_
    refine lv_aload_n hx hb dX0_pile_12 rfl (lv_at hl 0 rfl) ?_
    refine x_get F hX 2 (by decide) q42 rfl rfl dX0_pile_13 ?_
    refine lv_iload_n hx hb dX0_pile_16 rfl (lv_at hl 1 rfl) ?_
    refine x_call (rest := [.ref h]) F hX (cx_sum l D h mo no st sg fr ex st x1) cq_x_sum rfl ⟨rfl, rfl⟩ (by decide) rfl hl.1 rfl (Nat.le_of_ble_eq_true rfl) dX0_pile_17 (fun r u' H locs hq hX => ?_)
    obtain ⟨sg_17, fr_17, ex_17, rfl, rfl⟩ := hq
    refine x_put (u' := (mo, (fx_sum mo no st x1).2, (fx_sum mo no st x1).1, sg_17, fr_17, ex_17)) F hX 2 (by decide) q42 rfl rfl (tyX0_ok 2 (by decide)) rfl rfl rfl dX0_pile_20 (fun H locs hX => ?_)
    refine lv_aload_n hx hb dX0_pile_23 rfl (lv_at hl 0 rfl) ?_
    refine x_get F hX 2 (by decide) q42 rfl rfl dX0_pile_24 ?_
    exact g_iret F hX (lx_T hF) dX0_pile_27
  · have hF := hF.trans (if_neg c_5)
    refine lv_iconst (v := (-1)) hx hb dX0_pile_8 (by decide) ?_
    exact g_iret F hX (lx_T hF) dX0_pile_9
def fx_pileProduct (mo : Int32) (no : Int32) (st : Int32) (x1 : Int32) (x2 : Int32) : Int32 × Int32 × Int32 × Int32 :=
  (if (fx_bad x1) = 0 then (if (fx_bad x2) = 0 then ((fx_productSum mo no x1 x2 st).1, mo, (fx_productSum mo no x1 x2 st).2, (fx_productSum mo no x1 x2 st).1) else ((-1), mo, no, st)) else ((-1), mo, no, st))
set_option maxHeartbeats 8000000 in
set_option maxRecDepth 100000 in
theorem cx_pileProduct (l : Launch) (D : va_G) (h : Nat) (mo : Int32) (no : Int32) (st : Int32) (sg : Int32) (fr : Int64) (ex : Int32) (x1 : Int32) (x2 : Int32)  : g_Met l yX0_pileProduct cX0_pileProduct 3 (some .int) (rmK 5) (wX h) [] D (mo, no, st, sg, fr, ex) [.ref h, .int x1, .int x2] (px_T (fx_pileProduct mo no st x1 x2)) := by
  refine g_enter (by decide) (Nat.le_of_ble_eq_true rfl) (fun p e s m args below meth c A ls F hX hl => ?_)
  have hx := F.1
  have hb := F.2.1
  generalize hH0 : s.heap = H at hX ⊢
  generalize ([] : List Loc) = locs at hX ⊢
  have hl : lv_has ls 3 [(0, .ref h), (1, .int x1), (2, .int x2)] := hl
  clear hH0
  have hF := fx_pileProduct.eq_1 mo no st x1 x2
  refine lv_aload_n hx hb dX0_pileProduct_0 rfl (lv_at hl 0 rfl) ?_
  refine lv_iload_n hx hb dX0_pileProduct_1 rfl (lv_at hl 1 rfl) ?_
  refine x_callP (rest := []) F hX (cx_bad l D h mo no st sg fr ex x1) cq_x_bad rfl ⟨rfl, rfl⟩ (by decide) rfl hl.1 rfl (Nat.le_of_ble_eq_true rfl) dX0_pileProduct_2 (fun H locs hX => ?_)
  refine lv_if_ne (tgt := 16) hx hb dX0_pileProduct_5 (by decide) (fun c_5 => ?_) (fun c_5 => ?_)
  · have hF := hF.trans (if_neg c_5)
    refine lv_iconst (v := (-1)) hx hb dX0_pileProduct_16 (by decide) ?_
    exact g_iret F hX (lx_T hF) dX0_pileProduct_17
  · have hF := hF.trans (if_pos c_5)
    refine lv_aload_n hx hb dX0_pileProduct_8 rfl (lv_at hl 0 rfl) ?_
    refine lv_iload_n hx hb dX0_pileProduct_9 rfl (lv_at hl 2 rfl) ?_
    refine x_callP (rest := []) F hX (cx_bad l D h mo no st sg fr ex x2) cq_x_bad rfl ⟨rfl, rfl⟩ (by decide) rfl hl.1 rfl (Nat.le_of_ble_eq_true rfl) dX0_pileProduct_10 (fun H locs hX => ?_)
    refine lv_if_eq (tgt := 18) hx hb dX0_pileProduct_13 (by decide) (fun c_13 => ?_) (fun c_13 => ?_)
    · have hF := hF.trans (if_pos c_13)
      refine lv_aload_n hx hb dX0_pileProduct_18 rfl (lv_at hl 0 rfl) ?_
      refine lv_aload_n hx hb dX0_pileProduct_19 rfl (lv_at hl 0 rfl) ?_
      refine lv_iload_n hx hb dX0_pileProduct_20 rfl (lv_at hl 1 rfl) ?_
      refine lv_iload_n hx hb dX0_pileProduct_21 rfl (lv_at hl 2 rfl) ?_
      refine lv_aload_n hx hb dX0_pileProduct_22 rfl (lv_at hl 0 rfl) ?_
      refine x_get F hX 2 (by decide) q42 rfl rfl dX0_pileProduct_23 ?_
      refine x_call (rest := [.ref h]) F hX (cx_productSum l D h mo no st sg fr ex x1 x2 st) cq_x_productSum rfl ⟨rfl, rfl⟩ (by decide) rfl hl.1 rfl (Nat.le_of_ble_eq_true rfl) dX0_pileProduct_26 (fun r u' H locs hq hX => ?_)
      obtain ⟨sg_26, fr_26, ex_26, rfl, rfl⟩ := hq
      refine x_put (u' := (mo, (fx_productSum mo no x1 x2 st).2, (fx_productSum mo no x1 x2 st).1, sg_26, fr_26, ex_26)) F hX 2 (by decide) q42 rfl rfl (tyX0_ok 2 (by decide)) rfl rfl rfl dX0_pileProduct_29 (fun H locs hX => ?_)
      refine lv_aload_n hx hb dX0_pileProduct_32 rfl (lv_at hl 0 rfl) ?_
      refine x_get F hX 2 (by decide) q42 rfl rfl dX0_pileProduct_33 ?_
      exact g_iret F hX (lx_T hF) dX0_pileProduct_36
    · have hF := hF.trans (if_neg c_13)
      refine lv_iconst (v := (-1)) hx hb dX0_pileProduct_16 (by decide) ?_
      exact g_iret F hX (lx_T hF) dX0_pileProduct_17
end
section
set_option maxRecDepth 100000
theorem cq_m_isCode : g_Cq RX1 57 yX1_isCode cX1_isCode 2 (some .boolean) 1 := ⟨q220, q222, qs15, q31, q223, by decide +kernel⟩
theorem cq_m_isNone : g_Cq RX1 60 yX1_isNone cX1_isNone 2 (some .boolean) 1 := ⟨q224, q226, qs16, q31, q227, by decide +kernel⟩
theorem cq_m_isInfinite : g_Cq RX1 63 yX1_isInfinite cX1_isInfinite 2 (some .boolean) 1 := ⟨q228, q230, qs17, q31, q231, by decide +kernel⟩
theorem cq_m_isZero : g_Cq RX1 46 yX1_isZero cX1_isZero 2 (some .boolean) 1 := ⟨q248, q250, qs22, q31, q251, by decide +kernel⟩
theorem cq_m_isNegative : g_Cq RX1 13 yX1_isNegative cX1_isNegative 2 (some .boolean) 1 := ⟨q240, q242, qs20, q31, q243, by decide +kernel⟩
theorem cq_m_valueOf : g_Cq RX1 42 yX1_valueOf cX1_valueOf 2 (some .int) 1 := ⟨q236, q238, qs19, q31, q239, by decide +kernel⟩
theorem cq_m_senseless : g_Cq RX1 66 yX1_senseless cX1_senseless 1 (some .int) 0 := ⟨q232, q234, qs18, q31, q235, by decide +kernel⟩
theorem cq_m_signed : g_Cq RX1 28 yX1_signed cX1_signed 3 (some .int) 2 := ⟨q273, q275, qs28, q31, q276, by decide +kernel⟩
theorem cq_m_goesUp : g_Cq RX1 24 yX1_goesUp cX1_goesUp 2 (some .boolean) 1 := ⟨q269, q271, qs27, q31, q272, by decide +kernel⟩
theorem cq_m_sign : g_Cq RX1 34 yX1_sign cX1_sign 3 (some .int) 1 := ⟨q261, q263, qs25, q31, q264, by decide +kernel⟩
theorem cq_m_zero : g_Cq RX1 49 yX1_zero cX1_zero 2 (some .int) 1 := ⟨q252, q254, qs23, q31, q255, by decide +kernel⟩
theorem cq_m_choose : g_Cq RX1 38 yX1_choose cX1_choose 8 (some .int) 5 := ⟨q265, q267, qs26, q31, q268, by decide +kernel⟩
theorem cq_m_round : g_Cq RX1 53 yX1_round cX1_round 10 (some .int) 3 := ⟨q256, q258, qs24, q31, q259, by decide +kernel⟩
theorem cq_m_finiteSum : g_Cq RX1 70 yX1_finiteSum cX1_finiteSum 11 (some .int) 4 := ⟨q244, q246, qs21, q31, q247, by decide +kernel⟩
theorem cq_m_add : g_Cq RX1 74 yX1_add cX1_add 3 (some .int) 2 := ⟨q281, q217, q218, q31, q219, by decide +kernel⟩
theorem cq_m_together : g_Cq RX1 87 yX1_together cX1_together 7 (some .int) 3 := ⟨q322, q297, q298, q31, q299, by decide +kernel⟩
def fm_isCode (x1 : Int32) : Int32 :=
  (if x1 < 0 then 0 else (if (255 : Int32) < x1 then 0 else 1))
set_option maxHeartbeats 8000000 in
set_option maxRecDepth 100000 in
theorem cm_isCode (l : Launch) (D : va_G) (h hs : Nat) (dA : ClassId) (mo : Int32) (no : Int32) (st : Int32) (x1 : Int32)  : g_Met l yX1_isCode cX1_isCode 2 (some .boolean) (rmK 0) (wM h hs dA) [(dA, .int)] D (mo, no, st) [.ref h, .int x1] (p_P (fm_isCode x1) ((mo, no, st) : SM)) := by
  refine g_enter (by decide) (Nat.le_of_ble_eq_true rfl) (fun p e s m args below meth c A ls F hX hl => ?_)
  have hx := F.1
  have hb := F.2.1
  generalize hH0 : s.heap = H at hX ⊢
  generalize ([] : List Loc) = locs at hX ⊢
  have hl : lv_has ls 2 [(0, .ref h), (1, .int x1)] := hl
  clear hH0
  have hF := fm_isCode.eq_1 x1
  refine lv_iload_n hx hb dX1_isCode_0 rfl (lv_at hl 1 rfl) ?_
  refine lv_if_lt (tgt := 15) hx hb dX1_isCode_1 (by decide) (fun c_1 => ?_) (fun c_1 => ?_)
  · have hF := hF.trans (if_pos c_1)
    refine lv_iconst (v := 0) hx hb dX1_isCode_15 (by decide) ?_
    exact g_zret F hX rfl ⟨hF.symm, rfl⟩ dX1_isCode_16
  · have hF := hF.trans (if_neg c_1)
    refine lv_iload_n hx hb dX1_isCode_4 rfl (lv_at hl 1 rfl) ?_
    refine lv_sipush (v := 255) hx hb dX1_isCode_5 (by decide) ?_
    refine lv_icmp_gt (tgt := 15) hx hb dX1_isCode_8 (by decide) (fun c_8 => ?_) (fun c_8 => ?_)
    · have hF := hF.trans (if_pos c_8)
      refine lv_iconst (v := 0) hx hb dX1_isCode_15 (by decide) ?_
      exact g_zret F hX rfl ⟨hF.symm, rfl⟩ dX1_isCode_16
    · have hF := hF.trans (if_neg c_8)
      refine lv_iconst (v := 1) hx hb dX1_isCode_11 (by decide) ?_
      refine lv_goto (tgt := 16) hx hb dX1_isCode_12 (by decide) ?_
      exact g_zret F hX rfl ⟨hF.symm, rfl⟩ dX1_isCode_16
def fm_isNone (x1 : Int32) : Int32 :=
  (if (x1 - x1 / 128 * 128) ≤ 120 then 0 else 1)
set_option maxHeartbeats 8000000 in
set_option maxRecDepth 100000 in
theorem cm_isNone (l : Launch) (D : va_G) (h hs : Nat) (dA : ClassId) (mo : Int32) (no : Int32) (st : Int32) (x1 : Int32)  : g_Met l yX1_isNone cX1_isNone 2 (some .boolean) (rmK 0) (wM h hs dA) [(dA, .int)] D (mo, no, st) [.ref h, .int x1] (p_P (fm_isNone x1) ((mo, no, st) : SM)) := by
  refine g_enter (by decide) (Nat.le_of_ble_eq_true rfl) (fun p e s m args below meth c A ls F hX hl => ?_)
  have hx := F.1
  have hb := F.2.1
  generalize hH0 : s.heap = H at hX ⊢
  generalize ([] : List Loc) = locs at hX ⊢
  have hl : lv_has ls 2 [(0, .ref h), (1, .int x1)] := hl
  clear hH0
  have hF := fm_isNone.eq_1 x1
  refine lv_iload_n hx hb dX1_isNone_0 rfl (lv_at hl 1 rfl) ?_
  refine lv_sipush (v := 128) hx hb dX1_isNone_1 (by decide) ?_
  refine lv_irem hx hb dX1_isNone_4 (by decide) ?_
  refine lv_bipush (v := 120) hx hb dX1_isNone_5 (by decide) ?_
  refine lv_icmp_le (tgt := 14) hx hb dX1_isNone_7 (by decide) (fun c_7 => ?_) (fun c_7 => ?_)
  · have hF := hF.trans (if_pos c_7)
    refine lv_iconst (v := 0) hx hb dX1_isNone_14 (by decide) ?_
    exact g_zret F hX rfl ⟨hF.symm, rfl⟩ dX1_isNone_15
  · have hF := hF.trans (if_neg c_7)
    refine lv_iconst (v := 1) hx hb dX1_isNone_10 (by decide) ?_
    refine lv_goto (tgt := 15) hx hb dX1_isNone_11 (by decide) ?_
    exact g_zret F hX rfl ⟨hF.symm, rfl⟩ dX1_isNone_15
def fm_isInfinite (x1 : Int32) : Int32 :=
  (if (x1 - x1 / 128 * 128) = 120 then 1 else 0)
set_option maxHeartbeats 8000000 in
set_option maxRecDepth 100000 in
theorem cm_isInfinite (l : Launch) (D : va_G) (h hs : Nat) (dA : ClassId) (mo : Int32) (no : Int32) (st : Int32) (x1 : Int32)  : g_Met l yX1_isInfinite cX1_isInfinite 2 (some .boolean) (rmK 0) (wM h hs dA) [(dA, .int)] D (mo, no, st) [.ref h, .int x1] (p_P (fm_isInfinite x1) ((mo, no, st) : SM)) := by
  refine g_enter (by decide) (Nat.le_of_ble_eq_true rfl) (fun p e s m args below meth c A ls F hX hl => ?_)
  have hx := F.1
  have hb := F.2.1
  generalize hH0 : s.heap = H at hX ⊢
  generalize ([] : List Loc) = locs at hX ⊢
  have hl : lv_has ls 2 [(0, .ref h), (1, .int x1)] := hl
  clear hH0
  have hF := fm_isInfinite.eq_1 x1
  refine lv_iload_n hx hb dX1_isInfinite_0 rfl (lv_at hl 1 rfl) ?_
  refine lv_sipush (v := 128) hx hb dX1_isInfinite_1 (by decide) ?_
  refine lv_irem hx hb dX1_isInfinite_4 (by decide) ?_
  refine lv_bipush (v := 120) hx hb dX1_isInfinite_5 (by decide) ?_
  refine lv_icmp_ne (tgt := 14) hx hb dX1_isInfinite_7 (by decide) (fun c_7 => ?_) (fun c_7 => ?_)
  · have hF := hF.trans (if_neg c_7)
    refine lv_iconst (v := 0) hx hb dX1_isInfinite_14 (by decide) ?_
    exact g_zret F hX rfl ⟨hF.symm, rfl⟩ dX1_isInfinite_15
  · have hF := hF.trans (if_pos c_7)
    refine lv_iconst (v := 1) hx hb dX1_isInfinite_10 (by decide) ?_
    refine lv_goto (tgt := 15) hx hb dX1_isInfinite_11 (by decide) ?_
    exact g_zret F hX rfl ⟨hF.symm, rfl⟩ dX1_isInfinite_15
def fm_isZero (x1 : Int32) : Int32 :=
  (if (x1 - x1 / 128 * 128) = 0 then 1 else 0)
set_option maxHeartbeats 8000000 in
set_option maxRecDepth 100000 in
theorem cm_isZero (l : Launch) (D : va_G) (h hs : Nat) (dA : ClassId) (mo : Int32) (no : Int32) (st : Int32) (x1 : Int32)  : g_Met l yX1_isZero cX1_isZero 2 (some .boolean) (rmK 0) (wM h hs dA) [(dA, .int)] D (mo, no, st) [.ref h, .int x1] (p_P (fm_isZero x1) ((mo, no, st) : SM)) := by
  refine g_enter (by decide) (Nat.le_of_ble_eq_true rfl) (fun p e s m args below meth c A ls F hX hl => ?_)
  have hx := F.1
  have hb := F.2.1
  generalize hH0 : s.heap = H at hX ⊢
  generalize ([] : List Loc) = locs at hX ⊢
  have hl : lv_has ls 2 [(0, .ref h), (1, .int x1)] := hl
  clear hH0
  have hF := fm_isZero.eq_1 x1
  refine lv_iload_n hx hb dX1_isZero_0 rfl (lv_at hl 1 rfl) ?_
  refine lv_sipush (v := 128) hx hb dX1_isZero_1 (by decide) ?_
  refine lv_irem hx hb dX1_isZero_4 (by decide) ?_
  refine lv_if_ne (tgt := 12) hx hb dX1_isZero_5 (by decide) (fun c_5 => ?_) (fun c_5 => ?_)
  · have hF := hF.trans (if_neg c_5)
    refine lv_iconst (v := 0) hx hb dX1_isZero_12 (by decide) ?_
    exact g_zret F hX rfl ⟨hF.symm, rfl⟩ dX1_isZero_13
  · have hF := hF.trans (if_pos c_5)
    refine lv_iconst (v := 1) hx hb dX1_isZero_8 (by decide) ?_
    refine lv_goto (tgt := 13) hx hb dX1_isZero_9 (by decide) ?_
    exact g_zret F hX rfl ⟨hF.symm, rfl⟩ dX1_isZero_13
def fm_isNegative (x1 : Int32) : Int32 :=
  (if x1 ≤ 127 then 0 else 1)
set_option maxHeartbeats 8000000 in
set_option maxRecDepth 100000 in
theorem cm_isNegative (l : Launch) (D : va_G) (h hs : Nat) (dA : ClassId) (mo : Int32) (no : Int32) (st : Int32) (x1 : Int32)  : g_Met l yX1_isNegative cX1_isNegative 2 (some .boolean) (rmK 0) (wM h hs dA) [(dA, .int)] D (mo, no, st) [.ref h, .int x1] (p_P (fm_isNegative x1) ((mo, no, st) : SM)) := by
  refine g_enter (by decide) (Nat.le_of_ble_eq_true rfl) (fun p e s m args below meth c A ls F hX hl => ?_)
  have hx := F.1
  have hb := F.2.1
  generalize hH0 : s.heap = H at hX ⊢
  generalize ([] : List Loc) = locs at hX ⊢
  have hl : lv_has ls 2 [(0, .ref h), (1, .int x1)] := hl
  clear hH0
  have hF := fm_isNegative.eq_1 x1
  refine lv_iload_n hx hb dX1_isNegative_0 rfl (lv_at hl 1 rfl) ?_
  refine lv_bipush (v := 127) hx hb dX1_isNegative_1 (by decide) ?_
  refine lv_icmp_le (tgt := 10) hx hb dX1_isNegative_3 (by decide) (fun c_3 => ?_) (fun c_3 => ?_)
  · have hF := hF.trans (if_pos c_3)
    refine lv_iconst (v := 0) hx hb dX1_isNegative_10 (by decide) ?_
    exact g_zret F hX rfl ⟨hF.symm, rfl⟩ dX1_isNegative_11
  · have hF := hF.trans (if_neg c_3)
    refine lv_iconst (v := 1) hx hb dX1_isNegative_6 (by decide) ?_
    refine lv_goto (tgt := 11) hx hb dX1_isNegative_7 (by decide) ?_
    exact g_zret F hX rfl ⟨hF.symm, rfl⟩ dX1_isNegative_11
theorem m_code {a : Int32} (h1 : ¬ fm_isCode a = 0) : ∃ k : Nat, k < 256 ∧ a = nI k := by
  rw [fm_isCode] at h1
  by_cases c : a < 0
  · rw [if_pos c] at h1; exact absurd rfl h1
  · rw [if_neg c] at h1
    by_cases c2 : (255 : Int32) < a
    · rw [if_pos c2] at h1; exact absurd rfl h1
    · obtain ⟨j, hj, e⟩ := nI_of c
      refine ⟨j, ?_, e⟩
      rw [e] at c2
      exact Classical.byContradiction fun hh => c2 (nI_lt (a := 255) (by omega) hj)
theorem m_rem {k : Nat} (h : k < 2 ^ 31) : nI k - nI k / 128 * 128 = nI (k % 128) := pk_rem h (by decide : 0 < 128) (by decide)
theorem m_in {a : Int32} (h1 : ¬ fm_isCode a = 0) (h2 : fm_isNone a = 0) : vp_in (a - a / 128 * 128) 121 := by
  obtain ⟨k, hk, rfl⟩ := m_code h1
  rw [fm_isNone, m_rem (by omega)] at h2
  rw [m_rem (by omega)]
  refine vp_in_nI ?_ (by decide)
  by_cases c : nI (k % 128) ≤ 120
  · exact Classical.byContradiction fun hh => nI_ge (a := 120) (by omega) (by omega) c
  · rw [if_neg c] at h2; exact absurd h2 (by decide)
theorem m_inR {a : Int32} (h1 : ¬ fm_isCode a = 0) (h2 : fm_isNone a = 0) (h3 : fm_isNegative a = 0) : vp_in a 121 := by
  have hh := m_in h1 h2
  obtain ⟨k, hk, rfl⟩ := m_code h1
  rw [m_rem (by omega)] at hh
  rw [fm_isNegative] at h3
  by_cases c : nI k ≤ 127
  · have c' : k ≤ 127 := Classical.byContradiction fun q => nI_ge (a := 127) (by omega) (by omega) c
    rw [Nat.mod_eq_of_lt (by omega)] at hh
    exact hh
  · rw [if_neg c] at h3; exact absurd h3 (by decide)
end
section
set_option maxRecDepth 100000
def fm_valueOf (x1 : Int32) : Int32 :=
  (if (fm_isNegative x1) = 0 then (szF ((x1 - x1 / 128 * 128) : Int32).toNatClampNeg) else (-(szF ((x1 - x1 / 128 * 128) : Int32).toNatClampNeg)))
set_option maxHeartbeats 8000000 in
set_option maxRecDepth 100000 in
theorem cm_valueOf (l : Launch) (D : va_G) (h hs : Nat) (dA : ClassId) (mo : Int32) (no : Int32) (st : Int32) (x1 : Int32) (hv : vp_in (x1 - x1 / 128 * 128) 121) : g_Met l yX1_valueOf cX1_valueOf 2 (some .int) (rmK 1) (wM h hs dA) [(dA, .int)] D (mo, no, st) [.ref h, .int x1] (p_P (fm_valueOf x1) ((mo, no, st) : SM)) := by
  refine g_enter (by decide) (Nat.le_of_ble_eq_true rfl) (fun p e s m args below meth c A ls F hX hl => ?_)
  have hx := F.1
  have hb := F.2.1
  generalize hH0 : s.heap = H at hX ⊢
  generalize ([] : List Loc) = locs at hX ⊢
  have hl : lv_has ls 2 [(0, .ref h), (1, .int x1)] := hl
  clear hH0
  have hF := fm_valueOf.eq_1 x1
  refine lv_aload_n hx hb dX1_valueOf_0 rfl (lv_at hl 0 rfl) ?_
  refine lv_iload_n hx hb dX1_valueOf_1 rfl (lv_at hl 1 rfl) ?_
  refine m_callP (rest := []) F hX (cm_isNegative l D h hs dA mo no st x1) cq_m_isNegative rfl ⟨rfl, rfl⟩ (by decide) rfl hl.1 rfl (Nat.le_of_ble_eq_true rfl) dX1_valueOf_2 (fun H locs hX => ?_)
  refine lv_if_eq (tgt := 22) hx hb dX1_valueOf_5 (by decide) (fun c_5 => ?_) (fun c_5 => ?_)
  · have hF := hF.trans (if_pos c_5)
    refine lv_aload_n hx hb dX1_valueOf_22 rfl (lv_at hl 0 rfl) ?_
    refine m_get F hX 0 (by decide) q190 rfl rfl dX1_valueOf_23 ?_
    refine lv_iload_n hx hb dX1_valueOf_26 rfl (lv_at hl 1 rfl) ?_
    refine lv_sipush (v := 128) hx hb dX1_valueOf_27 (by decide) ?_
    refine lv_irem hx hb dX1_valueOf_30 (by decide) ?_
    refine m_ald F hX hv dX1_valueOf_31 ?_
    exact g_iret F hX ⟨hF.symm, rfl⟩ dX1_valueOf_32
  · have hF := hF.trans (if_neg c_5)
    refine lv_aload_n hx hb dX1_valueOf_8 rfl (lv_at hl 0 rfl) ?_
    refine m_get F hX 0 (by decide) q190 rfl rfl dX1_valueOf_9 ?_
    refine lv_iload_n hx hb dX1_valueOf_12 rfl (lv_at hl 1 rfl) ?_
    refine lv_sipush (v := 128) hx hb dX1_valueOf_13 (by decide) ?_
    refine lv_irem hx hb dX1_valueOf_16 (by decide) ?_
    refine m_ald F hX hv dX1_valueOf_17 ?_
    refine lv_ineg hx hb dX1_valueOf_18 ?_
    refine lv_goto (tgt := 32) hx hb dX1_valueOf_19 (by decide) ?_
    exact g_iret F hX ⟨hF.symm, rfl⟩ dX1_valueOf_32
def fm_mode (mo : Int32) (no : Int32) (st : Int32) (x1 : Int32) : Int32 × Int32 × Int32 × Int32 :=
  (if x1 < 0 then ((-1), mo, no, st) else (if x1 ≤ 3 then (mo, x1, no, st) else ((-1), mo, no, st)))
set_option maxHeartbeats 8000000 in
set_option maxRecDepth 100000 in
theorem cm_mode (l : Launch) (D : va_G) (h hs : Nat) (dA : ClassId) (mo : Int32) (no : Int32) (st : Int32) (x1 : Int32)  : g_Met l yX1_mode cX1_mode 3 (some .int) (rmK 0) (wM h hs dA) [(dA, .int)] D (mo, no, st) [.ref h, .int x1] (pm_T (fm_mode mo no st x1)) := by
  refine g_enter (by decide) (Nat.le_of_ble_eq_true rfl) (fun p e s m args below meth c A ls F hX hl => ?_)
  have hx := F.1
  have hb := F.2.1
  generalize hH0 : s.heap = H at hX ⊢
  generalize ([] : List Loc) = locs at hX ⊢
  have hl : lv_has ls 3 [(0, .ref h), (1, .int x1)] := hl
  clear hH0
  have hF := fm_mode.eq_1 mo no st x1
  refine lv_iload_n hx hb dX1_mode_0 rfl (lv_at hl 1 rfl) ?_
  refine lv_if_lt (tgt := 9) hx hb dX1_mode_1 (by decide) (fun c_1 => ?_) (fun c_1 => ?_)
  · have hF := hF.trans (if_pos c_1)
    refine lv_iconst (v := (-1)) hx hb dX1_mode_9 (by decide) ?_
    exact g_iret F hX (lm_T hF) dX1_mode_10
  · have hF := hF.trans (if_neg c_1)
    refine lv_iload_n hx hb dX1_mode_4 rfl (lv_at hl 1 rfl) ?_
    refine lv_iconst (v := 3) hx hb dX1_mode_5 (by decide) ?_
    refine lv_icmp_le (tgt := 11) hx hb dX1_mode_6 (by decide) (fun c_6 => ?_) (fun c_6 => ?_)
    · have hF := hF.trans (if_pos c_6)
      refine lv_aload_n hx hb dX1_mode_11 rfl (lv_at hl 0 rfl) ?_
      refine m_get F hX 1 (by decide) q191 rfl rfl dX1_mode_12 ?_
      refine lv_istore_n (lv' := [(2, .int mo), (0, .ref h), (1, .int x1)]) hx hb dX1_mode_15 rfl hl (by decide) rfl (fun ls hl => ?_)
      refine lv_aload_n hx hb dX1_mode_16 rfl (lv_at hl 1 rfl) ?_
      refine lv_iload_n hx hb dX1_mode_17 rfl (lv_at hl 2 rfl) ?_
      refine m_put (u' := (x1, no, st)) F hX 1 (by decide) q191 rfl rfl (tyX1_ok 1 (by decide)) rfl rfl rfl dX1_mode_18 (fun H locs hX => ?_)
      refine lv_iload_n hx hb dX1_mode_21 rfl (lv_at hl 0 rfl) ?_
      exact g_iret F hX (lm_T hF) dX1_mode_22
    · have hF := hF.trans (if_neg c_6)
      refine lv_iconst (v := (-1)) hx hb dX1_mode_9 (by decide) ?_
      exact g_iret F hX (lm_T hF) dX1_mode_10
def fm_notes (no : Int32) : Int32 :=
  no
set_option maxHeartbeats 8000000 in
set_option maxRecDepth 100000 in
theorem cm_notes (l : Launch) (D : va_G) (h hs : Nat) (dA : ClassId) (mo : Int32) (no : Int32) (st : Int32)   : g_Met l yX1_notes cX1_notes 1 (some .int) (rmK 0) (wM h hs dA) [(dA, .int)] D (mo, no, st) [.ref h] (p_P (fm_notes no) ((mo, no, st) : SM)) := by
  refine g_enter (by decide) (Nat.le_of_ble_eq_true rfl) (fun p e s m args below meth c A ls F hX hl => ?_)
  have hx := F.1
  have hb := F.2.1
  generalize hH0 : s.heap = H at hX ⊢
  generalize ([] : List Loc) = locs at hX ⊢
  have hl : lv_has ls 1 [(0, .ref h)] := hl
  clear hH0
  have hF := fm_notes.eq_1 no
  refine lv_aload_n hx hb dX1_notes_0 rfl (lv_at hl 0 rfl) ?_
  refine m_get F hX 2 (by decide) q192 rfl rfl dX1_notes_1 ?_
  exact g_iret F hX ⟨hF.symm, rfl⟩ dX1_notes_4
def fm_clear (mo : Int32) (no : Int32) (st : Int32) : Int32 × Int32 × Int32 × Int32 :=
  (no, mo, 0, st)
set_option maxHeartbeats 8000000 in
set_option maxRecDepth 100000 in
theorem cm_clear (l : Launch) (D : va_G) (h hs : Nat) (dA : ClassId) (mo : Int32) (no : Int32) (st : Int32)   : g_Met l yX1_clear cX1_clear 2 (some .int) (rmK 0) (wM h hs dA) [(dA, .int)] D (mo, no, st) [.ref h] (pm_T (fm_clear mo no st)) := by
  refine g_enter (by decide) (Nat.le_of_ble_eq_true rfl) (fun p e s m args below meth c A ls F hX hl => ?_)
  have hx := F.1
  have hb := F.2.1
  generalize hH0 : s.heap = H at hX ⊢
  generalize ([] : List Loc) = locs at hX ⊢
  have hl : lv_has ls 2 [(0, .ref h)] := hl
  clear hH0
  have hF := fm_clear.eq_1 mo no st
  refine lv_aload_n hx hb dX1_clear_0 rfl (lv_at hl 0 rfl) ?_
  refine m_get F hX 2 (by decide) q192 rfl rfl dX1_clear_1 ?_
  refine lv_istore_n (lv' := [(1, .int no), (0, .ref h)]) hx hb dX1_clear_4 rfl hl (by decide) rfl (fun ls hl => ?_)
  refine lv_aload_n hx hb dX1_clear_5 rfl (lv_at hl 1 rfl) ?_
  refine lv_iconst (v := 0) hx hb dX1_clear_6 (by decide) ?_
  refine m_put (u' := (mo, 0, st)) F hX 2 (by decide) q192 rfl rfl (tyX1_ok 2 (by decide)) rfl rfl rfl dX1_clear_7 (fun H locs hX => ?_)
  refine lv_iload_n hx hb dX1_clear_10 rfl (lv_at hl 0 rfl) ?_
  exact g_iret F hX (lm_T hF) dX1_clear_11
def fm_store (mo : Int32) (no : Int32) (st : Int32) (x1 : Int32) : Int32 × Int32 × Int32 × Int32 :=
  (if (fm_isCode x1) = 0 then ((-1), mo, no, st) else (st, mo, no, x1))
set_option maxHeartbeats 8000000 in
set_option maxRecDepth 100000 in
theorem cm_store (l : Launch) (D : va_G) (h hs : Nat) (dA : ClassId) (mo : Int32) (no : Int32) (st : Int32) (x1 : Int32)  : g_Met l yX1_store cX1_store 3 (some .int) (rmK 1) (wM h hs dA) [(dA, .int)] D (mo, no, st) [.ref h, .int x1] (pm_T (fm_store mo no st x1)) := by
  refine g_enter (by decide) (Nat.le_of_ble_eq_true rfl) (fun p e s m args below meth c A ls F hX hl => ?_)
  have hx := F.1
  have hb := F.2.1
  generalize hH0 : s.heap = H at hX ⊢
  generalize ([] : List Loc) = locs at hX ⊢
  have hl : lv_has ls 3 [(0, .ref h), (1, .int x1)] := hl
  clear hH0
  have hF := fm_store.eq_1 mo no st x1
  refine lv_aload_n hx hb dX1_store_0 rfl (lv_at hl 0 rfl) ?_
  refine lv_iload_n hx hb dX1_store_1 rfl (lv_at hl 1 rfl) ?_
  refine m_callP (rest := []) F hX (cm_isCode l D h hs dA mo no st x1) cq_m_isCode rfl ⟨rfl, rfl⟩ (by decide) rfl hl.1 rfl (Nat.le_of_ble_eq_true rfl) dX1_store_2 (fun H locs hX => ?_)
  refine lv_if_ne (tgt := 10) hx hb dX1_store_5 (by decide) (fun c_5 => ?_) (fun c_5 => ?_)
  · have hF := hF.trans (if_neg c_5)
    refine lv_aload_n hx hb dX1_store_10 rfl (lv_at hl 0 rfl) ?_
    refine m_get F hX 3 (by decide) q193 rfl rfl dX1_store_11 ?_
    refine lv_istore_n (lv' := [(2, .int st), (0, .ref h), (1, .int x1)]) hx hb dX1_store_14 rfl hl (by decide) rfl (fun ls hl => ?_)
    refine lv_aload_n hx hb dX1_store_15 rfl (lv_at hl 1 rfl) ?_
    refine lv_iload_n hx hb dX1_store_16 rfl (lv_at hl 2 rfl) ?_
    refine m_put (u' := (mo, no, x1)) F hX 3 (by decide) q193 rfl rfl (tyX1_ok 3 (by decide)) rfl rfl rfl dX1_store_17 (fun H locs hX => ?_)
    refine lv_iload_n hx hb dX1_store_20 rfl (lv_at hl 0 rfl) ?_
    exact g_iret F hX (lm_T hF) dX1_store_21
  · have hF := hF.trans (if_pos c_5)
    refine lv_iconst (v := (-1)) hx hb dX1_store_8 (by decide) ?_
    exact g_iret F hX (lm_T hF) dX1_store_9
def fm_senseless (no : Int32) : Int32 × Int32 :=
  (124, (no ||| 4))
set_option maxHeartbeats 8000000 in
set_option maxRecDepth 100000 in
theorem cm_senseless (l : Launch) (D : va_G) (h hs : Nat) (dA : ClassId) (mo : Int32) (no : Int32) (st : Int32)   : g_Met l yX1_senseless cX1_senseless 1 (some .int) (rmK 0) (wM h hs dA) [(dA, .int)] D (mo, no, st) [.ref h] (pm_S (fm_senseless no) mo st) := by
  refine g_enter (by decide) (Nat.le_of_ble_eq_true rfl) (fun p e s m args below meth c A ls F hX hl => ?_)
  have hx := F.1
  have hb := F.2.1
  generalize hH0 : s.heap = H at hX ⊢
  generalize ([] : List Loc) = locs at hX ⊢
  have hl : lv_has ls 1 [(0, .ref h)] := hl
  clear hH0
  have hF := fm_senseless.eq_1 no
  refine lv_aload_n hx hb dX1_senseless_0 rfl (lv_at hl 0 rfl) ?_
  refine lv_aload_n hx hb dX1_senseless_1 rfl (lv_at hl 0 rfl) ?_
  refine m_get F hX 2 (by decide) q192 rfl rfl dX1_senseless_2 ?_
  refine lv_iconst (v := 4) hx hb dX1_senseless_5 (by decide) ?_
  refine lv_ior hx hb dX1_senseless_6 ?_
  refine m_put (u' := (mo, (no ||| 4), st)) F hX 2 (by decide) q192 rfl rfl (tyX1_ok 2 (by decide)) rfl rfl rfl dX1_senseless_7 (fun H locs hX => ?_)
  refine lv_bipush (v := 124) hx hb dX1_senseless_10 (by decide) ?_
  exact g_iret F hX (lm_S hF) dX1_senseless_12
def fm_signed (x1 : Int32) (x2 : Int32) : Int32 :=
  (if x2 = 0 then x1 else (128 + x1))
set_option maxHeartbeats 8000000 in
set_option maxRecDepth 100000 in
theorem cm_signed (l : Launch) (D : va_G) (h hs : Nat) (dA : ClassId) (mo : Int32) (no : Int32) (st : Int32) (x1 : Int32) (x2 : Int32)  : g_Met l yX1_signed cX1_signed 3 (some .int) (rmK 0) (wM h hs dA) [(dA, .int)] D (mo, no, st) [.ref h, .int x1, .int x2] (p_P (fm_signed x1 x2) ((mo, no, st) : SM)) := by
  refine g_enter (by decide) (Nat.le_of_ble_eq_true rfl) (fun p e s m args below meth c A ls F hX hl => ?_)
  have hx := F.1
  have hb := F.2.1
  generalize hH0 : s.heap = H at hX ⊢
  generalize ([] : List Loc) = locs at hX ⊢
  have hl : lv_has ls 3 [(0, .ref h), (1, .int x1), (2, .int x2)] := hl
  clear hH0
  have hF := fm_signed.eq_1 x1 x2
  refine lv_iload_n hx hb dX1_signed_0 rfl (lv_at hl 2 rfl) ?_
  refine lv_if_eq (tgt := 12) hx hb dX1_signed_1 (by decide) (fun c_1 => ?_) (fun c_1 => ?_)
  · have hF := hF.trans (if_pos c_1)
    refine lv_iload_n hx hb dX1_signed_12 rfl (lv_at hl 1 rfl) ?_
    exact g_iret F hX ⟨hF.symm, rfl⟩ dX1_signed_13
  · have hF := hF.trans (if_neg c_1)
    refine lv_sipush (v := 128) hx hb dX1_signed_4 (by decide) ?_
    refine lv_iload_n hx hb dX1_signed_7 rfl (lv_at hl 1 rfl) ?_
    refine lv_iadd hx hb dX1_signed_8 ?_
    refine lv_goto (tgt := 13) hx hb dX1_signed_9 (by decide) ?_
    exact g_iret F hX ⟨hF.symm, rfl⟩ dX1_signed_13
def fm_goesUp_b12 (mo : Int32) (x1 : Int32) : Int32 :=
  (if mo = 3 then (if x1 = 0 then 0 else 1) else 0)
def fm_goesUp (mo : Int32) (x1 : Int32) : Int32 :=
  (if mo = 2 then (if x1 = 0 then 1 else fm_goesUp_b12 mo x1) else fm_goesUp_b12 mo x1)
set_option maxHeartbeats 8000000 in
set_option maxRecDepth 100000 in
theorem cm_goesUp (l : Launch) (D : va_G) (h hs : Nat) (dA : ClassId) (mo : Int32) (no : Int32) (st : Int32) (x1 : Int32)  : g_Met l yX1_goesUp cX1_goesUp 2 (some .boolean) (rmK 0) (wM h hs dA) [(dA, .int)] D (mo, no, st) [.ref h, .int x1] (p_P (fm_goesUp mo x1) ((mo, no, st) : SM)) := by
  refine g_enter (by decide) (Nat.le_of_ble_eq_true rfl) (fun p e s m args below meth c A ls F hX hl => ?_)
  have hx := F.1
  have hb := F.2.1
  generalize hH0 : s.heap = H at hX ⊢
  generalize ([] : List Loc) = locs at hX ⊢
  have hl : lv_has ls 2 [(0, .ref h), (1, .int x1)] := hl
  clear hH0
  have K_12 : ∀  (H : Heap) (locs : List Loc) (ls : Array Slot), fm_goesUp mo x1 = fm_goesUp_b12 mo x1 → g_At (wM h hs dA) D A s (mo, no, st) H locs → lv_has ls 2 [(0, .ref h), (1, .int x1)] → W p l e (rmK 0) s m args below meth c H locs 0 0 (MQ below (va_Qi (p_P (fm_goesUp mo x1) ((mo, no, st) : SM)) (g_B (wM h hs dA) [(dA, .int)] D A) A) args s 0 0 A) (F0 m 12 ls []) := by
    intro  H locs ls  hF hX hl
    have hF := hF.trans (fm_goesUp_b12.eq_1 mo x1)
    refine lv_aload_n hx hb dX1_goesUp_12 rfl (lv_at hl 0 rfl) ?_
    refine m_get F hX 1 (by decide) q191 rfl rfl dX1_goesUp_13 ?_
    refine lv_iconst (v := 3) hx hb dX1_goesUp_16 (by decide) ?_
    refine lv_icmp_ne (tgt := 28) hx hb dX1_goesUp_17 (by decide) (fun c_17 => ?_) (fun c_17 => ?_)
    · have hF := hF.trans (if_neg c_17)
      refine lv_iconst (v := 0) hx hb dX1_goesUp_28 (by decide) ?_
      exact g_zret F hX rfl ⟨hF.symm, rfl⟩ dX1_goesUp_29
    · have hF := hF.trans (if_pos c_17)
      refine lv_iload_n hx hb dX1_goesUp_20 rfl (lv_at hl 1 rfl) ?_
      refine lv_if_eq (tgt := 28) hx hb dX1_goesUp_21 (by decide) (fun c_21 => ?_) (fun c_21 => ?_)
      · have hF := hF.trans (if_pos c_21)
        refine lv_iconst (v := 0) hx hb dX1_goesUp_28 (by decide) ?_
        exact g_zret F hX rfl ⟨hF.symm, rfl⟩ dX1_goesUp_29
      · have hF := hF.trans (if_neg c_21)
        refine lv_iconst (v := 1) hx hb dX1_goesUp_24 (by decide) ?_
        refine lv_goto (tgt := 29) hx hb dX1_goesUp_25 (by decide) ?_
        exact g_zret F hX rfl ⟨hF.symm, rfl⟩ dX1_goesUp_29
  have hF := fm_goesUp.eq_1 mo x1
  refine lv_aload_n hx hb dX1_goesUp_0 rfl (lv_at hl 0 rfl) ?_
  refine m_get F hX 1 (by decide) q191 rfl rfl dX1_goesUp_1 ?_
  refine lv_iconst (v := 2) hx hb dX1_goesUp_4 (by decide) ?_
  refine lv_icmp_ne (tgt := 12) hx hb dX1_goesUp_5 (by decide) (fun c_5 => ?_) (fun c_5 => ?_)
  · have hF := hF.trans (if_neg c_5)
    exact K_12  _ _ _  hF hX (lv_sub hl [0, 1] rfl)
  · have hF := hF.trans (if_pos c_5)
    refine lv_iload_n hx hb dX1_goesUp_8 rfl (lv_at hl 1 rfl) ?_
    refine lv_if_eq (tgt := 24) hx hb dX1_goesUp_9 (by decide) (fun c_9 => ?_) (fun c_9 => ?_)
    · have hF := hF.trans (if_pos c_9)
      refine lv_iconst (v := 1) hx hb dX1_goesUp_24 (by decide) ?_
      refine lv_goto (tgt := 29) hx hb dX1_goesUp_25 (by decide) ?_
      exact g_zret F hX rfl ⟨hF.symm, rfl⟩ dX1_goesUp_29
    · have hF := hF.trans (if_neg c_9)
      exact K_12  _ _ _  hF hX (lv_sub hl [0, 1] rfl)
def fm_sign (x1 : Int64) : Int32 :=
  (if (0 : Int64) ≤ x1 then (if x1 ≤ 0 then 0 else 1) else (-1))
set_option maxHeartbeats 8000000 in
set_option maxRecDepth 100000 in
theorem cm_sign (l : Launch) (D : va_G) (h hs : Nat) (dA : ClassId) (mo : Int32) (no : Int32) (st : Int32) (x1 : Int64)  : g_Met l yX1_sign cX1_sign 3 (some .int) (rmK 0) (wM h hs dA) [(dA, .int)] D (mo, no, st) [.ref h, .long x1] (p_P (fm_sign x1) ((mo, no, st) : SM)) := by
  refine g_enter (by decide) (Nat.le_of_ble_eq_true rfl) (fun p e s m args below meth c A ls F hX hl => ?_)
  have hx := F.1
  have hb := F.2.1
  generalize hH0 : s.heap = H at hX ⊢
  generalize ([] : List Loc) = locs at hX ⊢
  have hl : lv_has ls 3 [(0, .ref h), (1, .long x1)] := hl
  clear hH0
  have hF := fm_sign.eq_1 x1
  refine lv_lload_n hx hb dX1_sign_0 rfl (lv_at hl 1 rfl) ?_
  refine lv_lconst (v := 0) hx hb dX1_sign_1 (by decide) ?_
  refine ll_ge (tgt := 10) hx hb dX1_sign_2 dX1_sign_3 (by decide) (fun c_2 => ?_) (fun c_2 => ?_)
  · have hF := hF.trans (if_pos c_2)
    refine lv_lload_n hx hb dX1_sign_10 rfl (lv_at hl 1 rfl) ?_
    refine lv_lconst (v := 0) hx hb dX1_sign_11 (by decide) ?_
    refine ll_le (tgt := 20) hx hb dX1_sign_12 dX1_sign_13 (by decide) (fun c_12 => ?_) (fun c_12 => ?_)
    · have hF := hF.trans (if_pos c_12)
      refine lv_iconst (v := 0) hx hb dX1_sign_20 (by decide) ?_
      exact g_iret F hX ⟨hF.symm, rfl⟩ dX1_sign_21
    · have hF := hF.trans (if_neg c_12)
      refine lv_iconst (v := 1) hx hb dX1_sign_16 (by decide) ?_
      refine lv_goto (tgt := 21) hx hb dX1_sign_17 (by decide) ?_
      exact g_iret F hX ⟨hF.symm, rfl⟩ dX1_sign_21
  · have hF := hF.trans (if_neg c_2)
    refine lv_iconst (v := (-1)) hx hb dX1_sign_6 (by decide) ?_
    refine lv_goto (tgt := 21) hx hb dX1_sign_7 (by decide) ?_
    exact g_iret F hX ⟨hF.symm, rfl⟩ dX1_sign_21
def fm_zero (x1 : Int32) : Int32 :=
  (if x1 = 0 then 0 else 128)
set_option maxHeartbeats 8000000 in
set_option maxRecDepth 100000 in
theorem cm_zero (l : Launch) (D : va_G) (h hs : Nat) (dA : ClassId) (mo : Int32) (no : Int32) (st : Int32) (x1 : Int32)  : g_Met l yX1_zero cX1_zero 2 (some .int) (rmK 0) (wM h hs dA) [(dA, .int)] D (mo, no, st) [.ref h, .int x1] (p_P (fm_zero x1) ((mo, no, st) : SM)) := by
  refine g_enter (by decide) (Nat.le_of_ble_eq_true rfl) (fun p e s m args below meth c A ls F hX hl => ?_)
  have hx := F.1
  have hb := F.2.1
  generalize hH0 : s.heap = H at hX ⊢
  generalize ([] : List Loc) = locs at hX ⊢
  have hl : lv_has ls 2 [(0, .ref h), (1, .int x1)] := hl
  clear hH0
  have hF := fm_zero.eq_1 x1
  refine lv_iload_n hx hb dX1_zero_0 rfl (lv_at hl 1 rfl) ?_
  refine lv_if_eq (tgt := 10) hx hb dX1_zero_1 (by decide) (fun c_1 => ?_) (fun c_1 => ?_)
  · have hF := hF.trans (if_pos c_1)
    refine lv_iconst (v := 0) hx hb dX1_zero_10 (by decide) ?_
    exact g_iret F hX ⟨hF.symm, rfl⟩ dX1_zero_11
  · have hF := hF.trans (if_neg c_1)
    refine lv_sipush (v := 128) hx hb dX1_zero_4 (by decide) ?_
    refine lv_goto (tgt := 11) hx hb dX1_zero_7 (by decide) ?_
    exact g_iret F hX ⟨hF.symm, rfl⟩ dX1_zero_11
def fm_choose_b89 (x5 : Int32) (x7 : Int32) (no_ : Int32) : Int32 × Int32 :=
  ((fm_signed x7 x5), (no_ ||| 2))
def fm_choose_b77 (x4 : Int32) (x5 : Int32) (x7 : Int32) (no_ : Int32) : Int32 × Int32 :=
  (if x7 = 120 then fm_choose_b89 x5 x7 no_ else (if x4 = 0 then ((fm_signed x7 x5), no_) else fm_choose_b89 x5 x7 no_))
def fm_choose_b67 (x4 : Int32) (x5 : Int32) (x7 : Int32) (no_ : Int32) : Int32 × Int32 :=
  fm_choose_b77 x4 x5 x7 (no_ ||| 1)
def fm_choose_b54 (x3 : Int32) (x4 : Int32) (x5 : Int32) (t0 : Int32) (no_ : Int32) : Int32 × Int32 :=
  (if x3 = 0 then fm_choose_b67 x4 x5 t0 no_ else (if t0 = 120 then fm_choose_b67 x4 x5 t0 no_ else fm_choose_b77 x4 x5 t0 no_))
def fm_choose_b53 (x1 : Int32) (x3 : Int32) (x4 : Int32) (x5 : Int32) (no_ : Int32) : Int32 × Int32 :=
  fm_choose_b54 x3 x4 x5 x1 no_
def fm_choose_b36 (x1 : Int32) (x3 : Int32) (x4 : Int32) (x5 : Int32) (t0 : Int32) (no_ : Int32) : Int32 × Int32 :=
  (if t0 = 0 then fm_choose_b53 x1 x3 x4 x5 no_ else (if x3 = 0 then fm_choose_b54 x3 x4 x5 (x1 + 1) no_ else fm_choose_b53 x1 x3 x4 x5 no_))
def fm_choose (mo : Int32) (no : Int32) (x1 : Int32) (x2 : Int32) (x3 : Int32) (x4 : Int32) (x5 : Int32) : Int32 × Int32 :=
  (if mo = 0 then (if (0 : Int32) < x2 then fm_choose_b36 x1 x3 x4 x5 1 no else (if x2 = 0 then (if (x1 - x1 / 2 * 2) = 1 then fm_choose_b36 x1 x3 x4 x5 1 no else fm_choose_b36 x1 x3 x4 x5 0 no) else fm_choose_b36 x1 x3 x4 x5 0 no)) else fm_choose_b36 x1 x3 x4 x5 (fm_goesUp mo x5) no)
set_option maxHeartbeats 8000000 in
set_option maxRecDepth 100000 in
theorem cm_choose (l : Launch) (D : va_G) (h hs : Nat) (dA : ClassId) (mo : Int32) (no : Int32) (st : Int32) (x1 : Int32) (x2 : Int32) (x3 : Int32) (x4 : Int32) (x5 : Int32)  : g_Met l yX1_choose cX1_choose 8 (some .int) (rmK 1) (wM h hs dA) [(dA, .int)] D (mo, no, st) [.ref h, .int x1, .int x2, .int x3, .int x4, .int x5] (pm_S (fm_choose mo no x1 x2 x3 x4 x5) mo st) := by
  refine g_enter (by decide) (Nat.le_of_ble_eq_true rfl) (fun p e s m args below meth c A ls F hX hl => ?_)
  have hx := F.1
  have hb := F.2.1
  generalize hH0 : s.heap = H at hX ⊢
  generalize ([] : List Loc) = locs at hX ⊢
  have hl : lv_has ls 8 [(0, .ref h), (1, .int x1), (2, .int x2), (3, .int x3), (4, .int x4), (5, .int x5)] := hl
  clear hH0
  have K_89 : ∀ (x6 : Int32) (x7 : Int32) (no_ : Int32) (H : Heap) (locs : List Loc) (ls : Array Slot), fm_choose mo no x1 x2 x3 x4 x5 = fm_choose_b89 x5 x7 no_ → g_At (wM h hs dA) D A s (mo, no_, st) H locs → lv_has ls 8 [(0, .ref h), (1, .int x1), (2, .int x2), (3, .int x3), (4, .int x4), (5, .int x5), (6, .int x6), (7, .int x7)] → W p l e (rmK 1) s m args below meth c H locs 0 0 (MQ below (va_Qi (pm_S (fm_choose mo no x1 x2 x3 x4 x5) mo st) (g_B (wM h hs dA) [(dA, .int)] D A) A) args s 0 0 A) (F0 m 89 ls []) := by
    intro x6 x7 no_ H locs ls  hF hX hl
    have hF := hF.trans (fm_choose_b89.eq_1 x5 x7 no_)
    refine lv_aload_n hx hb dX1_choose_89 rfl (lv_at hl 0 rfl) ?_
    refine lv_aload_n hx hb dX1_choose_90 rfl (lv_at hl 0 rfl) ?_
    refine m_get F hX 2 (by decide) q192 rfl rfl dX1_choose_91 ?_
    refine lv_iconst (v := 2) hx hb dX1_choose_94 (by decide) ?_
    refine lv_ior hx hb dX1_choose_95 ?_
    refine m_put (u' := (mo, (no_ ||| 2), st)) F hX 2 (by decide) q192 rfl rfl (tyX1_ok 2 (by decide)) rfl rfl rfl dX1_choose_96 (fun H locs hX => ?_)
    refine lv_aload_n hx hb dX1_choose_99 rfl (lv_at hl 0 rfl) ?_
    refine lv_iload hx hb dX1_choose_100 (lv_at hl 7 rfl) ?_
    refine lv_iload hx hb dX1_choose_102 (lv_at hl 5 rfl) ?_
    refine m_callP (rest := []) F hX (cm_signed l D h hs dA mo (no_ ||| 2) st x7 x5) cq_m_signed rfl ⟨rfl, rfl⟩ (by decide) rfl hl.1 rfl (Nat.le_of_ble_eq_true rfl) dX1_choose_104 (fun H locs hX => ?_)
    exact g_iret F hX (lm_S hF) dX1_choose_107
  have K_77 : ∀ (x6 : Int32) (x7 : Int32) (no_ : Int32) (H : Heap) (locs : List Loc) (ls : Array Slot), fm_choose mo no x1 x2 x3 x4 x5 = fm_choose_b77 x4 x5 x7 no_ → g_At (wM h hs dA) D A s (mo, no_, st) H locs → lv_has ls 8 [(0, .ref h), (1, .int x1), (2, .int x2), (3, .int x3), (4, .int x4), (5, .int x5), (6, .int x6), (7, .int x7)] → W p l e (rmK 1) s m args below meth c H locs 0 0 (MQ below (va_Qi (pm_S (fm_choose mo no x1 x2 x3 x4 x5) mo st) (g_B (wM h hs dA) [(dA, .int)] D A) A) args s 0 0 A) (F0 m 77 ls []) := by
    intro x6 x7 no_ H locs ls  hF hX hl
    have hF := hF.trans (fm_choose_b77.eq_1 x4 x5 x7 no_)
    refine lv_iload hx hb dX1_choose_77 (lv_at hl 7 rfl) ?_
    refine lv_bipush (v := 120) hx hb dX1_choose_79 (by decide) ?_
    refine lv_icmp_eq (tgt := 89) hx hb dX1_choose_81 (by decide) (fun c_81 => ?_) (fun c_81 => ?_)
    · have hF := hF.trans (if_pos c_81)
      exact K_89 x6 x7 no_ _ _ _  hF hX (lv_sub hl [0, 1, 2, 3, 4, 5, 6, 7] rfl)
    · have hF := hF.trans (if_neg c_81)
      refine lv_iload hx hb dX1_choose_84 (lv_at hl 4 rfl) ?_
      refine lv_if_eq (tgt := 99) hx hb dX1_choose_86 (by decide) (fun c_86 => ?_) (fun c_86 => ?_)
      · have hF := hF.trans (if_pos c_86)
        refine lv_aload_n hx hb dX1_choose_99 rfl (lv_at hl 0 rfl) ?_
        refine lv_iload hx hb dX1_choose_100 (lv_at hl 7 rfl) ?_
        refine lv_iload hx hb dX1_choose_102 (lv_at hl 5 rfl) ?_
        refine m_callP (rest := []) F hX (cm_signed l D h hs dA mo no_ st x7 x5) cq_m_signed rfl ⟨rfl, rfl⟩ (by decide) rfl hl.1 rfl (Nat.le_of_ble_eq_true rfl) dX1_choose_104 (fun H locs hX => ?_)
        exact g_iret F hX (lm_S hF) dX1_choose_107
      · have hF := hF.trans (if_neg c_86)
        exact K_89 x6 x7 no_ _ _ _  hF hX (lv_sub hl [0, 1, 2, 3, 4, 5, 6, 7] rfl)
  have K_67 : ∀ (x6 : Int32) (x7 : Int32) (no_ : Int32) (H : Heap) (locs : List Loc) (ls : Array Slot), fm_choose mo no x1 x2 x3 x4 x5 = fm_choose_b67 x4 x5 x7 no_ → g_At (wM h hs dA) D A s (mo, no_, st) H locs → lv_has ls 8 [(0, .ref h), (1, .int x1), (2, .int x2), (3, .int x3), (4, .int x4), (5, .int x5), (6, .int x6), (7, .int x7)] → W p l e (rmK 1) s m args below meth c H locs 0 0 (MQ below (va_Qi (pm_S (fm_choose mo no x1 x2 x3 x4 x5) mo st) (g_B (wM h hs dA) [(dA, .int)] D A) A) args s 0 0 A) (F0 m 67 ls []) := by
    intro x6 x7 no_ H locs ls  hF hX hl
    have hF := hF.trans (fm_choose_b67.eq_1 x4 x5 x7 no_)
    refine lv_aload_n hx hb dX1_choose_67 rfl (lv_at hl 0 rfl) ?_
    refine lv_aload_n hx hb dX1_choose_68 rfl (lv_at hl 0 rfl) ?_
    refine m_get F hX 2 (by decide) q192 rfl rfl dX1_choose_69 ?_
    refine lv_iconst (v := 1) hx hb dX1_choose_72 (by decide) ?_
    refine lv_ior hx hb dX1_choose_73 ?_
    refine m_put (u' := (mo, (no_ ||| 1), st)) F hX 2 (by decide) q192 rfl rfl (tyX1_ok 2 (by decide)) rfl rfl rfl dX1_choose_74 (fun H locs hX => ?_)
    exact K_77 x6 x7 (no_ ||| 1) _ _ _  hF hX (lv_sub hl [0, 1, 2, 3, 4, 5, 6, 7] rfl)
  have K_54 : ∀ (x6 : Int32) (t0 : Int32) (no_ : Int32) (H : Heap) (locs : List Loc) (ls : Array Slot), fm_choose mo no x1 x2 x3 x4 x5 = fm_choose_b54 x3 x4 x5 t0 no_ → g_At (wM h hs dA) D A s (mo, no_, st) H locs → lv_has ls 8 [(0, .ref h), (1, .int x1), (2, .int x2), (3, .int x3), (4, .int x4), (5, .int x5), (6, .int x6)] → W p l e (rmK 1) s m args below meth c H locs 0 0 (MQ below (va_Qi (pm_S (fm_choose mo no x1 x2 x3 x4 x5) mo st) (g_B (wM h hs dA) [(dA, .int)] D A) A) args s 0 0 A) (F0 m 54 ls [.int t0]) := by
    intro x6 t0 no_ H locs ls  hF hX hl
    have hF := hF.trans (fm_choose_b54.eq_1 x3 x4 x5 t0 no_)
    refine lv_istore (lv' := [(7, .int t0), (0, .ref h), (1, .int x1), (2, .int x2), (3, .int x3), (4, .int x4), (5, .int x5), (6, .int x6)]) hx hb dX1_choose_54 hl (by decide) rfl (fun ls hl => ?_)
    refine lv_iload_n hx hb dX1_choose_56 rfl (lv_at hl 4 rfl) ?_
    refine lv_if_eq (tgt := 67) hx hb dX1_choose_57 (by decide) (fun c_57 => ?_) (fun c_57 => ?_)
    · have hF := hF.trans (if_pos c_57)
      exact K_67 x6 t0 no_ _ _ _  hF hX (lv_sub hl [1, 2, 3, 4, 5, 6, 7, 0] rfl)
    · have hF := hF.trans (if_neg c_57)
      refine lv_iload hx hb dX1_choose_60 (lv_at hl 0 rfl) ?_
      refine lv_bipush (v := 120) hx hb dX1_choose_62 (by decide) ?_
      refine lv_icmp_ne (tgt := 77) hx hb dX1_choose_64 (by decide) (fun c_64 => ?_) (fun c_64 => ?_)
      · have hF := hF.trans (if_neg c_64)
        exact K_77 x6 t0 no_ _ _ _  hF hX (lv_sub hl [1, 2, 3, 4, 5, 6, 7, 0] rfl)
      · have hF := hF.trans (if_pos c_64)
        exact K_67 x6 t0 no_ _ _ _  hF hX (lv_sub hl [1, 2, 3, 4, 5, 6, 7, 0] rfl)
  have K_53 : ∀ (x6 : Int32) (no_ : Int32) (H : Heap) (locs : List Loc) (ls : Array Slot), fm_choose mo no x1 x2 x3 x4 x5 = fm_choose_b53 x1 x3 x4 x5 no_ → g_At (wM h hs dA) D A s (mo, no_, st) H locs → lv_has ls 8 [(0, .ref h), (1, .int x1), (2, .int x2), (3, .int x3), (4, .int x4), (5, .int x5), (6, .int x6)] → W p l e (rmK 1) s m args below meth c H locs 0 0 (MQ below (va_Qi (pm_S (fm_choose mo no x1 x2 x3 x4 x5) mo st) (g_B (wM h hs dA) [(dA, .int)] D A) A) args s 0 0 A) (F0 m 53 ls []) := by
    intro x6 no_ H locs ls  hF hX hl
    have hF := hF.trans (fm_choose_b53.eq_1 x1 x3 x4 x5 no_)
    refine lv_iload_n hx hb dX1_choose_53 rfl (lv_at hl 1 rfl) ?_
    exact K_54 x6 x1 no_ _ _ _  hF hX (lv_sub hl [0, 1, 2, 3, 4, 5, 6] rfl)
  have K_36 : ∀ (t0 : Int32) (no_ : Int32) (H : Heap) (locs : List Loc) (ls : Array Slot), fm_choose mo no x1 x2 x3 x4 x5 = fm_choose_b36 x1 x3 x4 x5 t0 no_ → g_At (wM h hs dA) D A s (mo, no_, st) H locs → lv_has ls 8 [(0, .ref h), (1, .int x1), (2, .int x2), (3, .int x3), (4, .int x4), (5, .int x5)] → W p l e (rmK 1) s m args below meth c H locs 0 0 (MQ below (va_Qi (pm_S (fm_choose mo no x1 x2 x3 x4 x5) mo st) (g_B (wM h hs dA) [(dA, .int)] D A) A) args s 0 0 A) (F0 m 36 ls [.int t0]) := by
    intro t0 no_ H locs ls  hF hX hl
    have hF := hF.trans (fm_choose_b36.eq_1 x1 x3 x4 x5 t0 no_)
    refine lv_istore (lv' := [(6, .int t0), (0, .ref h), (1, .int x1), (2, .int x2), (3, .int x3), (4, .int x4), (5, .int x5)]) hx hb dX1_choose_36 hl (by decide) rfl (fun ls hl => ?_)
    refine lv_iload hx hb dX1_choose_38 (lv_at hl 0 rfl) ?_
    refine lv_if_eq (tgt := 53) hx hb dX1_choose_40 (by decide) (fun c_40 => ?_) (fun c_40 => ?_)
    · have hF := hF.trans (if_pos c_40)
      exact K_53 t0 no_ _ _ _  hF hX (lv_sub hl [1, 2, 3, 4, 5, 6, 0] rfl)
    · have hF := hF.trans (if_neg c_40)
      refine lv_iload_n hx hb dX1_choose_43 rfl (lv_at hl 4 rfl) ?_
      refine lv_if_ne (tgt := 53) hx hb dX1_choose_44 (by decide) (fun c_44 => ?_) (fun c_44 => ?_)
      · have hF := hF.trans (if_neg c_44)
        exact K_53 t0 no_ _ _ _  hF hX (lv_sub hl [1, 2, 3, 4, 5, 6, 0] rfl)
      · have hF := hF.trans (if_pos c_44)
        refine lv_iload_n hx hb dX1_choose_47 rfl (lv_at hl 2 rfl) ?_
        refine lv_iconst (v := 1) hx hb dX1_choose_48 (by decide) ?_
        refine lv_iadd hx hb dX1_choose_49 ?_
        refine lv_goto (tgt := 54) hx hb dX1_choose_50 (by decide) ?_
        exact K_54 t0 (x1 + 1) no_ _ _ _  hF hX (lv_sub hl [1, 2, 3, 4, 5, 6, 0] rfl)
  have hF := fm_choose.eq_1 mo no x1 x2 x3 x4 x5
  refine lv_aload_n hx hb dX1_choose_0 rfl (lv_at hl 0 rfl) ?_
  refine m_get F hX 1 (by decide) q191 rfl rfl dX1_choose_1 ?_
  refine lv_if_ne (tgt := 30) hx hb dX1_choose_4 (by decide) (fun c_4 => ?_) (fun c_4 => ?_)
  · have hF := hF.trans (if_neg c_4)
    refine lv_aload_n hx hb dX1_choose_30 rfl (lv_at hl 0 rfl) ?_
    refine lv_iload hx hb dX1_choose_31 (lv_at hl 5 rfl) ?_
    refine m_callP (rest := []) F hX (cm_goesUp l D h hs dA mo no st x5) cq_m_goesUp rfl ⟨rfl, rfl⟩ (by decide) rfl hl.1 rfl (Nat.le_of_ble_eq_true rfl) dX1_choose_33 (fun H locs hX => ?_)
    exact K_36 (fm_goesUp mo x5) no _ _ _  hF hX (lv_sub hl [0, 1, 2, 3, 4, 5] rfl)
  · have hF := hF.trans (if_pos c_4)
    refine lv_iload_n hx hb dX1_choose_7 rfl (lv_at hl 2 rfl) ?_
    refine lv_if_gt (tgt := 22) hx hb dX1_choose_8 (by decide) (fun c_8 => ?_) (fun c_8 => ?_)
    · have hF := hF.trans (if_pos c_8)
      refine lv_iconst (v := 1) hx hb dX1_choose_22 (by decide) ?_
      refine lv_goto (tgt := 36) hx hb dX1_choose_23 (by decide) ?_
      exact K_36 1 no _ _ _  hF hX (lv_sub hl [0, 1, 2, 3, 4, 5] rfl)
    · have hF := hF.trans (if_neg c_8)
      refine lv_iload_n hx hb dX1_choose_11 rfl (lv_at hl 2 rfl) ?_
      refine lv_if_ne (tgt := 26) hx hb dX1_choose_12 (by decide) (fun c_12 => ?_) (fun c_12 => ?_)
      · have hF := hF.trans (if_neg c_12)
        refine lv_iconst (v := 0) hx hb dX1_choose_26 (by decide) ?_
        refine lv_goto (tgt := 36) hx hb dX1_choose_27 (by decide) ?_
        exact K_36 0 no _ _ _  hF hX (lv_sub hl [0, 1, 2, 3, 4, 5] rfl)
      · have hF := hF.trans (if_pos c_12)
        refine lv_iload_n hx hb dX1_choose_15 rfl (lv_at hl 1 rfl) ?_
        refine lv_iconst (v := 2) hx hb dX1_choose_16 (by decide) ?_
        refine lv_irem hx hb dX1_choose_17 (by decide) ?_
        refine lv_iconst (v := 1) hx hb dX1_choose_18 (by decide) ?_
        refine lv_icmp_ne (tgt := 26) hx hb dX1_choose_19 (by decide) (fun c_19 => ?_) (fun c_19 => ?_)
        · have hF := hF.trans (if_neg c_19)
          refine lv_iconst (v := 0) hx hb dX1_choose_26 (by decide) ?_
          refine lv_goto (tgt := 36) hx hb dX1_choose_27 (by decide) ?_
          exact K_36 0 no _ _ _  hF hX (lv_sub hl [0, 1, 2, 3, 4, 5] rfl)
        · have hF := hF.trans (if_pos c_19)
          refine lv_iconst (v := 1) hx hb dX1_choose_22 (by decide) ?_
          refine lv_goto (tgt := 36) hx hb dX1_choose_23 (by decide) ?_
          exact K_36 1 no _ _ _  hF hX (lv_sub hl [0, 1, 2, 3, 4, 5] rfl)
def fm_round_b107 (mo : Int32) (x5 : Int32) (x6 : Int32) (x7 : Int32) (x8 : Int32) (t0 : Int32) (no_ : Int32) : Int32 × Int32 :=
  ((fm_choose mo no_ x6 x7 x8 t0 x5).1, (fm_choose mo no_ x6 x7 x8 t0 x5).2)
def fm_round_b85 (mo : Int32) (x1 : Int64) (x3 : Int64) (x5 : Int32) (x6 : Int32) (x7 : Int32) (t0 : Int32) (no_ : Int32) : Int32 × Int32 :=
  (if x1 < ((((szF (120 : Int32).toNatClampNeg) : Int32).toInt64) * x3) then fm_round_b107 mo x5 x6 x7 t0 0 no_ else fm_round_b107 mo x5 x6 x7 t0 1 no_)
def fm_round_b33 (mo : Int32) (x1 : Int64) (x3 : Int64) (x5 : Int32) (x6 : Int32) (no_ : Int32) : Int32 × Int32 :=
  (if ((((szF (x6 : Int32).toNatClampNeg) : Int32).toInt64) * x3) = x1 then fm_round_b85 mo x1 x3 x5 x6 (fm_sign ((2 * x1) - (((((szF (x6 : Int32).toNatClampNeg) + (szF ((x6 + 1) : Int32).toNatClampNeg)) : Int32).toInt64) * x3))) 1 no_ else fm_round_b85 mo x1 x3 x5 x6 (fm_sign ((2 * x1) - (((((szF (x6 : Int32).toNatClampNeg) + (szF ((x6 + 1) : Int32).toNatClampNeg)) : Int32).toInt64) * x3))) 0 no_)
def fm_round_b3 : Nat → Int32 → Int64 → Int64 → Int32 → Int32 → Int32 → Int32 × Int32
  | 0, _, _, _, _, _, _ => (0, 0)
  | n + 1, mo, x1, x3, x5, x6, no_ =>
  (if (119 : Int32) ≤ x6 then fm_round_b33 mo x1 x3 x5 x6 no_ else (if x1 < ((((szF ((x6 + 1) : Int32).toNatClampNeg) : Int32).toInt64) * x3) then fm_round_b33 mo x1 x3 x5 x6 no_ else fm_round_b3 n mo x1 x3 x5 (x6 + 1) no_))
def fm_round (mo : Int32) (no : Int32) (x1 : Int64) (x3 : Int64) (x5 : Int32) : Int32 × Int32 :=
  fm_round_b3 120 mo x1 x3 x5 0 no
set_option maxHeartbeats 8000000 in
set_option maxRecDepth 100000 in
theorem cm_round (l : Launch) (D : va_G) (h hs : Nat) (dA : ClassId) (mo : Int32) (no : Int32) (st : Int32) (x1 : Int64) (x3 : Int64) (x5 : Int32)  : g_Met l yX1_round cX1_round 10 (some .int) (rmK 2) (wM h hs dA) [(dA, .int)] D (mo, no, st) [.ref h, .long x1, .long x3, .int x5] (pm_S (fm_round mo no x1 x3 x5) mo st) := by
  refine g_enter (by decide) (Nat.le_of_ble_eq_true rfl) (fun p e s m args below meth c A ls F hX hl => ?_)
  have hx := F.1
  have hb := F.2.1
  generalize hH0 : s.heap = H at hX ⊢
  generalize ([] : List Loc) = locs at hX ⊢
  have hl : lv_has ls 10 [(0, .ref h), (1, .long x1), (3, .long x3), (5, .int x5)] := hl
  clear hH0
  have K_107 : ∀ (x6 : Int32) (x7 : Int32) (x8 : Int32) (t0 : Int32) (no_ : Int32) (H : Heap) (locs : List Loc) (ls : Array Slot), fm_round mo no x1 x3 x5 = fm_round_b107 mo x5 x6 x7 x8 t0 no_ → g_At (wM h hs dA) D A s (mo, no_, st) H locs → lv_has ls 10 [(0, .ref h), (1, .long x1), (3, .long x3), (5, .int x5), (6, .int x6), (7, .int x7), (8, .int x8)] → W p l e (rmK 2) s m args below meth c H locs 0 0 (MQ below (va_Qi (pm_S (fm_round mo no x1 x3 x5) mo st) (g_B (wM h hs dA) [(dA, .int)] D A) A) args s 0 0 A) (F0 m 107 ls [.int t0]) := by
    intro x6 x7 x8 t0 no_ H locs ls  hF hX hl
    have hF := hF.trans (fm_round_b107.eq_1 mo x5 x6 x7 x8 t0 no_)
    refine lv_istore (lv' := [(9, .int t0), (0, .ref h), (1, .long x1), (3, .long x3), (5, .int x5), (6, .int x6), (7, .int x7), (8, .int x8)]) hx hb dX1_round_107 hl (by decide) rfl (fun ls hl => ?_)
    refine lv_aload_n hx hb dX1_round_109 rfl (lv_at hl 1 rfl) ?_
    refine lv_iload hx hb dX1_round_110 (lv_at hl 5 rfl) ?_
    refine lv_iload hx hb dX1_round_112 (lv_at hl 6 rfl) ?_
    refine lv_iload hx hb dX1_round_114 (lv_at hl 7 rfl) ?_
    refine lv_iload hx hb dX1_round_116 (lv_at hl 0 rfl) ?_
    refine lv_iload hx hb dX1_round_118 (lv_at hl 4 rfl) ?_
    refine m_call (rest := []) F hX (cm_choose l D h hs dA mo no_ st x6 x7 x8 t0 x5) cq_m_choose rfl ⟨rfl, rfl⟩ (by decide) rfl hl.1 rfl (Nat.le_of_ble_eq_true rfl) dX1_round_120 (fun r u' H locs hq hX => ?_)
    obtain ⟨rfl, rfl⟩ := hq
    exact g_iret F hX (lm_S hF) dX1_round_123
  have K_85 : ∀ (x6 : Int32) (x7 : Int32) (t0 : Int32) (no_ : Int32) (H : Heap) (locs : List Loc) (ls : Array Slot), fm_round mo no x1 x3 x5 = fm_round_b85 mo x1 x3 x5 x6 x7 t0 no_ → g_At (wM h hs dA) D A s (mo, no_, st) H locs → lv_has ls 10 [(0, .ref h), (1, .long x1), (3, .long x3), (5, .int x5), (6, .int x6), (7, .int x7)] → W p l e (rmK 2) s m args below meth c H locs 0 0 (MQ below (va_Qi (pm_S (fm_round mo no x1 x3 x5) mo st) (g_B (wM h hs dA) [(dA, .int)] D A) A) args s 0 0 A) (F0 m 85 ls [.int t0]) := by
    intro x6 x7 t0 no_ H locs ls  hF hX hl
    have hF := hF.trans (fm_round_b85.eq_1 mo x1 x3 x5 x6 x7 t0 no_)
    refine lv_istore (lv' := [(8, .int t0), (0, .ref h), (1, .long x1), (3, .long x3), (5, .int x5), (6, .int x6), (7, .int x7)]) hx hb dX1_round_85 hl (by decide) rfl (fun ls hl => ?_)
    refine lv_lload_n hx hb dX1_round_87 rfl (lv_at hl 2 rfl) ?_
    refine lv_aload_n hx hb dX1_round_88 rfl (lv_at hl 1 rfl) ?_
    refine m_get F hX 0 (by decide) q190 rfl rfl dX1_round_89 ?_
    refine lv_bipush (v := 120) hx hb dX1_round_92 (by decide) ?_
    refine m_ald F hX m_in120 dX1_round_94 ?_
    refine lv_i2l (v := (((szF (120 : Int32).toNatClampNeg) : Int32).toInt64)) hx hb dX1_round_95 rfl ?_
    refine lv_lload_n hx hb dX1_round_96 rfl (lv_at hl 3 rfl) ?_
    refine lv_lmul hx hb dX1_round_97 ?_
    refine ll_lt (tgt := 106) hx hb dX1_round_98 dX1_round_99 (by decide) (fun c_98 => ?_) (fun c_98 => ?_)
    · have hF := hF.trans (if_pos c_98)
      refine lv_iconst (v := 0) hx hb dX1_round_106 (by decide) ?_
      exact K_107 x6 x7 t0 0 no_ _ _ _  hF hX (lv_sub hl [1, 2, 3, 4, 5, 6, 0] rfl)
    · have hF := hF.trans (if_neg c_98)
      refine lv_iconst (v := 1) hx hb dX1_round_102 (by decide) ?_
      refine lv_goto (tgt := 107) hx hb dX1_round_103 (by decide) ?_
      exact K_107 x6 x7 t0 1 no_ _ _ _  hF hX (lv_sub hl [1, 2, 3, 4, 5, 6, 0] rfl)
  have K_33 : ∀ (x6 : Int32) (no_ : Int32) (H : Heap) (locs : List Loc) (ls : Array Slot), (∃ k : Nat, k ≤ 119 ∧ x6 = nI k) → fm_round mo no x1 x3 x5 = fm_round_b33 mo x1 x3 x5 x6 no_ → g_At (wM h hs dA) D A s (mo, no_, st) H locs → lv_has ls 10 [(0, .ref h), (1, .long x1), (3, .long x3), (5, .int x5), (6, .int x6)] → W p l e (rmK 2) s m args below meth c H locs 0 0 (MQ below (va_Qi (pm_S (fm_round mo no x1 x3 x5) mo st) (g_B (wM h hs dA) [(dA, .int)] D A) A) args s 0 0 A) (F0 m 33 ls []) := by
    intro x6 no_ H locs ls hk hF hX hl
    have hF := hF.trans (fm_round_b33.eq_1 mo x1 x3 x5 x6 no_)
    refine lv_aload_n hx hb dX1_round_33 rfl (lv_at hl 0 rfl) ?_
    refine lv_ldc2 hx hb F.2.2.2.1 (F.2.2.2.2.1 _ q260) dX1_round_34 ?_
    refine lv_lload_n hx hb dX1_round_37 rfl (lv_at hl 1 rfl) ?_
    refine lv_lmul hx hb dX1_round_38 ?_
    refine lv_aload_n hx hb dX1_round_39 rfl (lv_at hl 0 rfl) ?_
    refine m_get F hX 0 (by decide) q190 rfl rfl dX1_round_40 ?_
    refine lv_iload hx hb dX1_round_43 (lv_at hl 4 rfl) ?_
    refine m_ald F hX (m_in0 hk) dX1_round_45 ?_
    refine lv_aload_n hx hb dX1_round_46 rfl (lv_at hl 0 rfl) ?_
    refine m_get F hX 0 (by decide) q190 rfl rfl dX1_round_47 ?_
    refine lv_iload hx hb dX1_round_50 (lv_at hl 4 rfl) ?_
    refine lv_iconst (v := 1) hx hb dX1_round_52 (by decide) ?_
    refine lv_iadd hx hb dX1_round_53 ?_
    refine m_ald F hX (m_in1 hk) dX1_round_54 ?_
    refine lv_iadd hx hb dX1_round_55 ?_
    refine lv_i2l (v := ((((szF (x6 : Int32).toNatClampNeg) + (szF ((x6 + 1) : Int32).toNatClampNeg)) : Int32).toInt64)) hx hb dX1_round_56 rfl ?_
    refine lv_lload_n hx hb dX1_round_57 rfl (lv_at hl 2 rfl) ?_
    refine lv_lmul hx hb dX1_round_58 ?_
    refine lv_lsub hx hb dX1_round_59 ?_
    refine m_callP (rest := []) F hX (cm_sign l D h hs dA mo no_ st ((2 * x1) - (((((szF (x6 : Int32).toNatClampNeg) + (szF ((x6 + 1) : Int32).toNatClampNeg)) : Int32).toInt64) * x3))) cq_m_sign rfl ⟨rfl, rfl⟩ (by decide) rfl hl.1 rfl (Nat.le_of_ble_eq_true rfl) dX1_round_60 (fun H locs hX => ?_)
    refine lv_istore (lv' := [(7, .int (fm_sign ((2 * x1) - (((((szF (x6 : Int32).toNatClampNeg) + (szF ((x6 + 1) : Int32).toNatClampNeg)) : Int32).toInt64) * x3)))), (0, .ref h), (1, .long x1), (3, .long x3), (5, .int x5), (6, .int x6)]) hx hb dX1_round_63 hl (by decide) rfl (fun ls hl => ?_)
    refine lv_aload_n hx hb dX1_round_65 rfl (lv_at hl 1 rfl) ?_
    refine m_get F hX 0 (by decide) q190 rfl rfl dX1_round_66 ?_
    refine lv_iload hx hb dX1_round_69 (lv_at hl 5 rfl) ?_
    refine m_ald F hX (m_in0 hk) dX1_round_71 ?_
    refine lv_i2l (v := (((szF (x6 : Int32).toNatClampNeg) : Int32).toInt64)) hx hb dX1_round_72 rfl ?_
    refine lv_lload_n hx hb dX1_round_73 rfl (lv_at hl 3 rfl) ?_
    refine lv_lmul hx hb dX1_round_74 ?_
    refine lv_lload_n hx hb dX1_round_75 rfl (lv_at hl 2 rfl) ?_
    refine ll_ne (tgt := 84) hx hb dX1_round_76 dX1_round_77 (by decide) (fun c_76 => ?_) (fun c_76 => ?_)
    · have hF := hF.trans (if_neg c_76)
      refine lv_iconst (v := 0) hx hb dX1_round_84 (by decide) ?_
      exact K_85 x6 (fm_sign ((2 * x1) - (((((szF (x6 : Int32).toNatClampNeg) + (szF ((x6 + 1) : Int32).toNatClampNeg)) : Int32).toInt64) * x3))) 0 no_ _ _ _  hF hX (lv_sub hl [1, 2, 3, 4, 5, 0] rfl)
    · have hF := hF.trans (if_pos c_76)
      refine lv_iconst (v := 1) hx hb dX1_round_80 (by decide) ?_
      refine lv_goto (tgt := 85) hx hb dX1_round_81 (by decide) ?_
      exact K_85 x6 (fm_sign ((2 * x1) - (((((szF (x6 : Int32).toNatClampNeg) + (szF ((x6 + 1) : Int32).toNatClampNeg)) : Int32).toInt64) * x3))) 1 no_ _ _ _  hF hX (lv_sub hl [1, 2, 3, 4, 5, 0] rfl)
  have K_3 : ∀ (n : Nat) (x6 : Int32) (no_ : Int32) (H : Heap) (locs : List Loc) (ls : Array Slot), (x6 = nI (120 - n) ∧ 1 ≤ n ∧ n ≤ 120) → fm_round mo no x1 x3 x5 = fm_round_b3 n mo x1 x3 x5 x6 no_ → g_At (wM h hs dA) D A s (mo, no_, st) H locs → lv_has ls 10 [(0, .ref h), (1, .long x1), (3, .long x3), (5, .int x5), (6, .int x6)] → W p l e (rmK 2) s m args below meth c H locs 0 0 (MQ below (va_Qi (pm_S (fm_round mo no x1 x3 x5) mo st) (g_B (wM h hs dA) [(dA, .int)] D A) A) args s 0 0 A) (F0 m 3 ls []) := by
    intro n
    induction n with
    | zero => intro x6 no_ H locs ls hi; exact absurd hi (fun h => absurd h.2.1 (by decide))
    | succ n ih =>
      intro x6 no_ H locs ls hi  hF hX hl
      have hF := hF.trans (fm_round_b3.eq_2 _ _ _ _ _ _ _)
      refine lv_iload hx hb dX1_round_3 (lv_at hl 4 rfl) ?_
      refine lv_bipush (v := 119) hx hb dX1_round_5 (by decide) ?_
      refine lv_icmp_ge (tgt := 33) hx hb dX1_round_7 (by decide) (fun c_7 => ?_) (fun c_7 => ?_)
      · have hF := hF.trans (if_pos c_7)
        exact K_33 x6 no_ _ _ _ ⟨120 - (n + 1), by omega, hi.1⟩ hF hX (lv_sub hl [0, 1, 2, 3, 4] rfl)
      · have hF := hF.trans (if_neg c_7)
        refine lv_aload_n hx hb dX1_round_10 rfl (lv_at hl 0 rfl) ?_
        refine m_get F hX 0 (by decide) q190 rfl rfl dX1_round_11 ?_
        refine lv_iload hx hb dX1_round_14 (lv_at hl 4 rfl) ?_
        refine lv_iconst (v := 1) hx hb dX1_round_16 (by decide) ?_
        refine lv_iadd hx hb dX1_round_17 ?_
        refine m_ald F hX (m_inL hi (by decide) c_7) dX1_round_18 ?_
        refine lv_i2l (v := (((szF ((x6 + 1) : Int32).toNatClampNeg) : Int32).toInt64)) hx hb dX1_round_19 rfl ?_
        refine lv_lload_n hx hb dX1_round_20 rfl (lv_at hl 2 rfl) ?_
        refine lv_lmul hx hb dX1_round_21 ?_
        refine lv_lload_n hx hb dX1_round_22 rfl (lv_at hl 1 rfl) ?_
        refine ll_gt (tgt := 33) hx hb dX1_round_23 dX1_round_24 (by decide) (fun c_23 => ?_) (fun c_23 => ?_)
        · have hF := hF.trans (if_pos c_23)
          exact K_33 x6 no_ _ _ _ ⟨120 - (n + 1), by omega, hi.1⟩ hF hX (lv_sub hl [0, 1, 2, 3, 4] rfl)
        · have hF := hF.trans (if_neg c_23)
          refine lv_iinc (v := (x6 + 1)) (lv' := [(6, .int (x6 + 1)), (0, .ref h), (1, .long x1), (3, .long x3), (5, .int x5)]) hx hb dX1_round_27 hl (k := 4) rfl rfl (by decide) rfl (fun ls hl => ?_)
          refine lv_goto (tgt := 3) hx hb dX1_round_30 (by decide) ?_
          exact ih (x6 + 1) no_ _ _ _ (lp_up hi (by decide) (by decide) c_7) hF hX (lv_sub hl [1, 2, 3, 4, 0] rfl)
  have hF := fm_round.eq_1 mo no x1 x3 x5
  refine lv_iconst (v := 0) hx hb dX1_round_0 (by decide) ?_
  refine lv_istore (lv' := [(6, .int 0), (0, .ref h), (1, .long x1), (3, .long x3), (5, .int x5)]) hx hb dX1_round_1 hl (by decide) rfl (fun ls hl => ?_)
  exact K_3 120 0 no _ _ _ ⟨by decide, by decide, by decide⟩ hF hX (lv_sub hl [1, 2, 3, 4, 0] rfl)
def fm_finiteSum_b109 (mo : Int32) (x3 : Int64) (x7 : Int64) (t1 : Int64) (no_ : Int32) : Int32 × Int32 :=
  (if (0 : Int64) ≤ x7 then ((fm_round mo no_ t1 x3 0).1, (fm_round mo no_ t1 x3 0).2) else ((fm_round mo no_ t1 x3 1).1, (fm_round mo no_ t1 x3 1).2))
def fm_finiteSum_b63 (mo : Int32) (x5 : Int32) (t0 : Int32) (no_ : Int32) : Int32 × Int32 :=
  (if t0 = 0 then (if mo = 3 then ((fm_zero 1), no_) else ((fm_zero 0), no_)) else ((fm_zero x5), no_))
def fm_finiteSum_b62 (mo : Int32) (x5 : Int32) (no_ : Int32) : Int32 × Int32 :=
  fm_finiteSum_b63 mo x5 0 no_
def fm_finiteSum_b40 (mo : Int32) (x5 : Int32) (x6 : Int32) (t0 : Int32) (no_ : Int32) : Int32 × Int32 :=
  (if t0 = 0 then fm_finiteSum_b62 mo x5 no_ else (if x5 = (fm_isNegative x6) then fm_finiteSum_b63 mo x5 1 no_ else fm_finiteSum_b62 mo x5 no_))
def fm_finiteSum_b39 (mo : Int32) (x5 : Int32) (x6 : Int32) (no_ : Int32) : Int32 × Int32 :=
  fm_finiteSum_b40 mo x5 x6 0 no_
def fm_finiteSum (mo : Int32) (no : Int32) (x1 : Int64) (x3 : Int64) (x5 : Int32) (x6 : Int32) : Int32 × Int32 :=
  (if (x1 + ((((fm_valueOf x6) : Int32).toInt64) * x3)) = 0 then (if x1 = 0 then (if (fm_isZero x6) = 0 then fm_finiteSum_b39 mo x5 x6 no else fm_finiteSum_b40 mo x5 x6 1 no) else fm_finiteSum_b39 mo x5 x6 no) else (if (0 : Int64) ≤ (x1 + ((((fm_valueOf x6) : Int32).toInt64) * x3)) then fm_finiteSum_b109 mo x3 (x1 + ((((fm_valueOf x6) : Int32).toInt64) * x3)) (x1 + ((((fm_valueOf x6) : Int32).toInt64) * x3)) no else fm_finiteSum_b109 mo x3 (x1 + ((((fm_valueOf x6) : Int32).toInt64) * x3)) (-(x1 + ((((fm_valueOf x6) : Int32).toInt64) * x3))) no))
set_option maxHeartbeats 8000000 in
set_option maxRecDepth 100000 in
theorem cm_finiteSum (l : Launch) (D : va_G) (h hs : Nat) (dA : ClassId) (mo : Int32) (no : Int32) (st : Int32) (x1 : Int64) (x3 : Int64) (x5 : Int32) (x6 : Int32) (hv : vp_in (x6 - x6 / 128 * 128) 121) : g_Met l yX1_finiteSum cX1_finiteSum 11 (some .int) (rmK 3) (wM h hs dA) [(dA, .int)] D (mo, no, st) [.ref h, .long x1, .long x3, .int x5, .int x6] (pm_S (fm_finiteSum mo no x1 x3 x5 x6) mo st) := by
  refine g_enter (by decide) (Nat.le_of_ble_eq_true rfl) (fun p e s m args below meth c A ls F hX hl => ?_)
  have hx := F.1
  have hb := F.2.1
  generalize hH0 : s.heap = H at hX ⊢
  generalize ([] : List Loc) = locs at hX ⊢
  have hl : lv_has ls 11 [(0, .ref h), (1, .long x1), (3, .long x3), (5, .int x5), (6, .int x6)] := hl
  clear hH0
  have K_109 : ∀ (x7 : Int64) (t1 : Int64) (no_ : Int32) (H : Heap) (locs : List Loc) (ls : Array Slot), (vp_in (x6 - x6 / 128 * 128) 121) → (¬ (x1 + ((((fm_valueOf x6) : Int32).toInt64) * x3)) = 0) → fm_finiteSum mo no x1 x3 x5 x6 = fm_finiteSum_b109 mo x3 x7 t1 no_ → g_At (wM h hs dA) D A s (mo, no_, st) H locs → lv_has ls 11 [(0, .ref h), (1, .long x1), (3, .long x3), (5, .int x5), (6, .int x6), (7, .long x7)] → W p l e (rmK 3) s m args below meth c H locs 0 0 (MQ below (va_Qi (pm_S (fm_finiteSum mo no x1 x3 x5 x6) mo st) (g_B (wM h hs dA) [(dA, .int)] D A) A) args s 0 0 A) (F0 m 109 ls [.long t1, .ref h]) := by
    intro x7 t1 no_ H locs ls f109_0 f109_1 hF hX hl
    have hF := hF.trans (fm_finiteSum_b109.eq_1 mo x3 x7 t1 no_)
    refine lv_lload_n hx hb dX1_finiteSum_109 rfl (lv_at hl 2 rfl) ?_
    refine lv_lload hx hb dX1_finiteSum_110 (lv_at hl 5 rfl) ?_
    refine lv_lconst (v := 0) hx hb dX1_finiteSum_112 (by decide) ?_
    refine ll_ge (tgt := 121) hx hb dX1_finiteSum_113 dX1_finiteSum_114 (by decide) (fun c_113 => ?_) (fun c_113 => ?_)
    · have hF := hF.trans (if_pos c_113)
      refine lv_iconst (v := 0) hx hb dX1_finiteSum_121 (by decide) ?_
      refine m_call (rest := []) F hX (cm_round l D h hs dA mo no_ st t1 x3 0) cq_m_round rfl ⟨rfl, rfl⟩ (by decide) rfl hl.1 rfl (Nat.le_of_ble_eq_true rfl) dX1_finiteSum_122 (fun r u' H locs hq hX => ?_)
      obtain ⟨rfl, rfl⟩ := hq
      exact g_iret F hX (lm_S hF) dX1_finiteSum_125
    · have hF := hF.trans (if_neg c_113)
      refine lv_iconst (v := 1) hx hb dX1_finiteSum_117 (by decide) ?_
      refine lv_goto (tgt := 122) hx hb dX1_finiteSum_118 (by decide) ?_
      refine m_call (rest := []) F hX (cm_round l D h hs dA mo no_ st t1 x3 1) cq_m_round rfl ⟨rfl, rfl⟩ (by decide) rfl hl.1 rfl (Nat.le_of_ble_eq_true rfl) dX1_finiteSum_122 (fun r u' H locs hq hX => ?_)
      obtain ⟨rfl, rfl⟩ := hq
      exact g_iret F hX (lm_S hF) dX1_finiteSum_125
  have K_63 : ∀ (x7 : Int64) (x9 : Int32) (t0 : Int32) (no_ : Int32) (H : Heap) (locs : List Loc) (ls : Array Slot), (vp_in (x6 - x6 / 128 * 128) 121) → ((x1 + ((((fm_valueOf x6) : Int32).toInt64) * x3)) = 0) → fm_finiteSum mo no x1 x3 x5 x6 = fm_finiteSum_b63 mo x5 t0 no_ → g_At (wM h hs dA) D A s (mo, no_, st) H locs → lv_has ls 11 [(0, .ref h), (1, .long x1), (3, .long x3), (5, .int x5), (6, .int x6), (7, .long x7), (9, .int x9)] → W p l e (rmK 3) s m args below meth c H locs 0 0 (MQ below (va_Qi (pm_S (fm_finiteSum mo no x1 x3 x5 x6) mo st) (g_B (wM h hs dA) [(dA, .int)] D A) A) args s 0 0 A) (F0 m 63 ls [.int t0]) := by
    intro x7 x9 t0 no_ H locs ls f63_0 f63_1 hF hX hl
    have hF := hF.trans (fm_finiteSum_b63.eq_1 mo x5 t0 no_)
    refine lv_istore (lv' := [(10, .int t0), (0, .ref h), (1, .long x1), (3, .long x3), (5, .int x5), (6, .int x6), (7, .long x7), (9, .int x9)]) hx hb dX1_finiteSum_63 hl (by decide) rfl (fun ls hl => ?_)
    refine lv_aload_n hx hb dX1_finiteSum_65 rfl (lv_at hl 1 rfl) ?_
    refine lv_iload hx hb dX1_finiteSum_66 (lv_at hl 0 rfl) ?_
    refine lv_if_eq (tgt := 76) hx hb dX1_finiteSum_68 (by decide) (fun c_68 => ?_) (fun c_68 => ?_)
    · have hF := hF.trans (if_pos c_68)
      refine lv_aload_n hx hb dX1_finiteSum_76 rfl (lv_at hl 1 rfl) ?_
      refine m_get F hX 1 (by decide) q191 rfl rfl dX1_finiteSum_77 ?_
      refine lv_iconst (v := 3) hx hb dX1_finiteSum_80 (by decide) ?_
      refine lv_icmp_ne (tgt := 88) hx hb dX1_finiteSum_81 (by decide) (fun c_81 => ?_) (fun c_81 => ?_)
      · have hF := hF.trans (if_neg c_81)
        refine lv_iconst (v := 0) hx hb dX1_finiteSum_88 (by decide) ?_
        refine m_callP (rest := []) F hX (cm_zero l D h hs dA mo no_ st 0) cq_m_zero rfl ⟨rfl, rfl⟩ (by decide) rfl hl.1 rfl (Nat.le_of_ble_eq_true rfl) dX1_finiteSum_89 (fun H locs hX => ?_)
        exact g_iret F hX (lm_S hF) dX1_finiteSum_92
      · have hF := hF.trans (if_pos c_81)
        refine lv_iconst (v := 1) hx hb dX1_finiteSum_84 (by decide) ?_
        refine lv_goto (tgt := 89) hx hb dX1_finiteSum_85 (by decide) ?_
        refine m_callP (rest := []) F hX (cm_zero l D h hs dA mo no_ st 1) cq_m_zero rfl ⟨rfl, rfl⟩ (by decide) rfl hl.1 rfl (Nat.le_of_ble_eq_true rfl) dX1_finiteSum_89 (fun H locs hX => ?_)
        exact g_iret F hX (lm_S hF) dX1_finiteSum_92
    · have hF := hF.trans (if_neg c_68)
      refine lv_iload hx hb dX1_finiteSum_71 (lv_at hl 4 rfl) ?_
      refine lv_goto (tgt := 89) hx hb dX1_finiteSum_73 (by decide) ?_
      refine m_callP (rest := []) F hX (cm_zero l D h hs dA mo no_ st x5) cq_m_zero rfl ⟨rfl, rfl⟩ (by decide) rfl hl.1 rfl (Nat.le_of_ble_eq_true rfl) dX1_finiteSum_89 (fun H locs hX => ?_)
      exact g_iret F hX (lm_S hF) dX1_finiteSum_92
  have K_62 : ∀ (x7 : Int64) (x9 : Int32) (no_ : Int32) (H : Heap) (locs : List Loc) (ls : Array Slot), (vp_in (x6 - x6 / 128 * 128) 121) → ((x1 + ((((fm_valueOf x6) : Int32).toInt64) * x3)) = 0) → fm_finiteSum mo no x1 x3 x5 x6 = fm_finiteSum_b62 mo x5 no_ → g_At (wM h hs dA) D A s (mo, no_, st) H locs → lv_has ls 11 [(0, .ref h), (1, .long x1), (3, .long x3), (5, .int x5), (6, .int x6), (7, .long x7), (9, .int x9)] → W p l e (rmK 3) s m args below meth c H locs 0 0 (MQ below (va_Qi (pm_S (fm_finiteSum mo no x1 x3 x5 x6) mo st) (g_B (wM h hs dA) [(dA, .int)] D A) A) args s 0 0 A) (F0 m 62 ls []) := by
    intro x7 x9 no_ H locs ls f62_0 f62_1 hF hX hl
    have hF := hF.trans (fm_finiteSum_b62.eq_1 mo x5 no_)
    refine lv_iconst (v := 0) hx hb dX1_finiteSum_62 (by decide) ?_
    exact K_63 x7 x9 0 no_ _ _ _ f62_0 f62_1 hF hX (lv_sub hl [0, 1, 2, 3, 4, 5, 6] rfl)
  have K_40 : ∀ (x7 : Int64) (t0 : Int32) (no_ : Int32) (H : Heap) (locs : List Loc) (ls : Array Slot), (vp_in (x6 - x6 / 128 * 128) 121) → ((x1 + ((((fm_valueOf x6) : Int32).toInt64) * x3)) = 0) → fm_finiteSum mo no x1 x3 x5 x6 = fm_finiteSum_b40 mo x5 x6 t0 no_ → g_At (wM h hs dA) D A s (mo, no_, st) H locs → lv_has ls 11 [(0, .ref h), (1, .long x1), (3, .long x3), (5, .int x5), (6, .int x6), (7, .long x7)] → W p l e (rmK 3) s m args below meth c H locs 0 0 (MQ below (va_Qi (pm_S (fm_finiteSum mo no x1 x3 x5 x6) mo st) (g_B (wM h hs dA) [(dA, .int)] D A) A) args s 0 0 A) (F0 m 40 ls [.int t0]) := by
    intro x7 t0 no_ H locs ls f40_0 f40_1 hF hX hl
    have hF := hF.trans (fm_finiteSum_b40.eq_1 mo x5 x6 t0 no_)
    refine lv_istore (lv' := [(9, .int t0), (0, .ref h), (1, .long x1), (3, .long x3), (5, .int x5), (6, .int x6), (7, .long x7)]) hx hb dX1_finiteSum_40 hl (by decide) rfl (fun ls hl => ?_)
    refine lv_iload hx hb dX1_finiteSum_42 (lv_at hl 0 rfl) ?_
    refine lv_if_eq (tgt := 62) hx hb dX1_finiteSum_44 (by decide) (fun c_44 => ?_) (fun c_44 => ?_)
    · have hF := hF.trans (if_pos c_44)
      exact K_62 x7 t0 no_ _ _ _ f40_0 f40_1 hF hX (lv_sub hl [1, 2, 3, 4, 5, 6, 0] rfl)
    · have hF := hF.trans (if_neg c_44)
      refine lv_iload hx hb dX1_finiteSum_47 (lv_at hl 4 rfl) ?_
      refine lv_aload_n hx hb dX1_finiteSum_49 rfl (lv_at hl 1 rfl) ?_
      refine lv_iload hx hb dX1_finiteSum_50 (lv_at hl 5 rfl) ?_
      refine m_callP (rest := [.int x5]) F hX (cm_isNegative l D h hs dA mo no_ st x6) cq_m_isNegative rfl ⟨rfl, rfl⟩ (by decide) rfl hl.1 rfl (Nat.le_of_ble_eq_true rfl) dX1_finiteSum_52 (fun H locs hX => ?_)
      refine lv_icmp_ne (tgt := 62) hx hb dX1_finiteSum_55 (by decide) (fun c_55 => ?_) (fun c_55 => ?_)
      · have hF := hF.trans (if_neg c_55)
        exact K_62 x7 t0 no_ _ _ _ f40_0 f40_1 hF hX (lv_sub hl [1, 2, 3, 4, 5, 6, 0] rfl)
      · have hF := hF.trans (if_pos c_55)
        refine lv_iconst (v := 1) hx hb dX1_finiteSum_58 (by decide) ?_
        refine lv_goto (tgt := 63) hx hb dX1_finiteSum_59 (by decide) ?_
        exact K_63 x7 t0 1 no_ _ _ _ f40_0 f40_1 hF hX (lv_sub hl [1, 2, 3, 4, 5, 6, 0] rfl)
  have K_39 : ∀ (x7 : Int64) (no_ : Int32) (H : Heap) (locs : List Loc) (ls : Array Slot), (vp_in (x6 - x6 / 128 * 128) 121) → ((x1 + ((((fm_valueOf x6) : Int32).toInt64) * x3)) = 0) → fm_finiteSum mo no x1 x3 x5 x6 = fm_finiteSum_b39 mo x5 x6 no_ → g_At (wM h hs dA) D A s (mo, no_, st) H locs → lv_has ls 11 [(0, .ref h), (1, .long x1), (3, .long x3), (5, .int x5), (6, .int x6), (7, .long x7)] → W p l e (rmK 3) s m args below meth c H locs 0 0 (MQ below (va_Qi (pm_S (fm_finiteSum mo no x1 x3 x5 x6) mo st) (g_B (wM h hs dA) [(dA, .int)] D A) A) args s 0 0 A) (F0 m 39 ls []) := by
    intro x7 no_ H locs ls f39_0 f39_1 hF hX hl
    have hF := hF.trans (fm_finiteSum_b39.eq_1 mo x5 x6 no_)
    refine lv_iconst (v := 0) hx hb dX1_finiteSum_39 (by decide) ?_
    exact K_40 x7 0 no_ _ _ _ f39_0 f39_1 hF hX (lv_sub hl [0, 1, 2, 3, 4, 5] rfl)
  have hF := fm_finiteSum.eq_1 mo no x1 x3 x5 x6
  refine lv_lload_n hx hb dX1_finiteSum_0 rfl (lv_at hl 1 rfl) ?_
  refine lv_aload_n hx hb dX1_finiteSum_1 rfl (lv_at hl 0 rfl) ?_
  refine lv_iload hx hb dX1_finiteSum_2 (lv_at hl 4 rfl) ?_
  refine m_callP (rest := [.long x1]) F hX (cm_valueOf l D h hs dA mo no st x6 hv) cq_m_valueOf rfl ⟨rfl, rfl⟩ (by decide) rfl hl.1 rfl (Nat.le_of_ble_eq_true rfl) dX1_finiteSum_4 (fun H locs hX => ?_)
  refine lv_i2l (v := (((fm_valueOf x6) : Int32).toInt64)) hx hb dX1_finiteSum_7 rfl ?_
  refine lv_lload_n hx hb dX1_finiteSum_8 rfl (lv_at hl 2 rfl) ?_
  refine lv_lmul hx hb dX1_finiteSum_9 ?_
  refine lv_ladd hx hb dX1_finiteSum_10 ?_
  refine lv_lstore (lv' := [(7, .long (x1 + ((((fm_valueOf x6) : Int32).toInt64) * x3))), (0, .ref h), (1, .long x1), (3, .long x3), (5, .int x5), (6, .int x6)]) hx hb dX1_finiteSum_11 hl (by decide) rfl (fun ls hl => ?_)
  refine lv_lload hx hb dX1_finiteSum_13 (lv_at hl 0 rfl) ?_
  refine lv_lconst (v := 0) hx hb dX1_finiteSum_15 (by decide) ?_
  refine ll_ne (tgt := 93) hx hb dX1_finiteSum_16 dX1_finiteSum_17 (by decide) (fun c_16 => ?_) (fun c_16 => ?_)
  · have hF := hF.trans (if_neg c_16)
    refine lv_aload_n hx hb dX1_finiteSum_93 rfl (lv_at hl 1 rfl) ?_
    refine lv_lload hx hb dX1_finiteSum_94 (lv_at hl 0 rfl) ?_
    refine lv_lconst (v := 0) hx hb dX1_finiteSum_96 (by decide) ?_
    refine ll_ge (tgt := 107) hx hb dX1_finiteSum_97 dX1_finiteSum_98 (by decide) (fun c_97 => ?_) (fun c_97 => ?_)
    · have hF := hF.trans (if_pos c_97)
      refine lv_lload hx hb dX1_finiteSum_107 (lv_at hl 0 rfl) ?_
      exact K_109 (x1 + ((((fm_valueOf x6) : Int32).toInt64) * x3)) (x1 + ((((fm_valueOf x6) : Int32).toInt64) * x3)) no _ _ _ hv c_16 hF hX (lv_sub hl [1, 2, 3, 4, 5, 0] rfl)
    · have hF := hF.trans (if_neg c_97)
      refine lv_lload hx hb dX1_finiteSum_101 (lv_at hl 0 rfl) ?_
      refine lv_lneg hx hb dX1_finiteSum_103 ?_
      refine lv_goto (tgt := 109) hx hb dX1_finiteSum_104 (by decide) ?_
      exact K_109 (x1 + ((((fm_valueOf x6) : Int32).toInt64) * x3)) (-(x1 + ((((fm_valueOf x6) : Int32).toInt64) * x3))) no _ _ _ hv c_16 hF hX (lv_sub hl [1, 2, 3, 4, 5, 0] rfl)
  · have hF := hF.trans (if_pos c_16)
    refine lv_lload_n hx hb dX1_finiteSum_20 rfl (lv_at hl 2 rfl) ?_
    refine lv_lconst (v := 0) hx hb dX1_finiteSum_21 (by decide) ?_
    refine ll_ne (tgt := 39) hx hb dX1_finiteSum_22 dX1_finiteSum_23 (by decide) (fun c_22 => ?_) (fun c_22 => ?_)
    · have hF := hF.trans (if_neg c_22)
      exact K_39 (x1 + ((((fm_valueOf x6) : Int32).toInt64) * x3)) no _ _ _ hv c_16 hF hX (lv_sub hl [1, 2, 3, 4, 5, 0] rfl)
    · have hF := hF.trans (if_pos c_22)
      refine lv_aload_n hx hb dX1_finiteSum_26 rfl (lv_at hl 1 rfl) ?_
      refine lv_iload hx hb dX1_finiteSum_27 (lv_at hl 5 rfl) ?_
      refine m_callP (rest := []) F hX (cm_isZero l D h hs dA mo no st x6) cq_m_isZero rfl ⟨rfl, rfl⟩ (by decide) rfl hl.1 rfl (Nat.le_of_ble_eq_true rfl) dX1_finiteSum_29 (fun H locs hX => ?_)
      refine lv_if_eq (tgt := 39) hx hb dX1_finiteSum_32 (by decide) (fun c_32 => ?_) (fun c_32 => ?_)
      · have hF := hF.trans (if_pos c_32)
        exact K_39 (x1 + ((((fm_valueOf x6) : Int32).toInt64) * x3)) no _ _ _ hv c_16 hF hX (lv_sub hl [1, 2, 3, 4, 5, 0] rfl)
      · have hF := hF.trans (if_neg c_32)
        refine lv_iconst (v := 1) hx hb dX1_finiteSum_35 (by decide) ?_
        refine lv_goto (tgt := 40) hx hb dX1_finiteSum_36 (by decide) ?_
        exact K_40 (x1 + ((((fm_valueOf x6) : Int32).toInt64) * x3)) 1 no _ _ _ hv c_16 hF hX (lv_sub hl [1, 2, 3, 4, 5, 0] rfl)
end
section
set_option maxRecDepth 100000
def fm_add (mo : Int32) (no : Int32) (x1 : Int32) (x2 : Int32) : Int32 × Int32 :=
  (if (fm_isCode x1) = 0 then ((-1), no) else (if (fm_isCode x2) = 0 then ((-1), no) else (if (fm_isNone x1) = 0 then (if (fm_isNone x2) = 0 then (if (fm_isInfinite x1) = 0 then (if (fm_isInfinite x2) = 0 then ((fm_finiteSum mo no (((fm_valueOf x1) : Int32).toInt64) 1 (fm_isNegative x1) x2).1, (fm_finiteSum mo no (((fm_valueOf x1) : Int32).toInt64) 1 (fm_isNegative x1) x2).2) else (x2, no)) else (if (fm_isInfinite x2) = 0 then (x1, no) else (if x1 = x2 then (x1, no) else ((fm_senseless no).1, (fm_senseless no).2)))) else (124, no)) else (124, no))))
set_option maxHeartbeats 8000000 in
set_option maxRecDepth 100000 in
theorem cm_add (l : Launch) (D : va_G) (h hs : Nat) (dA : ClassId) (mo : Int32) (no : Int32) (st : Int32) (x1 : Int32) (x2 : Int32)  : g_Met l yX1_add cX1_add 3 (some .int) (rmK 4) (wM h hs dA) [(dA, .int)] D (mo, no, st) [.ref h, .int x1, .int x2] (pm_S (fm_add mo no x1 x2) mo st) := by
  refine g_enter (by decide) (Nat.le_of_ble_eq_true rfl) (fun p e s m args below meth c A ls F hX hl => ?_)
  have hx := F.1
  have hb := F.2.1
  generalize hH0 : s.heap = H at hX ⊢
  generalize ([] : List Loc) = locs at hX ⊢
  have hl : lv_has ls 3 [(0, .ref h), (1, .int x1), (2, .int x2)] := hl
  clear hH0
  have hF := fm_add.eq_1 mo no x1 x2
  refine lv_aload_n hx hb dX1_add_0 rfl (lv_at hl 0 rfl) ?_
  refine lv_iload_n hx hb dX1_add_1 rfl (lv_at hl 1 rfl) ?_
  refine m_callP (rest := []) F hX (cm_isCode l D h hs dA mo no st x1) cq_m_isCode rfl ⟨rfl, rfl⟩ (by decide) rfl hl.1 rfl (Nat.le_of_ble_eq_true rfl) dX1_add_2 (fun H locs hX => ?_)
  refine lv_if_eq (tgt := 16) hx hb dX1_add_5 (by decide) (fun c_5 => ?_) (fun c_5 => ?_)
  · have hF := hF.trans (if_pos c_5)
    refine lv_iconst (v := (-1)) hx hb dX1_add_16 (by decide) ?_
    exact g_iret F hX (lm_S hF) dX1_add_17
  · have hF := hF.trans (if_neg c_5)
    refine lv_aload_n hx hb dX1_add_8 rfl (lv_at hl 0 rfl) ?_
    refine lv_iload_n hx hb dX1_add_9 rfl (lv_at hl 2 rfl) ?_
    refine m_callP (rest := []) F hX (cm_isCode l D h hs dA mo no st x2) cq_m_isCode rfl ⟨rfl, rfl⟩ (by decide) rfl hl.1 rfl (Nat.le_of_ble_eq_true rfl) dX1_add_10 (fun H locs hX => ?_)
    refine lv_if_ne (tgt := 18) hx hb dX1_add_13 (by decide) (fun c_13 => ?_) (fun c_13 => ?_)
    · have hF := hF.trans (if_neg c_13)
      refine lv_aload_n hx hb dX1_add_18 rfl (lv_at hl 0 rfl) ?_
      refine lv_iload_n hx hb dX1_add_19 rfl (lv_at hl 1 rfl) ?_
      refine m_callP (rest := []) F hX (cm_isNone l D h hs dA mo no st x1) cq_m_isNone rfl ⟨rfl, rfl⟩ (by decide) rfl hl.1 rfl (Nat.le_of_ble_eq_true rfl) dX1_add_20 (fun H locs hX => ?_)
      refine lv_if_ne (tgt := 34) hx hb dX1_add_23 (by decide) (fun c_23 => ?_) (fun c_23 => ?_)
      · have hF := hF.trans (if_neg c_23)
        refine lv_bipush (v := 124) hx hb dX1_add_34 (by decide) ?_
        exact g_iret F hX (lm_S hF) dX1_add_36
      · have hF := hF.trans (if_pos c_23)
        refine lv_aload_n hx hb dX1_add_26 rfl (lv_at hl 0 rfl) ?_
        refine lv_iload_n hx hb dX1_add_27 rfl (lv_at hl 2 rfl) ?_
        refine m_callP (rest := []) F hX (cm_isNone l D h hs dA mo no st x2) cq_m_isNone rfl ⟨rfl, rfl⟩ (by decide) rfl hl.1 rfl (Nat.le_of_ble_eq_true rfl) dX1_add_28 (fun H locs hX => ?_)
        refine lv_if_eq (tgt := 37) hx hb dX1_add_31 (by decide) (fun c_31 => ?_) (fun c_31 => ?_)
        · have hF := hF.trans (if_pos c_31)
          refine lv_aload_n hx hb dX1_add_37 rfl (lv_at hl 0 rfl) ?_
          refine lv_iload_n hx hb dX1_add_38 rfl (lv_at hl 1 rfl) ?_
          refine m_callP (rest := []) F hX (cm_isInfinite l D h hs dA mo no st x1) cq_m_isInfinite rfl ⟨rfl, rfl⟩ (by decide) rfl hl.1 rfl (Nat.le_of_ble_eq_true rfl) dX1_add_39 (fun H locs hX => ?_)
          refine lv_if_eq (tgt := 67) hx hb dX1_add_42 (by decide) (fun c_42 => ?_) (fun c_42 => ?_)
          · have hF := hF.trans (if_pos c_42)
            refine lv_aload_n hx hb dX1_add_67 rfl (lv_at hl 0 rfl) ?_
            refine lv_iload_n hx hb dX1_add_68 rfl (lv_at hl 2 rfl) ?_
            refine m_callP (rest := []) F hX (cm_isInfinite l D h hs dA mo no st x2) cq_m_isInfinite rfl ⟨rfl, rfl⟩ (by decide) rfl hl.1 rfl (Nat.le_of_ble_eq_true rfl) dX1_add_69 (fun H locs hX => ?_)
            refine lv_if_eq (tgt := 79) hx hb dX1_add_72 (by decide) (fun c_72 => ?_) (fun c_72 => ?_)
            · have hF := hF.trans (if_pos c_72)
              refine lv_aload_n hx hb dX1_add_79 rfl (lv_at hl 0 rfl) ?_
              refine lv_aload_n hx hb dX1_add_80 rfl (lv_at hl 0 rfl) ?_
              refine lv_iload_n hx hb dX1_add_81 rfl (lv_at hl 1 rfl) ?_
              refine m_callP (rest := [.ref h]) F hX (cm_valueOf l D h hs dA mo no st x1 (m_in (by assumption) (by assumption))) cq_m_valueOf rfl ⟨rfl, rfl⟩ (by decide) rfl hl.1 rfl (Nat.le_of_ble_eq_true rfl) dX1_add_82 (fun H locs hX => ?_)
              refine lv_i2l (v := (((fm_valueOf x1) : Int32).toInt64)) hx hb dX1_add_85 rfl ?_
              refine lv_lconst (v := 1) hx hb dX1_add_86 (by decide) ?_
              refine lv_aload_n hx hb dX1_add_87 rfl (lv_at hl 0 rfl) ?_
              refine lv_iload_n hx hb dX1_add_88 rfl (lv_at hl 1 rfl) ?_
              refine m_callP (rest := [.long 1, .long (((fm_valueOf x1) : Int32).toInt64), .ref h]) F hX (cm_isNegative l D h hs dA mo no st x1) cq_m_isNegative rfl ⟨rfl, rfl⟩ (by decide) rfl hl.1 rfl (Nat.le_of_ble_eq_true rfl) dX1_add_89 (fun H locs hX => ?_)
              refine lv_iload_n hx hb dX1_add_92 rfl (lv_at hl 2 rfl) ?_
              refine m_call (rest := []) F hX (cm_finiteSum l D h hs dA mo no st (((fm_valueOf x1) : Int32).toInt64) 1 (fm_isNegative x1) x2 (m_in (by assumption) (by assumption))) cq_m_finiteSum rfl ⟨rfl, rfl⟩ (by decide) rfl hl.1 rfl (Nat.le_of_ble_eq_true rfl) dX1_add_93 (fun r u' H locs hq hX => ?_)
              obtain ⟨rfl, rfl⟩ := hq
              exact g_iret F hX (lm_S hF) dX1_add_96
            · have hF := hF.trans (if_neg c_72)
              refine lv_iload_n hx hb dX1_add_75 rfl (lv_at hl 2 rfl) ?_
              refine lv_goto (tgt := 96) hx hb dX1_add_76 (by decide) ?_
              exact g_iret F hX (lm_S hF) dX1_add_96
          · have hF := hF.trans (if_neg c_42)
            refine lv_aload_n hx hb dX1_add_45 rfl (lv_at hl 0 rfl) ?_
            refine lv_iload_n hx hb dX1_add_46 rfl (lv_at hl 2 rfl) ?_
            refine m_callP (rest := []) F hX (cm_isInfinite l D h hs dA mo no st x2) cq_m_isInfinite rfl ⟨rfl, rfl⟩ (by decide) rfl hl.1 rfl (Nat.le_of_ble_eq_true rfl) dX1_add_47 (fun H locs hX => ?_)
            refine lv_if_eq (tgt := 65) hx hb dX1_add_50 (by decide) (fun c_50 => ?_) (fun c_50 => ?_)
            · have hF := hF.trans (if_pos c_50)
              refine lv_iload_n hx hb dX1_add_65 rfl (lv_at hl 1 rfl) ?_
              exact g_iret F hX (lm_S hF) dX1_add_66
            · have hF := hF.trans (if_neg c_50)
              refine lv_iload_n hx hb dX1_add_53 rfl (lv_at hl 1 rfl) ?_
              refine lv_iload_n hx hb dX1_add_54 rfl (lv_at hl 2 rfl) ?_
              refine lv_icmp_eq (tgt := 65) hx hb dX1_add_55 (by decide) (fun c_55 => ?_) (fun c_55 => ?_)
              · have hF := hF.trans (if_pos c_55)
                refine lv_iload_n hx hb dX1_add_65 rfl (lv_at hl 1 rfl) ?_
                exact g_iret F hX (lm_S hF) dX1_add_66
              · have hF := hF.trans (if_neg c_55)
                refine lv_aload_n hx hb dX1_add_58 rfl (lv_at hl 0 rfl) ?_
                refine m_call (rest := []) F hX (cm_senseless l D h hs dA mo no st) cq_m_senseless rfl ⟨rfl, rfl⟩ (by decide) rfl hl.1 rfl (Nat.le_of_ble_eq_true rfl) dX1_add_59 (fun r u' H locs hq hX => ?_)
                obtain ⟨rfl, rfl⟩ := hq
                refine lv_goto (tgt := 66) hx hb dX1_add_62 (by decide) ?_
                exact g_iret F hX (lm_S hF) dX1_add_66
        · have hF := hF.trans (if_neg c_31)
          refine lv_bipush (v := 124) hx hb dX1_add_34 (by decide) ?_
          exact g_iret F hX (lm_S hF) dX1_add_36
    · have hF := hF.trans (if_pos c_13)
      refine lv_iconst (v := (-1)) hx hb dX1_add_16 (by decide) ?_
      exact g_iret F hX (lm_S hF) dX1_add_17
def fm_subtract (mo : Int32) (no : Int32) (x1 : Int32) (x2 : Int32) : Int32 × Int32 :=
  (if (fm_isCode x2) = 0 then ((-1), no) else (if (fm_isNone x2) = 0 then ((fm_add mo no x1 (x2 ^^^ 128)).1, (fm_add mo no x1 (x2 ^^^ 128)).2) else ((fm_add mo no x1 x2).1, (fm_add mo no x1 x2).2)))
set_option maxHeartbeats 8000000 in
set_option maxRecDepth 100000 in
theorem cm_subtract (l : Launch) (D : va_G) (h hs : Nat) (dA : ClassId) (mo : Int32) (no : Int32) (st : Int32) (x1 : Int32) (x2 : Int32)  : g_Met l yX1_subtract cX1_subtract 3 (some .int) (rmK 5) (wM h hs dA) [(dA, .int)] D (mo, no, st) [.ref h, .int x1, .int x2] (pm_S (fm_subtract mo no x1 x2) mo st) := by
  refine g_enter (by decide) (Nat.le_of_ble_eq_true rfl) (fun p e s m args below meth c A ls F hX hl => ?_)
  have hx := F.1
  have hb := F.2.1
  generalize hH0 : s.heap = H at hX ⊢
  generalize ([] : List Loc) = locs at hX ⊢
  have hl : lv_has ls 3 [(0, .ref h), (1, .int x1), (2, .int x2)] := hl
  clear hH0
  have hF := fm_subtract.eq_1 mo no x1 x2
  refine lv_aload_n hx hb dX1_subtract_0 rfl (lv_at hl 0 rfl) ?_
  refine lv_iload_n hx hb dX1_subtract_1 rfl (lv_at hl 2 rfl) ?_
  refine m_callP (rest := []) F hX (cm_isCode l D h hs dA mo no st x2) cq_m_isCode rfl ⟨rfl, rfl⟩ (by decide) rfl hl.1 rfl (Nat.le_of_ble_eq_true rfl) dX1_subtract_2 (fun H locs hX => ?_)
  refine lv_if_eq (tgt := 33) hx hb dX1_subtract_5 (by decide) (fun c_5 => ?_) (fun c_5 => ?_)
  · have hF := hF.trans (if_pos c_5)
    refine lv_iconst (v := (-1)) hx hb dX1_subtract_33 (by decide) ?_
    exact g_iret F hX (lm_S hF) dX1_subtract_34
  · have hF := hF.trans (if_neg c_5)
    refine lv_aload_n hx hb dX1_subtract_8 rfl (lv_at hl 0 rfl) ?_
    refine lv_iload_n hx hb dX1_subtract_9 rfl (lv_at hl 1 rfl) ?_
    refine lv_aload_n hx hb dX1_subtract_10 rfl (lv_at hl 0 rfl) ?_
    refine lv_iload_n hx hb dX1_subtract_11 rfl (lv_at hl 2 rfl) ?_
    refine m_callP (rest := [.int x1, .ref h]) F hX (cm_isNone l D h hs dA mo no st x2) cq_m_isNone rfl ⟨rfl, rfl⟩ (by decide) rfl hl.1 rfl (Nat.le_of_ble_eq_true rfl) dX1_subtract_12 (fun H locs hX => ?_)
    refine lv_if_eq (tgt := 22) hx hb dX1_subtract_15 (by decide) (fun c_15 => ?_) (fun c_15 => ?_)
    · have hF := hF.trans (if_pos c_15)
      refine lv_iload_n hx hb dX1_subtract_22 rfl (lv_at hl 2 rfl) ?_
      refine lv_sipush (v := 128) hx hb dX1_subtract_23 (by decide) ?_
      refine lv_ixor hx hb dX1_subtract_26 ?_
      refine m_call (rest := []) F hX (cm_add l D h hs dA mo no st x1 (x2 ^^^ 128)) cq_m_add rfl ⟨rfl, rfl⟩ (by decide) rfl hl.1 rfl (Nat.le_of_ble_eq_true rfl) dX1_subtract_27 (fun r u' H locs hq hX => ?_)
      obtain ⟨rfl, rfl⟩ := hq
      refine lv_goto (tgt := 34) hx hb dX1_subtract_30 (by decide) ?_
      exact g_iret F hX (lm_S hF) dX1_subtract_34
    · have hF := hF.trans (if_neg c_15)
      refine lv_iload_n hx hb dX1_subtract_18 rfl (lv_at hl 2 rfl) ?_
      refine lv_goto (tgt := 27) hx hb dX1_subtract_19 (by decide) ?_
      refine m_call (rest := []) F hX (cm_add l D h hs dA mo no st x1 x2) cq_m_add rfl ⟨rfl, rfl⟩ (by decide) rfl hl.1 rfl (Nat.le_of_ble_eq_true rfl) dX1_subtract_27 (fun r u' H locs hq hX => ?_)
      obtain ⟨rfl, rfl⟩ := hq
      refine lv_goto (tgt := 34) hx hb dX1_subtract_30 (by decide) ?_
      exact g_iret F hX (lm_S hF) dX1_subtract_34
def fm_multiply_b72 (x1 : Int32) (x2 : Int32) (x3 : Int32) (no_ : Int32) : Int32 × Int32 :=
  (if (fm_isZero x1) = 0 then (if (fm_isZero x2) = 0 then ((fm_signed 120 x3), no_) else ((fm_senseless no_).1, (fm_senseless no_).2)) else ((fm_senseless no_).1, (fm_senseless no_).2))
def fm_multiply_b55 (mo : Int32) (x1 : Int32) (x2 : Int32) (t0 : Int32) (no_ : Int32) : Int32 × Int32 :=
  (if (fm_isInfinite x1) = 0 then (if (fm_isInfinite x2) = 0 then (if ((((szF ((x1 - x1 / 128 * 128) : Int32).toNatClampNeg) : Int32).toInt64) * (((szF ((x2 - x2 / 128 * 128) : Int32).toNatClampNeg) : Int32).toInt64)) = 0 then ((fm_zero t0), no_) else ((fm_round mo no_ ((((szF ((x1 - x1 / 128 * 128) : Int32).toNatClampNeg) : Int32).toInt64) * (((szF ((x2 - x2 / 128 * 128) : Int32).toNatClampNeg) : Int32).toInt64)) 512 t0).1, (fm_round mo no_ ((((szF ((x1 - x1 / 128 * 128) : Int32).toNatClampNeg) : Int32).toInt64) * (((szF ((x2 - x2 / 128 * 128) : Int32).toNatClampNeg) : Int32).toInt64)) 512 t0).2)) else fm_multiply_b72 x1 x2 t0 no_) else fm_multiply_b72 x1 x2 t0 no_)
def fm_multiply (mo : Int32) (no : Int32) (x1 : Int32) (x2 : Int32) : Int32 × Int32 :=
  (if (fm_isCode x1) = 0 then ((-1), no) else (if (fm_isCode x2) = 0 then ((-1), no) else (if (fm_isNone x1) = 0 then (if (fm_isNone x2) = 0 then (if (fm_isNegative x1) = (fm_isNegative x2) then fm_multiply_b55 mo x1 x2 0 no else fm_multiply_b55 mo x1 x2 1 no) else (124, no)) else (124, no))))
set_option maxHeartbeats 8000000 in
set_option maxRecDepth 100000 in
theorem cm_multiply (l : Launch) (D : va_G) (h hs : Nat) (dA : ClassId) (mo : Int32) (no : Int32) (st : Int32) (x1 : Int32) (x2 : Int32)  : g_Met l yX1_multiply cX1_multiply 6 (some .int) (rmK 3) (wM h hs dA) [(dA, .int)] D (mo, no, st) [.ref h, .int x1, .int x2] (pm_S (fm_multiply mo no x1 x2) mo st) := by
  refine g_enter (by decide) (Nat.le_of_ble_eq_true rfl) (fun p e s m args below meth c A ls F hX hl => ?_)
  have hx := F.1
  have hb := F.2.1
  generalize hH0 : s.heap = H at hX ⊢
  generalize ([] : List Loc) = locs at hX ⊢
  have hl : lv_has ls 6 [(0, .ref h), (1, .int x1), (2, .int x2)] := hl
  clear hH0
  have K_72 : ∀ (x3 : Int32) (no_ : Int32) (H : Heap) (locs : List Loc) (ls : Array Slot), (¬ (fm_isCode x1) = 0) → (¬ (fm_isCode x2) = 0) → ((fm_isNone x1) = 0) → ((fm_isNone x2) = 0) → fm_multiply mo no x1 x2 = fm_multiply_b72 x1 x2 x3 no_ → g_At (wM h hs dA) D A s (mo, no_, st) H locs → lv_has ls 6 [(0, .ref h), (1, .int x1), (2, .int x2), (3, .int x3)] → W p l e (rmK 3) s m args below meth c H locs 0 0 (MQ below (va_Qi (pm_S (fm_multiply mo no x1 x2) mo st) (g_B (wM h hs dA) [(dA, .int)] D A) A) args s 0 0 A) (F0 m 72 ls []) := by
    intro x3 no_ H locs ls f72_0 f72_1 f72_2 f72_3 hF hX hl
    have hF := hF.trans (fm_multiply_b72.eq_1 x1 x2 x3 no_)
    refine lv_aload_n hx hb dX1_multiply_72 rfl (lv_at hl 0 rfl) ?_
    refine lv_iload_n hx hb dX1_multiply_73 rfl (lv_at hl 1 rfl) ?_
    refine m_callP (rest := []) F hX (cm_isZero l D h hs dA mo no_ st x1) cq_m_isZero rfl ⟨rfl, rfl⟩ (by decide) rfl hl.1 rfl (Nat.le_of_ble_eq_true rfl) dX1_multiply_74 (fun H locs hX => ?_)
    refine lv_if_ne (tgt := 88) hx hb dX1_multiply_77 (by decide) (fun c_77 => ?_) (fun c_77 => ?_)
    · have hF := hF.trans (if_neg c_77)
      refine lv_aload_n hx hb dX1_multiply_88 rfl (lv_at hl 0 rfl) ?_
      refine m_call (rest := []) F hX (cm_senseless l D h hs dA mo no_ st) cq_m_senseless rfl ⟨rfl, rfl⟩ (by decide) rfl hl.1 rfl (Nat.le_of_ble_eq_true rfl) dX1_multiply_89 (fun r u' H locs hq hX => ?_)
      obtain ⟨rfl, rfl⟩ := hq
      refine lv_goto (tgt := 102) hx hb dX1_multiply_92 (by decide) ?_
      exact g_iret F hX (lm_S hF) dX1_multiply_102
    · have hF := hF.trans (if_pos c_77)
      refine lv_aload_n hx hb dX1_multiply_80 rfl (lv_at hl 0 rfl) ?_
      refine lv_iload_n hx hb dX1_multiply_81 rfl (lv_at hl 2 rfl) ?_
      refine m_callP (rest := []) F hX (cm_isZero l D h hs dA mo no_ st x2) cq_m_isZero rfl ⟨rfl, rfl⟩ (by decide) rfl hl.1 rfl (Nat.le_of_ble_eq_true rfl) dX1_multiply_82 (fun H locs hX => ?_)
      refine lv_if_eq (tgt := 95) hx hb dX1_multiply_85 (by decide) (fun c_85 => ?_) (fun c_85 => ?_)
      · have hF := hF.trans (if_pos c_85)
        refine lv_aload_n hx hb dX1_multiply_95 rfl (lv_at hl 0 rfl) ?_
        refine lv_bipush (v := 120) hx hb dX1_multiply_96 (by decide) ?_
        refine lv_iload_n hx hb dX1_multiply_98 rfl (lv_at hl 3 rfl) ?_
        refine m_callP (rest := []) F hX (cm_signed l D h hs dA mo no_ st 120 x3) cq_m_signed rfl ⟨rfl, rfl⟩ (by decide) rfl hl.1 rfl (Nat.le_of_ble_eq_true rfl) dX1_multiply_99 (fun H locs hX => ?_)
        exact g_iret F hX (lm_S hF) dX1_multiply_102
      · have hF := hF.trans (if_neg c_85)
        refine lv_aload_n hx hb dX1_multiply_88 rfl (lv_at hl 0 rfl) ?_
        refine m_call (rest := []) F hX (cm_senseless l D h hs dA mo no_ st) cq_m_senseless rfl ⟨rfl, rfl⟩ (by decide) rfl hl.1 rfl (Nat.le_of_ble_eq_true rfl) dX1_multiply_89 (fun r u' H locs hq hX => ?_)
        obtain ⟨rfl, rfl⟩ := hq
        refine lv_goto (tgt := 102) hx hb dX1_multiply_92 (by decide) ?_
        exact g_iret F hX (lm_S hF) dX1_multiply_102
  have K_55 : ∀ (t0 : Int32) (no_ : Int32) (H : Heap) (locs : List Loc) (ls : Array Slot), (¬ (fm_isCode x1) = 0) → (¬ (fm_isCode x2) = 0) → ((fm_isNone x1) = 0) → ((fm_isNone x2) = 0) → fm_multiply mo no x1 x2 = fm_multiply_b55 mo x1 x2 t0 no_ → g_At (wM h hs dA) D A s (mo, no_, st) H locs → lv_has ls 6 [(0, .ref h), (1, .int x1), (2, .int x2)] → W p l e (rmK 3) s m args below meth c H locs 0 0 (MQ below (va_Qi (pm_S (fm_multiply mo no x1 x2) mo st) (g_B (wM h hs dA) [(dA, .int)] D A) A) args s 0 0 A) (F0 m 55 ls [.int t0]) := by
    intro t0 no_ H locs ls f55_0 f55_1 f55_2 f55_3 hF hX hl
    have hF := hF.trans (fm_multiply_b55.eq_1 mo x1 x2 t0 no_)
    refine lv_istore_n (lv' := [(3, .int t0), (0, .ref h), (1, .int x1), (2, .int x2)]) hx hb dX1_multiply_55 rfl hl (by decide) rfl (fun ls hl => ?_)
    refine lv_aload_n hx hb dX1_multiply_56 rfl (lv_at hl 1 rfl) ?_
    refine lv_iload_n hx hb dX1_multiply_57 rfl (lv_at hl 2 rfl) ?_
    refine m_callP (rest := []) F hX (cm_isInfinite l D h hs dA mo no_ st x1) cq_m_isInfinite rfl ⟨rfl, rfl⟩ (by decide) rfl hl.1 rfl (Nat.le_of_ble_eq_true rfl) dX1_multiply_58 (fun H locs hX => ?_)
    refine lv_if_ne (tgt := 72) hx hb dX1_multiply_61 (by decide) (fun c_61 => ?_) (fun c_61 => ?_)
    · have hF := hF.trans (if_neg c_61)
      exact K_72 t0 no_ _ _ _ f55_0 f55_1 f55_2 f55_3 hF hX (lv_sub hl [1, 2, 3, 0] rfl)
    · have hF := hF.trans (if_pos c_61)
      refine lv_aload_n hx hb dX1_multiply_64 rfl (lv_at hl 1 rfl) ?_
      refine lv_iload_n hx hb dX1_multiply_65 rfl (lv_at hl 3 rfl) ?_
      refine m_callP (rest := []) F hX (cm_isInfinite l D h hs dA mo no_ st x2) cq_m_isInfinite rfl ⟨rfl, rfl⟩ (by decide) rfl hl.1 rfl (Nat.le_of_ble_eq_true rfl) dX1_multiply_66 (fun H locs hX => ?_)
      refine lv_if_eq (tgt := 103) hx hb dX1_multiply_69 (by decide) (fun c_69 => ?_) (fun c_69 => ?_)
      · have hF := hF.trans (if_pos c_69)
        refine lv_aload_n hx hb dX1_multiply_103 rfl (lv_at hl 1 rfl) ?_
        refine m_get F hX 0 (by decide) q190 rfl rfl dX1_multiply_104 ?_
        refine lv_iload_n hx hb dX1_multiply_107 rfl (lv_at hl 2 rfl) ?_
        refine lv_sipush (v := 128) hx hb dX1_multiply_108 (by decide) ?_
        refine lv_irem hx hb dX1_multiply_111 (by decide) ?_
        refine m_ald F hX (m_in (by assumption) (by assumption)) dX1_multiply_112 ?_
        refine lv_i2l (v := (((szF ((x1 - x1 / 128 * 128) : Int32).toNatClampNeg) : Int32).toInt64)) hx hb dX1_multiply_113 rfl ?_
        refine lv_aload_n hx hb dX1_multiply_114 rfl (lv_at hl 1 rfl) ?_
        refine m_get F hX 0 (by decide) q190 rfl rfl dX1_multiply_115 ?_
        refine lv_iload_n hx hb dX1_multiply_118 rfl (lv_at hl 3 rfl) ?_
        refine lv_sipush (v := 128) hx hb dX1_multiply_119 (by decide) ?_
        refine lv_irem hx hb dX1_multiply_122 (by decide) ?_
        refine m_ald F hX (m_in (by assumption) (by assumption)) dX1_multiply_123 ?_
        refine lv_i2l (v := (((szF ((x2 - x2 / 128 * 128) : Int32).toNatClampNeg) : Int32).toInt64)) hx hb dX1_multiply_124 rfl ?_
        refine lv_lmul hx hb dX1_multiply_125 ?_
        refine lv_lstore (lv' := [(4, .long ((((szF ((x1 - x1 / 128 * 128) : Int32).toNatClampNeg) : Int32).toInt64) * (((szF ((x2 - x2 / 128 * 128) : Int32).toNatClampNeg) : Int32).toInt64))), (3, .int t0), (0, .ref h), (1, .int x1), (2, .int x2)]) hx hb dX1_multiply_126 hl (by decide) rfl (fun ls hl => ?_)
        refine lv_lload hx hb dX1_multiply_128 (lv_at hl 0 rfl) ?_
        refine lv_lconst (v := 0) hx hb dX1_multiply_130 (by decide) ?_
        refine ll_ne (tgt := 143) hx hb dX1_multiply_131 dX1_multiply_132 (by decide) (fun c_131 => ?_) (fun c_131 => ?_)
        · have hF := hF.trans (if_neg c_131)
          refine lv_aload_n hx hb dX1_multiply_143 rfl (lv_at hl 2 rfl) ?_
          refine lv_lload hx hb dX1_multiply_144 (lv_at hl 0 rfl) ?_
          refine lv_ldc2 hx hb F.2.2.2.1 (F.2.2.2.2.1 _ q286) dX1_multiply_146 ?_
          refine lv_iload_n hx hb dX1_multiply_149 rfl (lv_at hl 1 rfl) ?_
          refine m_call (rest := []) F hX (cm_round l D h hs dA mo no_ st ((((szF ((x1 - x1 / 128 * 128) : Int32).toNatClampNeg) : Int32).toInt64) * (((szF ((x2 - x2 / 128 * 128) : Int32).toNatClampNeg) : Int32).toInt64)) 512 t0) cq_m_round rfl ⟨rfl, rfl⟩ (by decide) rfl hl.1 rfl (Nat.le_of_ble_eq_true rfl) dX1_multiply_150 (fun r u' H locs hq hX => ?_)
          obtain ⟨rfl, rfl⟩ := hq
          exact g_iret F hX (lm_S hF) dX1_multiply_153
        · have hF := hF.trans (if_pos c_131)
          refine lv_aload_n hx hb dX1_multiply_135 rfl (lv_at hl 2 rfl) ?_
          refine lv_iload_n hx hb dX1_multiply_136 rfl (lv_at hl 1 rfl) ?_
          refine m_callP (rest := []) F hX (cm_zero l D h hs dA mo no_ st t0) cq_m_zero rfl ⟨rfl, rfl⟩ (by decide) rfl hl.1 rfl (Nat.le_of_ble_eq_true rfl) dX1_multiply_137 (fun H locs hX => ?_)
          refine lv_goto (tgt := 153) hx hb dX1_multiply_140 (by decide) ?_
          exact g_iret F hX (lm_S hF) dX1_multiply_153
      · have hF := hF.trans (if_neg c_69)
        exact K_72 t0 no_ _ _ _ f55_0 f55_1 f55_2 f55_3 hF hX (lv_sub hl [1, 2, 3, 0] rfl)
  have hF := fm_multiply.eq_1 mo no x1 x2
  refine lv_aload_n hx hb dX1_multiply_0 rfl (lv_at hl 0 rfl) ?_
  refine lv_iload_n hx hb dX1_multiply_1 rfl (lv_at hl 1 rfl) ?_
  refine m_callP (rest := []) F hX (cm_isCode l D h hs dA mo no st x1) cq_m_isCode rfl ⟨rfl, rfl⟩ (by decide) rfl hl.1 rfl (Nat.le_of_ble_eq_true rfl) dX1_multiply_2 (fun H locs hX => ?_)
  refine lv_if_eq (tgt := 16) hx hb dX1_multiply_5 (by decide) (fun c_5 => ?_) (fun c_5 => ?_)
  · have hF := hF.trans (if_pos c_5)
    refine lv_iconst (v := (-1)) hx hb dX1_multiply_16 (by decide) ?_
    exact g_iret F hX (lm_S hF) dX1_multiply_17
  · have hF := hF.trans (if_neg c_5)
    refine lv_aload_n hx hb dX1_multiply_8 rfl (lv_at hl 0 rfl) ?_
    refine lv_iload_n hx hb dX1_multiply_9 rfl (lv_at hl 2 rfl) ?_
    refine m_callP (rest := []) F hX (cm_isCode l D h hs dA mo no st x2) cq_m_isCode rfl ⟨rfl, rfl⟩ (by decide) rfl hl.1 rfl (Nat.le_of_ble_eq_true rfl) dX1_multiply_10 (fun H locs hX => ?_)
    refine lv_if_ne (tgt := 18) hx hb dX1_multiply_13 (by decide) (fun c_13 => ?_) (fun c_13 => ?_)
    · have hF := hF.trans (if_neg c_13)
      refine lv_aload_n hx hb dX1_multiply_18 rfl (lv_at hl 0 rfl) ?_
      refine lv_iload_n hx hb dX1_multiply_19 rfl (lv_at hl 1 rfl) ?_
      refine m_callP (rest := []) F hX (cm_isNone l D h hs dA mo no st x1) cq_m_isNone rfl ⟨rfl, rfl⟩ (by decide) rfl hl.1 rfl (Nat.le_of_ble_eq_true rfl) dX1_multiply_20 (fun H locs hX => ?_)
      refine lv_if_ne (tgt := 34) hx hb dX1_multiply_23 (by decide) (fun c_23 => ?_) (fun c_23 => ?_)
      · have hF := hF.trans (if_neg c_23)
        refine lv_bipush (v := 124) hx hb dX1_multiply_34 (by decide) ?_
        exact g_iret F hX (lm_S hF) dX1_multiply_36
      · have hF := hF.trans (if_pos c_23)
        refine lv_aload_n hx hb dX1_multiply_26 rfl (lv_at hl 0 rfl) ?_
        refine lv_iload_n hx hb dX1_multiply_27 rfl (lv_at hl 2 rfl) ?_
        refine m_callP (rest := []) F hX (cm_isNone l D h hs dA mo no st x2) cq_m_isNone rfl ⟨rfl, rfl⟩ (by decide) rfl hl.1 rfl (Nat.le_of_ble_eq_true rfl) dX1_multiply_28 (fun H locs hX => ?_)
        refine lv_if_eq (tgt := 37) hx hb dX1_multiply_31 (by decide) (fun c_31 => ?_) (fun c_31 => ?_)
        · have hF := hF.trans (if_pos c_31)
          refine lv_aload_n hx hb dX1_multiply_37 rfl (lv_at hl 0 rfl) ?_
          refine lv_iload_n hx hb dX1_multiply_38 rfl (lv_at hl 1 rfl) ?_
          refine m_callP (rest := []) F hX (cm_isNegative l D h hs dA mo no st x1) cq_m_isNegative rfl ⟨rfl, rfl⟩ (by decide) rfl hl.1 rfl (Nat.le_of_ble_eq_true rfl) dX1_multiply_39 (fun H locs hX => ?_)
          refine lv_aload_n hx hb dX1_multiply_42 rfl (lv_at hl 0 rfl) ?_
          refine lv_iload_n hx hb dX1_multiply_43 rfl (lv_at hl 2 rfl) ?_
          refine m_callP (rest := [.int (fm_isNegative x1)]) F hX (cm_isNegative l D h hs dA mo no st x2) cq_m_isNegative rfl ⟨rfl, rfl⟩ (by decide) rfl hl.1 rfl (Nat.le_of_ble_eq_true rfl) dX1_multiply_44 (fun H locs hX => ?_)
          refine lv_icmp_eq (tgt := 54) hx hb dX1_multiply_47 (by decide) (fun c_47 => ?_) (fun c_47 => ?_)
          · have hF := hF.trans (if_pos c_47)
            refine lv_iconst (v := 0) hx hb dX1_multiply_54 (by decide) ?_
            exact K_55 0 no _ _ _ c_5 c_13 c_23 c_31 hF hX (lv_sub hl [0, 1, 2] rfl)
          · have hF := hF.trans (if_neg c_47)
            refine lv_iconst (v := 1) hx hb dX1_multiply_50 (by decide) ?_
            refine lv_goto (tgt := 55) hx hb dX1_multiply_51 (by decide) ?_
            exact K_55 1 no _ _ _ c_5 c_13 c_23 c_31 hF hX (lv_sub hl [0, 1, 2] rfl)
        · have hF := hF.trans (if_neg c_31)
          refine lv_bipush (v := 124) hx hb dX1_multiply_34 (by decide) ?_
          exact g_iret F hX (lm_S hF) dX1_multiply_36
    · have hF := hF.trans (if_pos c_13)
      refine lv_iconst (v := (-1)) hx hb dX1_multiply_16 (by decide) ?_
      exact g_iret F hX (lm_S hF) dX1_multiply_17
def fm_divide_b93 (mo : Int32) (x1 : Int32) (x2 : Int32) (x3 : Int32) (no_ : Int32) : Int32 × Int32 :=
  (if (fm_isInfinite x1) = 0 then (if (fm_isInfinite x2) = 0 then (if (fm_isZero x1) = 0 then (if (fm_isZero x2) = 0 then ((fm_round mo no_ (512 * (((szF ((x1 - x1 / 128 * 128) : Int32).toNatClampNeg) : Int32).toInt64)) (((szF ((x2 - x2 / 128 * 128) : Int32).toNatClampNeg) : Int32).toInt64) x3).1, (fm_round mo no_ (512 * (((szF ((x1 - x1 / 128 * 128) : Int32).toNatClampNeg) : Int32).toInt64)) (((szF ((x2 - x2 / 128 * 128) : Int32).toNatClampNeg) : Int32).toInt64) x3).2) else ((fm_signed 120 x3), (no_ ||| 8))) else ((fm_zero x3), no_)) else ((fm_zero x3), no_)) else ((fm_signed 120 x3), no_))
def fm_divide_b72 (mo : Int32) (x1 : Int32) (x2 : Int32) (x3 : Int32) (no_ : Int32) : Int32 × Int32 :=
  (if (fm_isInfinite x1) = 0 then fm_divide_b93 mo x1 x2 x3 no_ else (if (fm_isInfinite x2) = 0 then fm_divide_b93 mo x1 x2 x3 no_ else ((fm_senseless no_).1, (fm_senseless no_).2)))
def fm_divide_b55 (mo : Int32) (x1 : Int32) (x2 : Int32) (t0 : Int32) (no_ : Int32) : Int32 × Int32 :=
  (if (fm_isZero x1) = 0 then fm_divide_b72 mo x1 x2 t0 no_ else (if (fm_isZero x2) = 0 then fm_divide_b72 mo x1 x2 t0 no_ else ((fm_senseless no_).1, (fm_senseless no_).2)))
def fm_divide (mo : Int32) (no : Int32) (x1 : Int32) (x2 : Int32) : Int32 × Int32 :=
  (if (fm_isCode x1) = 0 then ((-1), no) else (if (fm_isCode x2) = 0 then ((-1), no) else (if (fm_isNone x1) = 0 then (if (fm_isNone x2) = 0 then (if (fm_isNegative x1) = (fm_isNegative x2) then fm_divide_b55 mo x1 x2 0 no else fm_divide_b55 mo x1 x2 1 no) else (124, no)) else (124, no))))
set_option maxHeartbeats 8000000 in
set_option maxRecDepth 100000 in
theorem cm_divide (l : Launch) (D : va_G) (h hs : Nat) (dA : ClassId) (mo : Int32) (no : Int32) (st : Int32) (x1 : Int32) (x2 : Int32)  : g_Met l yX1_divide cX1_divide 6 (some .int) (rmK 3) (wM h hs dA) [(dA, .int)] D (mo, no, st) [.ref h, .int x1, .int x2] (pm_S (fm_divide mo no x1 x2) mo st) := by
  refine g_enter (by decide) (Nat.le_of_ble_eq_true rfl) (fun p e s m args below meth c A ls F hX hl => ?_)
  have hx := F.1
  have hb := F.2.1
  generalize hH0 : s.heap = H at hX ⊢
  generalize ([] : List Loc) = locs at hX ⊢
  have hl : lv_has ls 6 [(0, .ref h), (1, .int x1), (2, .int x2)] := hl
  clear hH0
  have K_93 : ∀ (x3 : Int32) (no_ : Int32) (H : Heap) (locs : List Loc) (ls : Array Slot), (¬ (fm_isCode x1) = 0) → (¬ (fm_isCode x2) = 0) → ((fm_isNone x1) = 0) → ((fm_isNone x2) = 0) → fm_divide mo no x1 x2 = fm_divide_b93 mo x1 x2 x3 no_ → g_At (wM h hs dA) D A s (mo, no_, st) H locs → lv_has ls 6 [(0, .ref h), (1, .int x1), (2, .int x2), (3, .int x3)] → W p l e (rmK 3) s m args below meth c H locs 0 0 (MQ below (va_Qi (pm_S (fm_divide mo no x1 x2) mo st) (g_B (wM h hs dA) [(dA, .int)] D A) A) args s 0 0 A) (F0 m 93 ls []) := by
    intro x3 no_ H locs ls f93_0 f93_1 f93_2 f93_3 hF hX hl
    have hF := hF.trans (fm_divide_b93.eq_1 mo x1 x2 x3 no_)
    refine lv_aload_n hx hb dX1_divide_93 rfl (lv_at hl 0 rfl) ?_
    refine lv_iload_n hx hb dX1_divide_94 rfl (lv_at hl 1 rfl) ?_
    refine m_callP (rest := []) F hX (cm_isInfinite l D h hs dA mo no_ st x1) cq_m_isInfinite rfl ⟨rfl, rfl⟩ (by decide) rfl hl.1 rfl (Nat.le_of_ble_eq_true rfl) dX1_divide_95 (fun H locs hX => ?_)
    refine lv_if_eq (tgt := 109) hx hb dX1_divide_98 (by decide) (fun c_98 => ?_) (fun c_98 => ?_)
    · have hF := hF.trans (if_pos c_98)
      refine lv_aload_n hx hb dX1_divide_109 rfl (lv_at hl 0 rfl) ?_
      refine lv_iload_n hx hb dX1_divide_110 rfl (lv_at hl 2 rfl) ?_
      refine m_callP (rest := []) F hX (cm_isInfinite l D h hs dA mo no_ st x2) cq_m_isInfinite rfl ⟨rfl, rfl⟩ (by decide) rfl hl.1 rfl (Nat.le_of_ble_eq_true rfl) dX1_divide_111 (fun H locs hX => ?_)
      refine lv_if_ne (tgt := 125) hx hb dX1_divide_114 (by decide) (fun c_114 => ?_) (fun c_114 => ?_)
      · have hF := hF.trans (if_neg c_114)
        refine lv_aload_n hx hb dX1_divide_125 rfl (lv_at hl 0 rfl) ?_
        refine lv_iload_n hx hb dX1_divide_126 rfl (lv_at hl 3 rfl) ?_
        refine m_callP (rest := []) F hX (cm_zero l D h hs dA mo no_ st x3) cq_m_zero rfl ⟨rfl, rfl⟩ (by decide) rfl hl.1 rfl (Nat.le_of_ble_eq_true rfl) dX1_divide_127 (fun H locs hX => ?_)
        exact g_iret F hX (lm_S hF) dX1_divide_130
      · have hF := hF.trans (if_pos c_114)
        refine lv_aload_n hx hb dX1_divide_117 rfl (lv_at hl 0 rfl) ?_
        refine lv_iload_n hx hb dX1_divide_118 rfl (lv_at hl 1 rfl) ?_
        refine m_callP (rest := []) F hX (cm_isZero l D h hs dA mo no_ st x1) cq_m_isZero rfl ⟨rfl, rfl⟩ (by decide) rfl hl.1 rfl (Nat.le_of_ble_eq_true rfl) dX1_divide_119 (fun H locs hX => ?_)
        refine lv_if_eq (tgt := 131) hx hb dX1_divide_122 (by decide) (fun c_122 => ?_) (fun c_122 => ?_)
        · have hF := hF.trans (if_pos c_122)
          refine lv_aload_n hx hb dX1_divide_131 rfl (lv_at hl 0 rfl) ?_
          refine lv_iload_n hx hb dX1_divide_132 rfl (lv_at hl 2 rfl) ?_
          refine m_callP (rest := []) F hX (cm_isZero l D h hs dA mo no_ st x2) cq_m_isZero rfl ⟨rfl, rfl⟩ (by decide) rfl hl.1 rfl (Nat.le_of_ble_eq_true rfl) dX1_divide_133 (fun H locs hX => ?_)
          refine lv_if_eq (tgt := 158) hx hb dX1_divide_136 (by decide) (fun c_136 => ?_) (fun c_136 => ?_)
          · have hF := hF.trans (if_pos c_136)
            refine lv_ldc2 hx hb F.2.2.2.1 (F.2.2.2.2.1 _ q286) dX1_divide_158 ?_
            refine lv_aload_n hx hb dX1_divide_161 rfl (lv_at hl 0 rfl) ?_
            refine m_get F hX 0 (by decide) q190 rfl rfl dX1_divide_162 ?_
            refine lv_iload_n hx hb dX1_divide_165 rfl (lv_at hl 1 rfl) ?_
            refine lv_sipush (v := 128) hx hb dX1_divide_166 (by decide) ?_
            refine lv_irem hx hb dX1_divide_169 (by decide) ?_
            refine m_ald F hX (m_in (by assumption) (by assumption)) dX1_divide_170 ?_
            refine lv_i2l (v := (((szF ((x1 - x1 / 128 * 128) : Int32).toNatClampNeg) : Int32).toInt64)) hx hb dX1_divide_171 rfl ?_
            refine lv_lmul hx hb dX1_divide_172 ?_
            refine lv_lstore (lv' := [(4, .long (512 * (((szF ((x1 - x1 / 128 * 128) : Int32).toNatClampNeg) : Int32).toInt64))), (0, .ref h), (1, .int x1), (2, .int x2), (3, .int x3)]) hx hb dX1_divide_173 hl (by decide) rfl (fun ls hl => ?_)
            refine lv_aload_n hx hb dX1_divide_175 rfl (lv_at hl 1 rfl) ?_
            refine lv_lload hx hb dX1_divide_176 (lv_at hl 0 rfl) ?_
            refine lv_aload_n hx hb dX1_divide_178 rfl (lv_at hl 1 rfl) ?_
            refine m_get F hX 0 (by decide) q190 rfl rfl dX1_divide_179 ?_
            refine lv_iload_n hx hb dX1_divide_182 rfl (lv_at hl 3 rfl) ?_
            refine lv_sipush (v := 128) hx hb dX1_divide_183 (by decide) ?_
            refine lv_irem hx hb dX1_divide_186 (by decide) ?_
            refine m_ald F hX (m_in (by assumption) (by assumption)) dX1_divide_187 ?_
            refine lv_i2l (v := (((szF ((x2 - x2 / 128 * 128) : Int32).toNatClampNeg) : Int32).toInt64)) hx hb dX1_divide_188 rfl ?_
            refine lv_iload_n hx hb dX1_divide_189 rfl (lv_at hl 4 rfl) ?_
            refine m_call (rest := []) F hX (cm_round l D h hs dA mo no_ st (512 * (((szF ((x1 - x1 / 128 * 128) : Int32).toNatClampNeg) : Int32).toInt64)) (((szF ((x2 - x2 / 128 * 128) : Int32).toNatClampNeg) : Int32).toInt64) x3) cq_m_round rfl ⟨rfl, rfl⟩ (by decide) rfl hl.1 rfl (Nat.le_of_ble_eq_true rfl) dX1_divide_190 (fun r u' H locs hq hX => ?_)
            obtain ⟨rfl, rfl⟩ := hq
            exact g_iret F hX (lm_S hF) dX1_divide_193
          · have hF := hF.trans (if_neg c_136)
            refine lv_aload_n hx hb dX1_divide_139 rfl (lv_at hl 0 rfl) ?_
            refine lv_aload_n hx hb dX1_divide_140 rfl (lv_at hl 0 rfl) ?_
            refine m_get F hX 2 (by decide) q192 rfl rfl dX1_divide_141 ?_
            refine lv_bipush (v := 8) hx hb dX1_divide_144 (by decide) ?_
            refine lv_ior hx hb dX1_divide_146 ?_
            refine m_put (u' := (mo, (no_ ||| 8), st)) F hX 2 (by decide) q192 rfl rfl (tyX1_ok 2 (by decide)) rfl rfl rfl dX1_divide_147 (fun H locs hX => ?_)
            refine lv_aload_n hx hb dX1_divide_150 rfl (lv_at hl 0 rfl) ?_
            refine lv_bipush (v := 120) hx hb dX1_divide_151 (by decide) ?_
            refine lv_iload_n hx hb dX1_divide_153 rfl (lv_at hl 3 rfl) ?_
            refine m_callP (rest := []) F hX (cm_signed l D h hs dA mo (no_ ||| 8) st 120 x3) cq_m_signed rfl ⟨rfl, rfl⟩ (by decide) rfl hl.1 rfl (Nat.le_of_ble_eq_true rfl) dX1_divide_154 (fun H locs hX => ?_)
            exact g_iret F hX (lm_S hF) dX1_divide_157
        · have hF := hF.trans (if_neg c_122)
          refine lv_aload_n hx hb dX1_divide_125 rfl (lv_at hl 0 rfl) ?_
          refine lv_iload_n hx hb dX1_divide_126 rfl (lv_at hl 3 rfl) ?_
          refine m_callP (rest := []) F hX (cm_zero l D h hs dA mo no_ st x3) cq_m_zero rfl ⟨rfl, rfl⟩ (by decide) rfl hl.1 rfl (Nat.le_of_ble_eq_true rfl) dX1_divide_127 (fun H locs hX => ?_)
          exact g_iret F hX (lm_S hF) dX1_divide_130
    · have hF := hF.trans (if_neg c_98)
      refine lv_aload_n hx hb dX1_divide_101 rfl (lv_at hl 0 rfl) ?_
      refine lv_bipush (v := 120) hx hb dX1_divide_102 (by decide) ?_
      refine lv_iload_n hx hb dX1_divide_104 rfl (lv_at hl 3 rfl) ?_
      refine m_callP (rest := []) F hX (cm_signed l D h hs dA mo no_ st 120 x3) cq_m_signed rfl ⟨rfl, rfl⟩ (by decide) rfl hl.1 rfl (Nat.le_of_ble_eq_true rfl) dX1_divide_105 (fun H locs hX => ?_)
      exact g_iret F hX (lm_S hF) dX1_divide_108
  have K_72 : ∀ (x3 : Int32) (no_ : Int32) (H : Heap) (locs : List Loc) (ls : Array Slot), (¬ (fm_isCode x1) = 0) → (¬ (fm_isCode x2) = 0) → ((fm_isNone x1) = 0) → ((fm_isNone x2) = 0) → fm_divide mo no x1 x2 = fm_divide_b72 mo x1 x2 x3 no_ → g_At (wM h hs dA) D A s (mo, no_, st) H locs → lv_has ls 6 [(0, .ref h), (1, .int x1), (2, .int x2), (3, .int x3)] → W p l e (rmK 3) s m args below meth c H locs 0 0 (MQ below (va_Qi (pm_S (fm_divide mo no x1 x2) mo st) (g_B (wM h hs dA) [(dA, .int)] D A) A) args s 0 0 A) (F0 m 72 ls []) := by
    intro x3 no_ H locs ls f72_0 f72_1 f72_2 f72_3 hF hX hl
    have hF := hF.trans (fm_divide_b72.eq_1 mo x1 x2 x3 no_)
    refine lv_aload_n hx hb dX1_divide_72 rfl (lv_at hl 0 rfl) ?_
    refine lv_iload_n hx hb dX1_divide_73 rfl (lv_at hl 1 rfl) ?_
    refine m_callP (rest := []) F hX (cm_isInfinite l D h hs dA mo no_ st x1) cq_m_isInfinite rfl ⟨rfl, rfl⟩ (by decide) rfl hl.1 rfl (Nat.le_of_ble_eq_true rfl) dX1_divide_74 (fun H locs hX => ?_)
    refine lv_if_eq (tgt := 93) hx hb dX1_divide_77 (by decide) (fun c_77 => ?_) (fun c_77 => ?_)
    · have hF := hF.trans (if_pos c_77)
      exact K_93 x3 no_ _ _ _ f72_0 f72_1 f72_2 f72_3 hF hX (lv_sub hl [0, 1, 2, 3] rfl)
    · have hF := hF.trans (if_neg c_77)
      refine lv_aload_n hx hb dX1_divide_80 rfl (lv_at hl 0 rfl) ?_
      refine lv_iload_n hx hb dX1_divide_81 rfl (lv_at hl 2 rfl) ?_
      refine m_callP (rest := []) F hX (cm_isInfinite l D h hs dA mo no_ st x2) cq_m_isInfinite rfl ⟨rfl, rfl⟩ (by decide) rfl hl.1 rfl (Nat.le_of_ble_eq_true rfl) dX1_divide_82 (fun H locs hX => ?_)
      refine lv_if_eq (tgt := 93) hx hb dX1_divide_85 (by decide) (fun c_85 => ?_) (fun c_85 => ?_)
      · have hF := hF.trans (if_pos c_85)
        exact K_93 x3 no_ _ _ _ f72_0 f72_1 f72_2 f72_3 hF hX (lv_sub hl [0, 1, 2, 3] rfl)
      · have hF := hF.trans (if_neg c_85)
        refine lv_aload_n hx hb dX1_divide_88 rfl (lv_at hl 0 rfl) ?_
        refine m_call (rest := []) F hX (cm_senseless l D h hs dA mo no_ st) cq_m_senseless rfl ⟨rfl, rfl⟩ (by decide) rfl hl.1 rfl (Nat.le_of_ble_eq_true rfl) dX1_divide_89 (fun r u' H locs hq hX => ?_)
        obtain ⟨rfl, rfl⟩ := hq
        exact g_iret F hX (lm_S hF) dX1_divide_92
  have K_55 : ∀ (t0 : Int32) (no_ : Int32) (H : Heap) (locs : List Loc) (ls : Array Slot), (¬ (fm_isCode x1) = 0) → (¬ (fm_isCode x2) = 0) → ((fm_isNone x1) = 0) → ((fm_isNone x2) = 0) → fm_divide mo no x1 x2 = fm_divide_b55 mo x1 x2 t0 no_ → g_At (wM h hs dA) D A s (mo, no_, st) H locs → lv_has ls 6 [(0, .ref h), (1, .int x1), (2, .int x2)] → W p l e (rmK 3) s m args below meth c H locs 0 0 (MQ below (va_Qi (pm_S (fm_divide mo no x1 x2) mo st) (g_B (wM h hs dA) [(dA, .int)] D A) A) args s 0 0 A) (F0 m 55 ls [.int t0]) := by
    intro t0 no_ H locs ls f55_0 f55_1 f55_2 f55_3 hF hX hl
    have hF := hF.trans (fm_divide_b55.eq_1 mo x1 x2 t0 no_)
    refine lv_istore_n (lv' := [(3, .int t0), (0, .ref h), (1, .int x1), (2, .int x2)]) hx hb dX1_divide_55 rfl hl (by decide) rfl (fun ls hl => ?_)
    refine lv_aload_n hx hb dX1_divide_56 rfl (lv_at hl 1 rfl) ?_
    refine lv_iload_n hx hb dX1_divide_57 rfl (lv_at hl 2 rfl) ?_
    refine m_callP (rest := []) F hX (cm_isZero l D h hs dA mo no_ st x1) cq_m_isZero rfl ⟨rfl, rfl⟩ (by decide) rfl hl.1 rfl (Nat.le_of_ble_eq_true rfl) dX1_divide_58 (fun H locs hX => ?_)
    refine lv_if_eq (tgt := 72) hx hb dX1_divide_61 (by decide) (fun c_61 => ?_) (fun c_61 => ?_)
    · have hF := hF.trans (if_pos c_61)
      exact K_72 t0 no_ _ _ _ f55_0 f55_1 f55_2 f55_3 hF hX (lv_sub hl [1, 2, 3, 0] rfl)
    · have hF := hF.trans (if_neg c_61)
      refine lv_aload_n hx hb dX1_divide_64 rfl (lv_at hl 1 rfl) ?_
      refine lv_iload_n hx hb dX1_divide_65 rfl (lv_at hl 3 rfl) ?_
      refine m_callP (rest := []) F hX (cm_isZero l D h hs dA mo no_ st x2) cq_m_isZero rfl ⟨rfl, rfl⟩ (by decide) rfl hl.1 rfl (Nat.le_of_ble_eq_true rfl) dX1_divide_66 (fun H locs hX => ?_)
      refine lv_if_ne (tgt := 88) hx hb dX1_divide_69 (by decide) (fun c_69 => ?_) (fun c_69 => ?_)
      · have hF := hF.trans (if_neg c_69)
        refine lv_aload_n hx hb dX1_divide_88 rfl (lv_at hl 1 rfl) ?_
        refine m_call (rest := []) F hX (cm_senseless l D h hs dA mo no_ st) cq_m_senseless rfl ⟨rfl, rfl⟩ (by decide) rfl hl.1 rfl (Nat.le_of_ble_eq_true rfl) dX1_divide_89 (fun r u' H locs hq hX => ?_)
        obtain ⟨rfl, rfl⟩ := hq
        exact g_iret F hX (lm_S hF) dX1_divide_92
      · have hF := hF.trans (if_pos c_69)
        exact K_72 t0 no_ _ _ _ f55_0 f55_1 f55_2 f55_3 hF hX (lv_sub hl [1, 2, 3, 0] rfl)
  have hF := fm_divide.eq_1 mo no x1 x2
  refine lv_aload_n hx hb dX1_divide_0 rfl (lv_at hl 0 rfl) ?_
  refine lv_iload_n hx hb dX1_divide_1 rfl (lv_at hl 1 rfl) ?_
  refine m_callP (rest := []) F hX (cm_isCode l D h hs dA mo no st x1) cq_m_isCode rfl ⟨rfl, rfl⟩ (by decide) rfl hl.1 rfl (Nat.le_of_ble_eq_true rfl) dX1_divide_2 (fun H locs hX => ?_)
  refine lv_if_eq (tgt := 16) hx hb dX1_divide_5 (by decide) (fun c_5 => ?_) (fun c_5 => ?_)
  · have hF := hF.trans (if_pos c_5)
    refine lv_iconst (v := (-1)) hx hb dX1_divide_16 (by decide) ?_
    exact g_iret F hX (lm_S hF) dX1_divide_17
  · have hF := hF.trans (if_neg c_5)
    refine lv_aload_n hx hb dX1_divide_8 rfl (lv_at hl 0 rfl) ?_
    refine lv_iload_n hx hb dX1_divide_9 rfl (lv_at hl 2 rfl) ?_
    refine m_callP (rest := []) F hX (cm_isCode l D h hs dA mo no st x2) cq_m_isCode rfl ⟨rfl, rfl⟩ (by decide) rfl hl.1 rfl (Nat.le_of_ble_eq_true rfl) dX1_divide_10 (fun H locs hX => ?_)
    refine lv_if_ne (tgt := 18) hx hb dX1_divide_13 (by decide) (fun c_13 => ?_) (fun c_13 => ?_)
    · have hF := hF.trans (if_neg c_13)
      refine lv_aload_n hx hb dX1_divide_18 rfl (lv_at hl 0 rfl) ?_
      refine lv_iload_n hx hb dX1_divide_19 rfl (lv_at hl 1 rfl) ?_
      refine m_callP (rest := []) F hX (cm_isNone l D h hs dA mo no st x1) cq_m_isNone rfl ⟨rfl, rfl⟩ (by decide) rfl hl.1 rfl (Nat.le_of_ble_eq_true rfl) dX1_divide_20 (fun H locs hX => ?_)
      refine lv_if_ne (tgt := 34) hx hb dX1_divide_23 (by decide) (fun c_23 => ?_) (fun c_23 => ?_)
      · have hF := hF.trans (if_neg c_23)
        refine lv_bipush (v := 124) hx hb dX1_divide_34 (by decide) ?_
        exact g_iret F hX (lm_S hF) dX1_divide_36
      · have hF := hF.trans (if_pos c_23)
        refine lv_aload_n hx hb dX1_divide_26 rfl (lv_at hl 0 rfl) ?_
        refine lv_iload_n hx hb dX1_divide_27 rfl (lv_at hl 2 rfl) ?_
        refine m_callP (rest := []) F hX (cm_isNone l D h hs dA mo no st x2) cq_m_isNone rfl ⟨rfl, rfl⟩ (by decide) rfl hl.1 rfl (Nat.le_of_ble_eq_true rfl) dX1_divide_28 (fun H locs hX => ?_)
        refine lv_if_eq (tgt := 37) hx hb dX1_divide_31 (by decide) (fun c_31 => ?_) (fun c_31 => ?_)
        · have hF := hF.trans (if_pos c_31)
          refine lv_aload_n hx hb dX1_divide_37 rfl (lv_at hl 0 rfl) ?_
          refine lv_iload_n hx hb dX1_divide_38 rfl (lv_at hl 1 rfl) ?_
          refine m_callP (rest := []) F hX (cm_isNegative l D h hs dA mo no st x1) cq_m_isNegative rfl ⟨rfl, rfl⟩ (by decide) rfl hl.1 rfl (Nat.le_of_ble_eq_true rfl) dX1_divide_39 (fun H locs hX => ?_)
          refine lv_aload_n hx hb dX1_divide_42 rfl (lv_at hl 0 rfl) ?_
          refine lv_iload_n hx hb dX1_divide_43 rfl (lv_at hl 2 rfl) ?_
          refine m_callP (rest := [.int (fm_isNegative x1)]) F hX (cm_isNegative l D h hs dA mo no st x2) cq_m_isNegative rfl ⟨rfl, rfl⟩ (by decide) rfl hl.1 rfl (Nat.le_of_ble_eq_true rfl) dX1_divide_44 (fun H locs hX => ?_)
          refine lv_icmp_eq (tgt := 54) hx hb dX1_divide_47 (by decide) (fun c_47 => ?_) (fun c_47 => ?_)
          · have hF := hF.trans (if_pos c_47)
            refine lv_iconst (v := 0) hx hb dX1_divide_54 (by decide) ?_
            exact K_55 0 no _ _ _ c_5 c_13 c_23 c_31 hF hX (lv_sub hl [0, 1, 2] rfl)
          · have hF := hF.trans (if_neg c_47)
            refine lv_iconst (v := 1) hx hb dX1_divide_50 (by decide) ?_
            refine lv_goto (tgt := 55) hx hb dX1_divide_51 (by decide) ?_
            exact K_55 1 no _ _ _ c_5 c_13 c_23 c_31 hF hX (lv_sub hl [0, 1, 2] rfl)
        · have hF := hF.trans (if_neg c_31)
          refine lv_bipush (v := 124) hx hb dX1_divide_34 (by decide) ?_
          exact g_iret F hX (lm_S hF) dX1_divide_36
    · have hF := hF.trans (if_pos c_13)
      refine lv_iconst (v := (-1)) hx hb dX1_divide_16 (by decide) ?_
      exact g_iret F hX (lm_S hF) dX1_divide_17
def fm_root_b168 (mo : Int32) (x4 : Int32) (x7 : Int32) (t0 : Int32) (no_ : Int32) : Int32 × Int32 :=
  ((fm_choose mo no_ x4 x7 t0 0 0).1, (fm_choose mo no_ x4 x7 t0 0 0).2)
def fm_root_b104 (mo : Int32) (x2 : Int64) (x4 : Int32) (no_ : Int32) : Int32 × Int32 :=
  (if ((((szF (x4 : Int32).toNatClampNeg) : Int32).toInt64) * (((szF (x4 : Int32).toNatClampNeg) : Int32).toInt64)) = x2 then fm_root_b168 mo x4 (fm_sign ((4 * x2) - (((((szF (x4 : Int32).toNatClampNeg) + (szF ((x4 + 1) : Int32).toNatClampNeg)) : Int32).toInt64) * ((((szF (x4 : Int32).toNatClampNeg) + (szF ((x4 + 1) : Int32).toNatClampNeg)) : Int32).toInt64)))) 1 no_ else fm_root_b168 mo x4 (fm_sign ((4 * x2) - (((((szF (x4 : Int32).toNatClampNeg) + (szF ((x4 + 1) : Int32).toNatClampNeg)) : Int32).toInt64) * ((((szF (x4 : Int32).toNatClampNeg) + (szF ((x4 + 1) : Int32).toNatClampNeg)) : Int32).toInt64)))) 0 no_)
def fm_root_b65 : Nat → Int32 → Int64 → Int32 → Int32 → Int32 × Int32
  | 0, _, _, _, _ => (0, 0)
  | n + 1, mo, x2, x4, no_ =>
  (if (119 : Int32) ≤ x4 then fm_root_b104 mo x2 x4 no_ else (if x2 < ((((szF ((x4 + 1) : Int32).toNatClampNeg) : Int32).toInt64) * (((szF ((x4 + 1) : Int32).toNatClampNeg) : Int32).toInt64)) then fm_root_b104 mo x2 x4 no_ else fm_root_b65 n mo x2 (x4 + 1) no_))
def fm_root (mo : Int32) (no : Int32) (x1 : Int32) : Int32 × Int32 :=
  (if (fm_isCode x1) = 0 then ((-1), no) else (if (fm_isNone x1) = 0 then (if (fm_isZero x1) = 0 then (if x1 = 120 then (x1, no) else (if (fm_isNegative x1) = 0 then fm_root_b65 120 mo (512 * (((szF (x1 : Int32).toNatClampNeg) : Int32).toInt64)) 0 no else ((fm_senseless no).1, (fm_senseless no).2))) else (x1, no)) else (124, no)))
set_option maxHeartbeats 8000000 in
set_option maxRecDepth 100000 in
theorem cm_root (l : Launch) (D : va_G) (h hs : Nat) (dA : ClassId) (mo : Int32) (no : Int32) (st : Int32) (x1 : Int32)  : g_Met l yX1_root cX1_root 9 (some .int) (rmK 2) (wM h hs dA) [(dA, .int)] D (mo, no, st) [.ref h, .int x1] (pm_S (fm_root mo no x1) mo st) := by
  refine g_enter (by decide) (Nat.le_of_ble_eq_true rfl) (fun p e s m args below meth c A ls F hX hl => ?_)
  have hx := F.1
  have hb := F.2.1
  generalize hH0 : s.heap = H at hX ⊢
  generalize ([] : List Loc) = locs at hX ⊢
  have hl : lv_has ls 9 [(0, .ref h), (1, .int x1)] := hl
  clear hH0
  have K_168 : ∀ (x2 : Int64) (x4 : Int32) (x5 : Int64) (x7 : Int32) (t0 : Int32) (no_ : Int32) (H : Heap) (locs : List Loc) (ls : Array Slot), (¬ (fm_isCode x1) = 0) → ((fm_isNone x1) = 0) → ((fm_isZero x1) = 0) → (¬ x1 = 120) → ((fm_isNegative x1) = 0) → fm_root mo no x1 = fm_root_b168 mo x4 x7 t0 no_ → g_At (wM h hs dA) D A s (mo, no_, st) H locs → lv_has ls 9 [(0, .ref h), (1, .int x1), (2, .long x2), (4, .int x4), (5, .long x5), (7, .int x7)] → W p l e (rmK 2) s m args below meth c H locs 0 0 (MQ below (va_Qi (pm_S (fm_root mo no x1) mo st) (g_B (wM h hs dA) [(dA, .int)] D A) A) args s 0 0 A) (F0 m 168 ls [.int t0]) := by
    intro x2 x4 x5 x7 t0 no_ H locs ls f168_0 f168_1 f168_2 f168_3 f168_4 hF hX hl
    have hF := hF.trans (fm_root_b168.eq_1 mo x4 x7 t0 no_)
    refine lv_istore (lv' := [(8, .int t0), (0, .ref h), (1, .int x1), (2, .long x2), (4, .int x4), (5, .long x5), (7, .int x7)]) hx hb dX1_root_168 hl (by decide) rfl (fun ls hl => ?_)
    refine lv_aload_n hx hb dX1_root_170 rfl (lv_at hl 1 rfl) ?_
    refine lv_iload hx hb dX1_root_171 (lv_at hl 4 rfl) ?_
    refine lv_iload hx hb dX1_root_173 (lv_at hl 6 rfl) ?_
    refine lv_iload hx hb dX1_root_175 (lv_at hl 0 rfl) ?_
    refine lv_iconst (v := 0) hx hb dX1_root_177 (by decide) ?_
    refine lv_iconst (v := 0) hx hb dX1_root_178 (by decide) ?_
    refine m_call (rest := []) F hX (cm_choose l D h hs dA mo no_ st x4 x7 t0 0 0) cq_m_choose rfl ⟨rfl, rfl⟩ (by decide) rfl hl.1 rfl (Nat.le_of_ble_eq_true rfl) dX1_root_179 (fun r u' H locs hq hX => ?_)
    obtain ⟨rfl, rfl⟩ := hq
    exact g_iret F hX (lm_S hF) dX1_root_182
  have K_104 : ∀ (x2 : Int64) (x4 : Int32) (no_ : Int32) (H : Heap) (locs : List Loc) (ls : Array Slot), (∃ k : Nat, k ≤ 119 ∧ x4 = nI k) → (¬ (fm_isCode x1) = 0) → ((fm_isNone x1) = 0) → ((fm_isZero x1) = 0) → (¬ x1 = 120) → ((fm_isNegative x1) = 0) → fm_root mo no x1 = fm_root_b104 mo x2 x4 no_ → g_At (wM h hs dA) D A s (mo, no_, st) H locs → lv_has ls 9 [(0, .ref h), (1, .int x1), (2, .long x2), (4, .int x4)] → W p l e (rmK 2) s m args below meth c H locs 0 0 (MQ below (va_Qi (pm_S (fm_root mo no x1) mo st) (g_B (wM h hs dA) [(dA, .int)] D A) A) args s 0 0 A) (F0 m 104 ls []) := by
    intro x2 x4 no_ H locs ls hk f104_0 f104_1 f104_2 f104_3 f104_4 hF hX hl
    have hF := hF.trans (fm_root_b104.eq_1 mo x2 x4 no_)
    refine lv_aload_n hx hb dX1_root_104 rfl (lv_at hl 0 rfl) ?_
    refine m_get F hX 0 (by decide) q190 rfl rfl dX1_root_105 ?_
    refine lv_iload hx hb dX1_root_108 (lv_at hl 3 rfl) ?_
    refine m_ald F hX (m_in0 hk) dX1_root_110 ?_
    refine lv_aload_n hx hb dX1_root_111 rfl (lv_at hl 0 rfl) ?_
    refine m_get F hX 0 (by decide) q190 rfl rfl dX1_root_112 ?_
    refine lv_iload hx hb dX1_root_115 (lv_at hl 3 rfl) ?_
    refine lv_iconst (v := 1) hx hb dX1_root_117 (by decide) ?_
    refine lv_iadd hx hb dX1_root_118 ?_
    refine m_ald F hX (m_in1 hk) dX1_root_119 ?_
    refine lv_iadd hx hb dX1_root_120 ?_
    refine lv_i2l (v := ((((szF (x4 : Int32).toNatClampNeg) + (szF ((x4 + 1) : Int32).toNatClampNeg)) : Int32).toInt64)) hx hb dX1_root_121 rfl ?_
    refine lv_lstore (lv' := [(5, .long ((((szF (x4 : Int32).toNatClampNeg) + (szF ((x4 + 1) : Int32).toNatClampNeg)) : Int32).toInt64)), (0, .ref h), (1, .int x1), (2, .long x2), (4, .int x4)]) hx hb dX1_root_122 hl (by decide) rfl (fun ls hl => ?_)
    refine lv_aload_n hx hb dX1_root_124 rfl (lv_at hl 1 rfl) ?_
    refine lv_ldc2 hx hb F.2.2.2.1 (F.2.2.2.2.1 _ q295) dX1_root_125 ?_
    refine lv_lload_n hx hb dX1_root_128 rfl (lv_at hl 3 rfl) ?_
    refine lv_lmul hx hb dX1_root_129 ?_
    refine lv_lload hx hb dX1_root_130 (lv_at hl 0 rfl) ?_
    refine lv_lload hx hb dX1_root_132 (lv_at hl 0 rfl) ?_
    refine lv_lmul hx hb dX1_root_134 ?_
    refine lv_lsub hx hb dX1_root_135 ?_
    refine m_callP (rest := []) F hX (cm_sign l D h hs dA mo no_ st ((4 * x2) - (((((szF (x4 : Int32).toNatClampNeg) + (szF ((x4 + 1) : Int32).toNatClampNeg)) : Int32).toInt64) * ((((szF (x4 : Int32).toNatClampNeg) + (szF ((x4 + 1) : Int32).toNatClampNeg)) : Int32).toInt64)))) cq_m_sign rfl ⟨rfl, rfl⟩ (by decide) rfl hl.1 rfl (Nat.le_of_ble_eq_true rfl) dX1_root_136 (fun H locs hX => ?_)
    refine lv_istore (lv' := [(7, .int (fm_sign ((4 * x2) - (((((szF (x4 : Int32).toNatClampNeg) + (szF ((x4 + 1) : Int32).toNatClampNeg)) : Int32).toInt64) * ((((szF (x4 : Int32).toNatClampNeg) + (szF ((x4 + 1) : Int32).toNatClampNeg)) : Int32).toInt64))))), (5, .long ((((szF (x4 : Int32).toNatClampNeg) + (szF ((x4 + 1) : Int32).toNatClampNeg)) : Int32).toInt64)), (0, .ref h), (1, .int x1), (2, .long x2), (4, .int x4)]) hx hb dX1_root_139 hl (by decide) rfl (fun ls hl => ?_)
    refine lv_aload_n hx hb dX1_root_141 rfl (lv_at hl 2 rfl) ?_
    refine m_get F hX 0 (by decide) q190 rfl rfl dX1_root_142 ?_
    refine lv_iload hx hb dX1_root_145 (lv_at hl 5 rfl) ?_
    refine m_ald F hX (m_in0 hk) dX1_root_147 ?_
    refine lv_i2l (v := (((szF (x4 : Int32).toNatClampNeg) : Int32).toInt64)) hx hb dX1_root_148 rfl ?_
    refine lv_aload_n hx hb dX1_root_149 rfl (lv_at hl 2 rfl) ?_
    refine m_get F hX 0 (by decide) q190 rfl rfl dX1_root_150 ?_
    refine lv_iload hx hb dX1_root_153 (lv_at hl 5 rfl) ?_
    refine m_ald F hX (m_in0 hk) dX1_root_155 ?_
    refine lv_i2l (v := (((szF (x4 : Int32).toNatClampNeg) : Int32).toInt64)) hx hb dX1_root_156 rfl ?_
    refine lv_lmul hx hb dX1_root_157 ?_
    refine lv_lload_n hx hb dX1_root_158 rfl (lv_at hl 4 rfl) ?_
    refine ll_ne (tgt := 167) hx hb dX1_root_159 dX1_root_160 (by decide) (fun c_159 => ?_) (fun c_159 => ?_)
    · have hF := hF.trans (if_neg c_159)
      refine lv_iconst (v := 0) hx hb dX1_root_167 (by decide) ?_
      exact K_168 x2 x4 ((((szF (x4 : Int32).toNatClampNeg) + (szF ((x4 + 1) : Int32).toNatClampNeg)) : Int32).toInt64) (fm_sign ((4 * x2) - (((((szF (x4 : Int32).toNatClampNeg) + (szF ((x4 + 1) : Int32).toNatClampNeg)) : Int32).toInt64) * ((((szF (x4 : Int32).toNatClampNeg) + (szF ((x4 + 1) : Int32).toNatClampNeg)) : Int32).toInt64)))) 0 no_ _ _ _ f104_0 f104_1 f104_2 f104_3 f104_4 hF hX (lv_sub hl [2, 3, 4, 5, 1, 0] rfl)
    · have hF := hF.trans (if_pos c_159)
      refine lv_iconst (v := 1) hx hb dX1_root_163 (by decide) ?_
      refine lv_goto (tgt := 168) hx hb dX1_root_164 (by decide) ?_
      exact K_168 x2 x4 ((((szF (x4 : Int32).toNatClampNeg) + (szF ((x4 + 1) : Int32).toNatClampNeg)) : Int32).toInt64) (fm_sign ((4 * x2) - (((((szF (x4 : Int32).toNatClampNeg) + (szF ((x4 + 1) : Int32).toNatClampNeg)) : Int32).toInt64) * ((((szF (x4 : Int32).toNatClampNeg) + (szF ((x4 + 1) : Int32).toNatClampNeg)) : Int32).toInt64)))) 1 no_ _ _ _ f104_0 f104_1 f104_2 f104_3 f104_4 hF hX (lv_sub hl [2, 3, 4, 5, 1, 0] rfl)
  have K_65 : ∀ (n : Nat) (x2 : Int64) (x4 : Int32) (no_ : Int32) (H : Heap) (locs : List Loc) (ls : Array Slot), (x4 = nI (120 - n) ∧ 1 ≤ n ∧ n ≤ 120) → (¬ (fm_isCode x1) = 0) → ((fm_isNone x1) = 0) → ((fm_isZero x1) = 0) → (¬ x1 = 120) → ((fm_isNegative x1) = 0) → fm_root mo no x1 = fm_root_b65 n mo x2 x4 no_ → g_At (wM h hs dA) D A s (mo, no_, st) H locs → lv_has ls 9 [(0, .ref h), (1, .int x1), (2, .long x2), (4, .int x4)] → W p l e (rmK 2) s m args below meth c H locs 0 0 (MQ below (va_Qi (pm_S (fm_root mo no x1) mo st) (g_B (wM h hs dA) [(dA, .int)] D A) A) args s 0 0 A) (F0 m 65 ls []) := by
    intro n
    induction n with
    | zero => intro x2 x4 no_ H locs ls hi; exact absurd hi (fun h => absurd h.2.1 (by decide))
    | succ n ih =>
      intro x2 x4 no_ H locs ls hi f65_0 f65_1 f65_2 f65_3 f65_4 hF hX hl
      have hF := hF.trans (fm_root_b65.eq_2 _ _ _ _ _)
      refine lv_iload hx hb dX1_root_65 (lv_at hl 3 rfl) ?_
      refine lv_bipush (v := 119) hx hb dX1_root_67 (by decide) ?_
      refine lv_icmp_ge (tgt := 104) hx hb dX1_root_69 (by decide) (fun c_69 => ?_) (fun c_69 => ?_)
      · have hF := hF.trans (if_pos c_69)
        exact K_104 x2 x4 no_ _ _ _ ⟨120 - (n + 1), by omega, hi.1⟩ f65_0 f65_1 f65_2 f65_3 f65_4 hF hX (lv_sub hl [0, 1, 2, 3] rfl)
      · have hF := hF.trans (if_neg c_69)
        refine lv_aload_n hx hb dX1_root_72 rfl (lv_at hl 0 rfl) ?_
        refine m_get F hX 0 (by decide) q190 rfl rfl dX1_root_73 ?_
        refine lv_iload hx hb dX1_root_76 (lv_at hl 3 rfl) ?_
        refine lv_iconst (v := 1) hx hb dX1_root_78 (by decide) ?_
        refine lv_iadd hx hb dX1_root_79 ?_
        refine m_ald F hX (m_inL hi (by decide) c_69) dX1_root_80 ?_
        refine lv_i2l (v := (((szF ((x4 + 1) : Int32).toNatClampNeg) : Int32).toInt64)) hx hb dX1_root_81 rfl ?_
        refine lv_aload_n hx hb dX1_root_82 rfl (lv_at hl 0 rfl) ?_
        refine m_get F hX 0 (by decide) q190 rfl rfl dX1_root_83 ?_
        refine lv_iload hx hb dX1_root_86 (lv_at hl 3 rfl) ?_
        refine lv_iconst (v := 1) hx hb dX1_root_88 (by decide) ?_
        refine lv_iadd hx hb dX1_root_89 ?_
        refine m_ald F hX (m_inL hi (by decide) c_69) dX1_root_90 ?_
        refine lv_i2l (v := (((szF ((x4 + 1) : Int32).toNatClampNeg) : Int32).toInt64)) hx hb dX1_root_91 rfl ?_
        refine lv_lmul hx hb dX1_root_92 ?_
        refine lv_lload_n hx hb dX1_root_93 rfl (lv_at hl 2 rfl) ?_
        refine ll_gt (tgt := 104) hx hb dX1_root_94 dX1_root_95 (by decide) (fun c_94 => ?_) (fun c_94 => ?_)
        · have hF := hF.trans (if_pos c_94)
          exact K_104 x2 x4 no_ _ _ _ ⟨120 - (n + 1), by omega, hi.1⟩ f65_0 f65_1 f65_2 f65_3 f65_4 hF hX (lv_sub hl [0, 1, 2, 3] rfl)
        · have hF := hF.trans (if_neg c_94)
          refine lv_iinc (v := (x4 + 1)) (lv' := [(4, .int (x4 + 1)), (0, .ref h), (1, .int x1), (2, .long x2)]) hx hb dX1_root_98 hl (k := 3) rfl rfl (by decide) rfl (fun ls hl => ?_)
          refine lv_goto (tgt := 65) hx hb dX1_root_101 (by decide) ?_
          exact ih x2 (x4 + 1) no_ _ _ _ (lp_up hi (by decide) (by decide) c_69) f65_0 f65_1 f65_2 f65_3 f65_4 hF hX (lv_sub hl [1, 2, 3, 0] rfl)
  have hF := fm_root.eq_1 mo no x1
  refine lv_aload_n hx hb dX1_root_0 rfl (lv_at hl 0 rfl) ?_
  refine lv_iload_n hx hb dX1_root_1 rfl (lv_at hl 1 rfl) ?_
  refine m_callP (rest := []) F hX (cm_isCode l D h hs dA mo no st x1) cq_m_isCode rfl ⟨rfl, rfl⟩ (by decide) rfl hl.1 rfl (Nat.le_of_ble_eq_true rfl) dX1_root_2 (fun H locs hX => ?_)
  refine lv_if_ne (tgt := 10) hx hb dX1_root_5 (by decide) (fun c_5 => ?_) (fun c_5 => ?_)
  · have hF := hF.trans (if_neg c_5)
    refine lv_aload_n hx hb dX1_root_10 rfl (lv_at hl 0 rfl) ?_
    refine lv_iload_n hx hb dX1_root_11 rfl (lv_at hl 1 rfl) ?_
    refine m_callP (rest := []) F hX (cm_isNone l D h hs dA mo no st x1) cq_m_isNone rfl ⟨rfl, rfl⟩ (by decide) rfl hl.1 rfl (Nat.le_of_ble_eq_true rfl) dX1_root_12 (fun H locs hX => ?_)
    refine lv_if_eq (tgt := 21) hx hb dX1_root_15 (by decide) (fun c_15 => ?_) (fun c_15 => ?_)
    · have hF := hF.trans (if_pos c_15)
      refine lv_aload_n hx hb dX1_root_21 rfl (lv_at hl 0 rfl) ?_
      refine lv_iload_n hx hb dX1_root_22 rfl (lv_at hl 1 rfl) ?_
      refine m_callP (rest := []) F hX (cm_isZero l D h hs dA mo no st x1) cq_m_isZero rfl ⟨rfl, rfl⟩ (by decide) rfl hl.1 rfl (Nat.le_of_ble_eq_true rfl) dX1_root_23 (fun H locs hX => ?_)
      refine lv_if_ne (tgt := 35) hx hb dX1_root_26 (by decide) (fun c_26 => ?_) (fun c_26 => ?_)
      · have hF := hF.trans (if_neg c_26)
        refine lv_iload_n hx hb dX1_root_35 rfl (lv_at hl 1 rfl) ?_
        exact g_iret F hX (lm_S hF) dX1_root_36
      · have hF := hF.trans (if_pos c_26)
        refine lv_iload_n hx hb dX1_root_29 rfl (lv_at hl 1 rfl) ?_
        refine lv_bipush (v := 120) hx hb dX1_root_30 (by decide) ?_
        refine lv_icmp_ne (tgt := 37) hx hb dX1_root_32 (by decide) (fun c_32 => ?_) (fun c_32 => ?_)
        · have hF := hF.trans (if_neg c_32)
          refine lv_aload_n hx hb dX1_root_37 rfl (lv_at hl 0 rfl) ?_
          refine lv_iload_n hx hb dX1_root_38 rfl (lv_at hl 1 rfl) ?_
          refine m_callP (rest := []) F hX (cm_isNegative l D h hs dA mo no st x1) cq_m_isNegative rfl ⟨rfl, rfl⟩ (by decide) rfl hl.1 rfl (Nat.le_of_ble_eq_true rfl) dX1_root_39 (fun H locs hX => ?_)
          refine lv_if_eq (tgt := 50) hx hb dX1_root_42 (by decide) (fun c_42 => ?_) (fun c_42 => ?_)
          · have hF := hF.trans (if_pos c_42)
            refine lv_ldc2 hx hb F.2.2.2.1 (F.2.2.2.2.1 _ q286) dX1_root_50 ?_
            refine lv_aload_n hx hb dX1_root_53 rfl (lv_at hl 0 rfl) ?_
            refine m_get F hX 0 (by decide) q190 rfl rfl dX1_root_54 ?_
            refine lv_iload_n hx hb dX1_root_57 rfl (lv_at hl 1 rfl) ?_
            refine m_ald F hX (m_inR (by assumption) (by assumption) (by assumption)) dX1_root_58 ?_
            refine lv_i2l (v := (((szF (x1 : Int32).toNatClampNeg) : Int32).toInt64)) hx hb dX1_root_59 rfl ?_
            refine lv_lmul hx hb dX1_root_60 ?_
            refine lv_lstore_n (lv' := [(2, .long (512 * (((szF (x1 : Int32).toNatClampNeg) : Int32).toInt64))), (0, .ref h), (1, .int x1)]) hx hb dX1_root_61 rfl hl (by decide) rfl (fun ls hl => ?_)
            refine lv_iconst (v := 0) hx hb dX1_root_62 (by decide) ?_
            refine lv_istore (lv' := [(4, .int 0), (2, .long (512 * (((szF (x1 : Int32).toNatClampNeg) : Int32).toInt64))), (0, .ref h), (1, .int x1)]) hx hb dX1_root_63 hl (by decide) rfl (fun ls hl => ?_)
            exact K_65 120 (512 * (((szF (x1 : Int32).toNatClampNeg) : Int32).toInt64)) 0 no _ _ _ ⟨by decide, by decide, by decide⟩ c_5 c_15 c_26 c_32 c_42 hF hX (lv_sub hl [2, 3, 1, 0] rfl)
          · have hF := hF.trans (if_neg c_42)
            refine lv_aload_n hx hb dX1_root_45 rfl (lv_at hl 0 rfl) ?_
            refine m_call (rest := []) F hX (cm_senseless l D h hs dA mo no st) cq_m_senseless rfl ⟨rfl, rfl⟩ (by decide) rfl hl.1 rfl (Nat.le_of_ble_eq_true rfl) dX1_root_46 (fun r u' H locs hq hX => ?_)
            obtain ⟨rfl, rfl⟩ := hq
            exact g_iret F hX (lm_S hF) dX1_root_49
        · have hF := hF.trans (if_pos c_32)
          refine lv_iload_n hx hb dX1_root_35 rfl (lv_at hl 1 rfl) ?_
          exact g_iret F hX (lm_S hF) dX1_root_36
    · have hF := hF.trans (if_neg c_15)
      refine lv_bipush (v := 124) hx hb dX1_root_18 (by decide) ?_
      exact g_iret F hX (lm_S hF) dX1_root_20
  · have hF := hF.trans (if_pos c_5)
    refine lv_iconst (v := (-1)) hx hb dX1_root_8 (by decide) ?_
    exact g_iret F hX (lm_S hF) dX1_root_9
def fm_together_b118 (x1 : Int32) (x2 : Int32) (x5 : Int32) (t0 : Int32) (no_ : Int32) : Int32 × Int32 :=
  (if (fm_isZero x1) = 0 then (if (fm_isZero x2) = 0 then (if t0 = 0 then (x5, no_) else ((fm_senseless no_).1, (fm_senseless no_).2)) else ((fm_senseless no_).1, (fm_senseless no_).2)) else ((fm_senseless no_).1, (fm_senseless no_).2))
def fm_together_b117 (x1 : Int32) (x2 : Int32) (x5 : Int32) (no_ : Int32) : Int32 × Int32 :=
  fm_together_b118 x1 x2 x5 0 no_
def fm_together_b89 (x1 : Int32) (x2 : Int32) (x3 : Int32) (x4 : Int32) (no_ : Int32) : Int32 × Int32 :=
  (if (fm_isInfinite x3) = 0 then fm_together_b117 x1 x2 (fm_signed 120 x4) no_ else (if x3 = (fm_signed 120 x4) then fm_together_b117 x1 x2 (fm_signed 120 x4) no_ else fm_together_b118 x1 x2 (fm_signed 120 x4) 1 no_))
def fm_together_b71 (mo : Int32) (x1 : Int32) (x2 : Int32) (x3 : Int32) (t0 : Int32) (no_ : Int32) : Int32 × Int32 :=
  (if (fm_isInfinite x1) = 0 then (if (fm_isInfinite x2) = 0 then (if (fm_isInfinite x3) = 0 then (if t0 = 0 then ((fm_finiteSum mo no_ ((((szF ((x1 - x1 / 128 * 128) : Int32).toNatClampNeg) : Int32).toInt64) * (((szF ((x2 - x2 / 128 * 128) : Int32).toNatClampNeg) : Int32).toInt64)) 512 t0 x3).1, (fm_finiteSum mo no_ ((((szF ((x1 - x1 / 128 * 128) : Int32).toNatClampNeg) : Int32).toInt64) * (((szF ((x2 - x2 / 128 * 128) : Int32).toNatClampNeg) : Int32).toInt64)) 512 t0 x3).2) else ((fm_finiteSum mo no_ (-((((szF ((x1 - x1 / 128 * 128) : Int32).toNatClampNeg) : Int32).toInt64) * (((szF ((x2 - x2 / 128 * 128) : Int32).toNatClampNeg) : Int32).toInt64))) 512 t0 x3).1, (fm_finiteSum mo no_ (-((((szF ((x1 - x1 / 128 * 128) : Int32).toNatClampNeg) : Int32).toInt64) * (((szF ((x2 - x2 / 128 * 128) : Int32).toNatClampNeg) : Int32).toInt64))) 512 t0 x3).2)) else (x3, no_)) else fm_together_b89 x1 x2 x3 t0 no_) else fm_together_b89 x1 x2 x3 t0 no_)
def fm_together (mo : Int32) (no : Int32) (x1 : Int32) (x2 : Int32) (x3 : Int32) : Int32 × Int32 :=
  (if (fm_isCode x1) = 0 then ((-1), no) else (if (fm_isCode x2) = 0 then ((-1), no) else (if (fm_isCode x3) = 0 then ((-1), no) else (if (fm_isNone x1) = 0 then (if (fm_isNone x2) = 0 then (if (fm_isNone x3) = 0 then (if (fm_isNegative x1) = (fm_isNegative x2) then fm_together_b71 mo x1 x2 x3 0 no else fm_together_b71 mo x1 x2 x3 1 no) else (124, no)) else (124, no)) else (124, no)))))
set_option maxHeartbeats 8000000 in
set_option maxRecDepth 100000 in
theorem cm_together (l : Launch) (D : va_G) (h hs : Nat) (dA : ClassId) (mo : Int32) (no : Int32) (st : Int32) (x1 : Int32) (x2 : Int32) (x3 : Int32)  : g_Met l yX1_together cX1_together 7 (some .int) (rmK 4) (wM h hs dA) [(dA, .int)] D (mo, no, st) [.ref h, .int x1, .int x2, .int x3] (pm_S (fm_together mo no x1 x2 x3) mo st) := by
  refine g_enter (by decide) (Nat.le_of_ble_eq_true rfl) (fun p e s m args below meth c A ls F hX hl => ?_)
  have hx := F.1
  have hb := F.2.1
  generalize hH0 : s.heap = H at hX ⊢
  generalize ([] : List Loc) = locs at hX ⊢
  have hl : lv_has ls 7 [(0, .ref h), (1, .int x1), (2, .int x2), (3, .int x3)] := hl
  clear hH0
  have K_118 : ∀ (x4 : Int32) (x5 : Int32) (t0 : Int32) (no_ : Int32) (H : Heap) (locs : List Loc) (ls : Array Slot), (¬ (fm_isCode x1) = 0) → (¬ (fm_isCode x2) = 0) → (¬ (fm_isCode x3) = 0) → ((fm_isNone x1) = 0) → ((fm_isNone x2) = 0) → ((fm_isNone x3) = 0) → fm_together mo no x1 x2 x3 = fm_together_b118 x1 x2 x5 t0 no_ → g_At (wM h hs dA) D A s (mo, no_, st) H locs → lv_has ls 7 [(0, .ref h), (1, .int x1), (2, .int x2), (3, .int x3), (4, .int x4), (5, .int x5)] → W p l e (rmK 4) s m args below meth c H locs 0 0 (MQ below (va_Qi (pm_S (fm_together mo no x1 x2 x3) mo st) (g_B (wM h hs dA) [(dA, .int)] D A) A) args s 0 0 A) (F0 m 118 ls [.int t0]) := by
    intro x4 x5 t0 no_ H locs ls f118_0 f118_1 f118_2 f118_3 f118_4 f118_5 hF hX hl
    have hF := hF.trans (fm_together_b118.eq_1 x1 x2 x5 t0 no_)
    refine lv_istore (lv' := [(6, .int t0), (0, .ref h), (1, .int x1), (2, .int x2), (3, .int x3), (4, .int x4), (5, .int x5)]) hx hb dX1_together_118 hl (by decide) rfl (fun ls hl => ?_)
    refine lv_aload_n hx hb dX1_together_120 rfl (lv_at hl 1 rfl) ?_
    refine lv_iload_n hx hb dX1_together_121 rfl (lv_at hl 2 rfl) ?_
    refine m_callP (rest := []) F hX (cm_isZero l D h hs dA mo no_ st x1) cq_m_isZero rfl ⟨rfl, rfl⟩ (by decide) rfl hl.1 rfl (Nat.le_of_ble_eq_true rfl) dX1_together_122 (fun H locs hX => ?_)
    refine lv_if_ne (tgt := 141) hx hb dX1_together_125 (by decide) (fun c_125 => ?_) (fun c_125 => ?_)
    · have hF := hF.trans (if_neg c_125)
      refine lv_aload_n hx hb dX1_together_141 rfl (lv_at hl 1 rfl) ?_
      refine m_call (rest := []) F hX (cm_senseless l D h hs dA mo no_ st) cq_m_senseless rfl ⟨rfl, rfl⟩ (by decide) rfl hl.1 rfl (Nat.le_of_ble_eq_true rfl) dX1_together_142 (fun r u' H locs hq hX => ?_)
      obtain ⟨rfl, rfl⟩ := hq
      refine lv_goto (tgt := 150) hx hb dX1_together_145 (by decide) ?_
      exact g_iret F hX (lm_S hF) dX1_together_150
    · have hF := hF.trans (if_pos c_125)
      refine lv_aload_n hx hb dX1_together_128 rfl (lv_at hl 1 rfl) ?_
      refine lv_iload_n hx hb dX1_together_129 rfl (lv_at hl 3 rfl) ?_
      refine m_callP (rest := []) F hX (cm_isZero l D h hs dA mo no_ st x2) cq_m_isZero rfl ⟨rfl, rfl⟩ (by decide) rfl hl.1 rfl (Nat.le_of_ble_eq_true rfl) dX1_together_130 (fun H locs hX => ?_)
      refine lv_if_ne (tgt := 141) hx hb dX1_together_133 (by decide) (fun c_133 => ?_) (fun c_133 => ?_)
      · have hF := hF.trans (if_neg c_133)
        refine lv_aload_n hx hb dX1_together_141 rfl (lv_at hl 1 rfl) ?_
        refine m_call (rest := []) F hX (cm_senseless l D h hs dA mo no_ st) cq_m_senseless rfl ⟨rfl, rfl⟩ (by decide) rfl hl.1 rfl (Nat.le_of_ble_eq_true rfl) dX1_together_142 (fun r u' H locs hq hX => ?_)
        obtain ⟨rfl, rfl⟩ := hq
        refine lv_goto (tgt := 150) hx hb dX1_together_145 (by decide) ?_
        exact g_iret F hX (lm_S hF) dX1_together_150
      · have hF := hF.trans (if_pos c_133)
        refine lv_iload hx hb dX1_together_136 (lv_at hl 0 rfl) ?_
        refine lv_if_eq (tgt := 148) hx hb dX1_together_138 (by decide) (fun c_138 => ?_) (fun c_138 => ?_)
        · have hF := hF.trans (if_pos c_138)
          refine lv_iload hx hb dX1_together_148 (lv_at hl 6 rfl) ?_
          exact g_iret F hX (lm_S hF) dX1_together_150
        · have hF := hF.trans (if_neg c_138)
          refine lv_aload_n hx hb dX1_together_141 rfl (lv_at hl 1 rfl) ?_
          refine m_call (rest := []) F hX (cm_senseless l D h hs dA mo no_ st) cq_m_senseless rfl ⟨rfl, rfl⟩ (by decide) rfl hl.1 rfl (Nat.le_of_ble_eq_true rfl) dX1_together_142 (fun r u' H locs hq hX => ?_)
          obtain ⟨rfl, rfl⟩ := hq
          refine lv_goto (tgt := 150) hx hb dX1_together_145 (by decide) ?_
          exact g_iret F hX (lm_S hF) dX1_together_150
  have K_117 : ∀ (x4 : Int32) (x5 : Int32) (no_ : Int32) (H : Heap) (locs : List Loc) (ls : Array Slot), (¬ (fm_isCode x1) = 0) → (¬ (fm_isCode x2) = 0) → (¬ (fm_isCode x3) = 0) → ((fm_isNone x1) = 0) → ((fm_isNone x2) = 0) → ((fm_isNone x3) = 0) → fm_together mo no x1 x2 x3 = fm_together_b117 x1 x2 x5 no_ → g_At (wM h hs dA) D A s (mo, no_, st) H locs → lv_has ls 7 [(0, .ref h), (1, .int x1), (2, .int x2), (3, .int x3), (4, .int x4), (5, .int x5)] → W p l e (rmK 4) s m args below meth c H locs 0 0 (MQ below (va_Qi (pm_S (fm_together mo no x1 x2 x3) mo st) (g_B (wM h hs dA) [(dA, .int)] D A) A) args s 0 0 A) (F0 m 117 ls []) := by
    intro x4 x5 no_ H locs ls f117_0 f117_1 f117_2 f117_3 f117_4 f117_5 hF hX hl
    have hF := hF.trans (fm_together_b117.eq_1 x1 x2 x5 no_)
    refine lv_iconst (v := 0) hx hb dX1_together_117 (by decide) ?_
    exact K_118 x4 x5 0 no_ _ _ _ f117_0 f117_1 f117_2 f117_3 f117_4 f117_5 hF hX (lv_sub hl [0, 1, 2, 3, 4, 5] rfl)
  have K_89 : ∀ (x4 : Int32) (no_ : Int32) (H : Heap) (locs : List Loc) (ls : Array Slot), (¬ (fm_isCode x1) = 0) → (¬ (fm_isCode x2) = 0) → (¬ (fm_isCode x3) = 0) → ((fm_isNone x1) = 0) → ((fm_isNone x2) = 0) → ((fm_isNone x3) = 0) → fm_together mo no x1 x2 x3 = fm_together_b89 x1 x2 x3 x4 no_ → g_At (wM h hs dA) D A s (mo, no_, st) H locs → lv_has ls 7 [(0, .ref h), (1, .int x1), (2, .int x2), (3, .int x3), (4, .int x4)] → W p l e (rmK 4) s m args below meth c H locs 0 0 (MQ below (va_Qi (pm_S (fm_together mo no x1 x2 x3) mo st) (g_B (wM h hs dA) [(dA, .int)] D A) A) args s 0 0 A) (F0 m 89 ls []) := by
    intro x4 no_ H locs ls f89_0 f89_1 f89_2 f89_3 f89_4 f89_5 hF hX hl
    have hF := hF.trans (fm_together_b89.eq_1 x1 x2 x3 x4 no_)
    refine lv_aload_n hx hb dX1_together_89 rfl (lv_at hl 0 rfl) ?_
    refine lv_bipush (v := 120) hx hb dX1_together_90 (by decide) ?_
    refine lv_iload hx hb dX1_together_92 (lv_at hl 4 rfl) ?_
    refine m_callP (rest := []) F hX (cm_signed l D h hs dA mo no_ st 120 x4) cq_m_signed rfl ⟨rfl, rfl⟩ (by decide) rfl hl.1 rfl (Nat.le_of_ble_eq_true rfl) dX1_together_94 (fun H locs hX => ?_)
    refine lv_istore (lv' := [(5, .int (fm_signed 120 x4)), (0, .ref h), (1, .int x1), (2, .int x2), (3, .int x3), (4, .int x4)]) hx hb dX1_together_97 hl (by decide) rfl (fun ls hl => ?_)
    refine lv_aload_n hx hb dX1_together_99 rfl (lv_at hl 1 rfl) ?_
    refine lv_iload_n hx hb dX1_together_100 rfl (lv_at hl 4 rfl) ?_
    refine m_callP (rest := []) F hX (cm_isInfinite l D h hs dA mo no_ st x3) cq_m_isInfinite rfl ⟨rfl, rfl⟩ (by decide) rfl hl.1 rfl (Nat.le_of_ble_eq_true rfl) dX1_together_101 (fun H locs hX => ?_)
    refine lv_if_eq (tgt := 117) hx hb dX1_together_104 (by decide) (fun c_104 => ?_) (fun c_104 => ?_)
    · have hF := hF.trans (if_pos c_104)
      exact K_117 x4 (fm_signed 120 x4) no_ _ _ _ f89_0 f89_1 f89_2 f89_3 f89_4 f89_5 hF hX (lv_sub hl [1, 2, 3, 4, 5, 0] rfl)
    · have hF := hF.trans (if_neg c_104)
      refine lv_iload_n hx hb dX1_together_107 rfl (lv_at hl 4 rfl) ?_
      refine lv_iload hx hb dX1_together_108 (lv_at hl 0 rfl) ?_
      refine lv_icmp_eq (tgt := 117) hx hb dX1_together_110 (by decide) (fun c_110 => ?_) (fun c_110 => ?_)
      · have hF := hF.trans (if_pos c_110)
        exact K_117 x4 (fm_signed 120 x4) no_ _ _ _ f89_0 f89_1 f89_2 f89_3 f89_4 f89_5 hF hX (lv_sub hl [1, 2, 3, 4, 5, 0] rfl)
      · have hF := hF.trans (if_neg c_110)
        refine lv_iconst (v := 1) hx hb dX1_together_113 (by decide) ?_
        refine lv_goto (tgt := 118) hx hb dX1_together_114 (by decide) ?_
        exact K_118 x4 (fm_signed 120 x4) 1 no_ _ _ _ f89_0 f89_1 f89_2 f89_3 f89_4 f89_5 hF hX (lv_sub hl [1, 2, 3, 4, 5, 0] rfl)
  have K_71 : ∀ (t0 : Int32) (no_ : Int32) (H : Heap) (locs : List Loc) (ls : Array Slot), (¬ (fm_isCode x1) = 0) → (¬ (fm_isCode x2) = 0) → (¬ (fm_isCode x3) = 0) → ((fm_isNone x1) = 0) → ((fm_isNone x2) = 0) → ((fm_isNone x3) = 0) → fm_together mo no x1 x2 x3 = fm_together_b71 mo x1 x2 x3 t0 no_ → g_At (wM h hs dA) D A s (mo, no_, st) H locs → lv_has ls 7 [(0, .ref h), (1, .int x1), (2, .int x2), (3, .int x3)] → W p l e (rmK 4) s m args below meth c H locs 0 0 (MQ below (va_Qi (pm_S (fm_together mo no x1 x2 x3) mo st) (g_B (wM h hs dA) [(dA, .int)] D A) A) args s 0 0 A) (F0 m 71 ls [.int t0]) := by
    intro t0 no_ H locs ls f71_0 f71_1 f71_2 f71_3 f71_4 f71_5 hF hX hl
    have hF := hF.trans (fm_together_b71.eq_1 mo x1 x2 x3 t0 no_)
    refine lv_istore (lv' := [(4, .int t0), (0, .ref h), (1, .int x1), (2, .int x2), (3, .int x3)]) hx hb dX1_together_71 hl (by decide) rfl (fun ls hl => ?_)
    refine lv_aload_n hx hb dX1_together_73 rfl (lv_at hl 1 rfl) ?_
    refine lv_iload_n hx hb dX1_together_74 rfl (lv_at hl 2 rfl) ?_
    refine m_callP (rest := []) F hX (cm_isInfinite l D h hs dA mo no_ st x1) cq_m_isInfinite rfl ⟨rfl, rfl⟩ (by decide) rfl hl.1 rfl (Nat.le_of_ble_eq_true rfl) dX1_together_75 (fun H locs hX => ?_)
    refine lv_if_ne (tgt := 89) hx hb dX1_together_78 (by decide) (fun c_78 => ?_) (fun c_78 => ?_)
    · have hF := hF.trans (if_neg c_78)
      exact K_89 t0 no_ _ _ _ f71_0 f71_1 f71_2 f71_3 f71_4 f71_5 hF hX (lv_sub hl [1, 2, 3, 4, 0] rfl)
    · have hF := hF.trans (if_pos c_78)
      refine lv_aload_n hx hb dX1_together_81 rfl (lv_at hl 1 rfl) ?_
      refine lv_iload_n hx hb dX1_together_82 rfl (lv_at hl 3 rfl) ?_
      refine m_callP (rest := []) F hX (cm_isInfinite l D h hs dA mo no_ st x2) cq_m_isInfinite rfl ⟨rfl, rfl⟩ (by decide) rfl hl.1 rfl (Nat.le_of_ble_eq_true rfl) dX1_together_83 (fun H locs hX => ?_)
      refine lv_if_eq (tgt := 151) hx hb dX1_together_86 (by decide) (fun c_86 => ?_) (fun c_86 => ?_)
      · have hF := hF.trans (if_pos c_86)
        refine lv_aload_n hx hb dX1_together_151 rfl (lv_at hl 1 rfl) ?_
        refine lv_iload_n hx hb dX1_together_152 rfl (lv_at hl 4 rfl) ?_
        refine m_callP (rest := []) F hX (cm_isInfinite l D h hs dA mo no_ st x3) cq_m_isInfinite rfl ⟨rfl, rfl⟩ (by decide) rfl hl.1 rfl (Nat.le_of_ble_eq_true rfl) dX1_together_153 (fun H locs hX => ?_)
        refine lv_if_eq (tgt := 161) hx hb dX1_together_156 (by decide) (fun c_156 => ?_) (fun c_156 => ?_)
        · have hF := hF.trans (if_pos c_156)
          refine lv_aload_n hx hb dX1_together_161 rfl (lv_at hl 1 rfl) ?_
          refine m_get F hX 0 (by decide) q190 rfl rfl dX1_together_162 ?_
          refine lv_iload_n hx hb dX1_together_165 rfl (lv_at hl 2 rfl) ?_
          refine lv_sipush (v := 128) hx hb dX1_together_166 (by decide) ?_
          refine lv_irem hx hb dX1_together_169 (by decide) ?_
          refine m_ald F hX (m_in (by assumption) (by assumption)) dX1_together_170 ?_
          refine lv_i2l (v := (((szF ((x1 - x1 / 128 * 128) : Int32).toNatClampNeg) : Int32).toInt64)) hx hb dX1_together_171 rfl ?_
          refine lv_aload_n hx hb dX1_together_172 rfl (lv_at hl 1 rfl) ?_
          refine m_get F hX 0 (by decide) q190 rfl rfl dX1_together_173 ?_
          refine lv_iload_n hx hb dX1_together_176 rfl (lv_at hl 3 rfl) ?_
          refine lv_sipush (v := 128) hx hb dX1_together_177 (by decide) ?_
          refine lv_irem hx hb dX1_together_180 (by decide) ?_
          refine m_ald F hX (m_in (by assumption) (by assumption)) dX1_together_181 ?_
          refine lv_i2l (v := (((szF ((x2 - x2 / 128 * 128) : Int32).toNatClampNeg) : Int32).toInt64)) hx hb dX1_together_182 rfl ?_
          refine lv_lmul hx hb dX1_together_183 ?_
          refine lv_lstore (lv' := [(5, .long ((((szF ((x1 - x1 / 128 * 128) : Int32).toNatClampNeg) : Int32).toInt64) * (((szF ((x2 - x2 / 128 * 128) : Int32).toNatClampNeg) : Int32).toInt64))), (4, .int t0), (0, .ref h), (1, .int x1), (2, .int x2), (3, .int x3)]) hx hb dX1_together_184 hl (by decide) rfl (fun ls hl => ?_)
          refine lv_aload_n hx hb dX1_together_186 rfl (lv_at hl 2 rfl) ?_
          refine lv_iload hx hb dX1_together_187 (lv_at hl 1 rfl) ?_
          refine lv_if_eq (tgt := 198) hx hb dX1_together_189 (by decide) (fun c_189 => ?_) (fun c_189 => ?_)
          · have hF := hF.trans (if_pos c_189)
            refine lv_lload hx hb dX1_together_198 (lv_at hl 0 rfl) ?_
            refine lv_ldc2 hx hb F.2.2.2.1 (F.2.2.2.2.1 _ q286) dX1_together_200 ?_
            refine lv_iload hx hb dX1_together_203 (lv_at hl 1 rfl) ?_
            refine lv_iload_n hx hb dX1_together_205 rfl (lv_at hl 5 rfl) ?_
            refine m_call (rest := []) F hX (cm_finiteSum l D h hs dA mo no_ st ((((szF ((x1 - x1 / 128 * 128) : Int32).toNatClampNeg) : Int32).toInt64) * (((szF ((x2 - x2 / 128 * 128) : Int32).toNatClampNeg) : Int32).toInt64)) 512 t0 x3 (m_in (by assumption) (by assumption))) cq_m_finiteSum rfl ⟨rfl, rfl⟩ (by decide) rfl hl.1 rfl (Nat.le_of_ble_eq_true rfl) dX1_together_206 (fun r u' H locs hq hX => ?_)
            obtain ⟨rfl, rfl⟩ := hq
            exact g_iret F hX (lm_S hF) dX1_together_209
          · have hF := hF.trans (if_neg c_189)
            refine lv_lload hx hb dX1_together_192 (lv_at hl 0 rfl) ?_
            refine lv_lneg hx hb dX1_together_194 ?_
            refine lv_goto (tgt := 200) hx hb dX1_together_195 (by decide) ?_
            refine lv_ldc2 hx hb F.2.2.2.1 (F.2.2.2.2.1 _ q286) dX1_together_200 ?_
            refine lv_iload hx hb dX1_together_203 (lv_at hl 1 rfl) ?_
            refine lv_iload_n hx hb dX1_together_205 rfl (lv_at hl 5 rfl) ?_
            refine m_call (rest := []) F hX (cm_finiteSum l D h hs dA mo no_ st (-((((szF ((x1 - x1 / 128 * 128) : Int32).toNatClampNeg) : Int32).toInt64) * (((szF ((x2 - x2 / 128 * 128) : Int32).toNatClampNeg) : Int32).toInt64))) 512 t0 x3 (m_in (by assumption) (by assumption))) cq_m_finiteSum rfl ⟨rfl, rfl⟩ (by decide) rfl hl.1 rfl (Nat.le_of_ble_eq_true rfl) dX1_together_206 (fun r u' H locs hq hX => ?_)
            obtain ⟨rfl, rfl⟩ := hq
            exact g_iret F hX (lm_S hF) dX1_together_209
        · have hF := hF.trans (if_neg c_156)
          refine lv_iload_n hx hb dX1_together_159 rfl (lv_at hl 4 rfl) ?_
          exact g_iret F hX (lm_S hF) dX1_together_160
      · have hF := hF.trans (if_neg c_86)
        exact K_89 t0 no_ _ _ _ f71_0 f71_1 f71_2 f71_3 f71_4 f71_5 hF hX (lv_sub hl [1, 2, 3, 4, 0] rfl)
  have hF := fm_together.eq_1 mo no x1 x2 x3
  refine lv_aload_n hx hb dX1_together_0 rfl (lv_at hl 0 rfl) ?_
  refine lv_iload_n hx hb dX1_together_1 rfl (lv_at hl 1 rfl) ?_
  refine m_callP (rest := []) F hX (cm_isCode l D h hs dA mo no st x1) cq_m_isCode rfl ⟨rfl, rfl⟩ (by decide) rfl hl.1 rfl (Nat.le_of_ble_eq_true rfl) dX1_together_2 (fun H locs hX => ?_)
  refine lv_if_eq (tgt := 24) hx hb dX1_together_5 (by decide) (fun c_5 => ?_) (fun c_5 => ?_)
  · have hF := hF.trans (if_pos c_5)
    refine lv_iconst (v := (-1)) hx hb dX1_together_24 (by decide) ?_
    exact g_iret F hX (lm_S hF) dX1_together_25
  · have hF := hF.trans (if_neg c_5)
    refine lv_aload_n hx hb dX1_together_8 rfl (lv_at hl 0 rfl) ?_
    refine lv_iload_n hx hb dX1_together_9 rfl (lv_at hl 2 rfl) ?_
    refine m_callP (rest := []) F hX (cm_isCode l D h hs dA mo no st x2) cq_m_isCode rfl ⟨rfl, rfl⟩ (by decide) rfl hl.1 rfl (Nat.le_of_ble_eq_true rfl) dX1_together_10 (fun H locs hX => ?_)
    refine lv_if_eq (tgt := 24) hx hb dX1_together_13 (by decide) (fun c_13 => ?_) (fun c_13 => ?_)
    · have hF := hF.trans (if_pos c_13)
      refine lv_iconst (v := (-1)) hx hb dX1_together_24 (by decide) ?_
      exact g_iret F hX (lm_S hF) dX1_together_25
    · have hF := hF.trans (if_neg c_13)
      refine lv_aload_n hx hb dX1_together_16 rfl (lv_at hl 0 rfl) ?_
      refine lv_iload_n hx hb dX1_together_17 rfl (lv_at hl 3 rfl) ?_
      refine m_callP (rest := []) F hX (cm_isCode l D h hs dA mo no st x3) cq_m_isCode rfl ⟨rfl, rfl⟩ (by decide) rfl hl.1 rfl (Nat.le_of_ble_eq_true rfl) dX1_together_18 (fun H locs hX => ?_)
      refine lv_if_ne (tgt := 26) hx hb dX1_together_21 (by decide) (fun c_21 => ?_) (fun c_21 => ?_)
      · have hF := hF.trans (if_neg c_21)
        refine lv_aload_n hx hb dX1_together_26 rfl (lv_at hl 0 rfl) ?_
        refine lv_iload_n hx hb dX1_together_27 rfl (lv_at hl 1 rfl) ?_
        refine m_callP (rest := []) F hX (cm_isNone l D h hs dA mo no st x1) cq_m_isNone rfl ⟨rfl, rfl⟩ (by decide) rfl hl.1 rfl (Nat.le_of_ble_eq_true rfl) dX1_together_28 (fun H locs hX => ?_)
        refine lv_if_ne (tgt := 50) hx hb dX1_together_31 (by decide) (fun c_31 => ?_) (fun c_31 => ?_)
        · have hF := hF.trans (if_neg c_31)
          refine lv_bipush (v := 124) hx hb dX1_together_50 (by decide) ?_
          exact g_iret F hX (lm_S hF) dX1_together_52
        · have hF := hF.trans (if_pos c_31)
          refine lv_aload_n hx hb dX1_together_34 rfl (lv_at hl 0 rfl) ?_
          refine lv_iload_n hx hb dX1_together_35 rfl (lv_at hl 2 rfl) ?_
          refine m_callP (rest := []) F hX (cm_isNone l D h hs dA mo no st x2) cq_m_isNone rfl ⟨rfl, rfl⟩ (by decide) rfl hl.1 rfl (Nat.le_of_ble_eq_true rfl) dX1_together_36 (fun H locs hX => ?_)
          refine lv_if_ne (tgt := 50) hx hb dX1_together_39 (by decide) (fun c_39 => ?_) (fun c_39 => ?_)
          · have hF := hF.trans (if_neg c_39)
            refine lv_bipush (v := 124) hx hb dX1_together_50 (by decide) ?_
            exact g_iret F hX (lm_S hF) dX1_together_52
          · have hF := hF.trans (if_pos c_39)
            refine lv_aload_n hx hb dX1_together_42 rfl (lv_at hl 0 rfl) ?_
            refine lv_iload_n hx hb dX1_together_43 rfl (lv_at hl 3 rfl) ?_
            refine m_callP (rest := []) F hX (cm_isNone l D h hs dA mo no st x3) cq_m_isNone rfl ⟨rfl, rfl⟩ (by decide) rfl hl.1 rfl (Nat.le_of_ble_eq_true rfl) dX1_together_44 (fun H locs hX => ?_)
            refine lv_if_eq (tgt := 53) hx hb dX1_together_47 (by decide) (fun c_47 => ?_) (fun c_47 => ?_)
            · have hF := hF.trans (if_pos c_47)
              refine lv_aload_n hx hb dX1_together_53 rfl (lv_at hl 0 rfl) ?_
              refine lv_iload_n hx hb dX1_together_54 rfl (lv_at hl 1 rfl) ?_
              refine m_callP (rest := []) F hX (cm_isNegative l D h hs dA mo no st x1) cq_m_isNegative rfl ⟨rfl, rfl⟩ (by decide) rfl hl.1 rfl (Nat.le_of_ble_eq_true rfl) dX1_together_55 (fun H locs hX => ?_)
              refine lv_aload_n hx hb dX1_together_58 rfl (lv_at hl 0 rfl) ?_
              refine lv_iload_n hx hb dX1_together_59 rfl (lv_at hl 2 rfl) ?_
              refine m_callP (rest := [.int (fm_isNegative x1)]) F hX (cm_isNegative l D h hs dA mo no st x2) cq_m_isNegative rfl ⟨rfl, rfl⟩ (by decide) rfl hl.1 rfl (Nat.le_of_ble_eq_true rfl) dX1_together_60 (fun H locs hX => ?_)
              refine lv_icmp_eq (tgt := 70) hx hb dX1_together_63 (by decide) (fun c_63 => ?_) (fun c_63 => ?_)
              · have hF := hF.trans (if_pos c_63)
                refine lv_iconst (v := 0) hx hb dX1_together_70 (by decide) ?_
                exact K_71 0 no _ _ _ c_5 c_13 c_21 c_31 c_39 c_47 hF hX (lv_sub hl [0, 1, 2, 3] rfl)
              · have hF := hF.trans (if_neg c_63)
                refine lv_iconst (v := 1) hx hb dX1_together_66 (by decide) ?_
                refine lv_goto (tgt := 71) hx hb dX1_together_67 (by decide) ?_
                exact K_71 1 no _ _ _ c_5 c_13 c_21 c_31 c_39 c_47 hF hX (lv_sub hl [0, 1, 2, 3] rfl)
            · have hF := hF.trans (if_neg c_47)
              refine lv_bipush (v := 124) hx hb dX1_together_50 (by decide) ?_
              exact g_iret F hX (lm_S hF) dX1_together_52
      · have hF := hF.trans (if_pos c_21)
        refine lv_iconst (v := (-1)) hx hb dX1_together_24 (by decide) ?_
        exact g_iret F hX (lm_S hF) dX1_together_25
def fm_compare (x1 : Int32) (x2 : Int32) : Int32 :=
  (if (fm_isCode x1) = 0 then (-1) else (if (fm_isCode x2) = 0 then (-1) else (if (fm_isNone x1) = 0 then (if (fm_isNone x2) = 0 then (fm_sign ((((fm_valueOf x1) - (fm_valueOf x2)) : Int32).toInt64)) else 2) else 2)))
set_option maxHeartbeats 8000000 in
set_option maxRecDepth 100000 in
theorem cm_compare (l : Launch) (D : va_G) (h hs : Nat) (dA : ClassId) (mo : Int32) (no : Int32) (st : Int32) (x1 : Int32) (x2 : Int32)  : g_Met l yX1_compare cX1_compare 3 (some .int) (rmK 2) (wM h hs dA) [(dA, .int)] D (mo, no, st) [.ref h, .int x1, .int x2] (p_P (fm_compare x1 x2) ((mo, no, st) : SM)) := by
  refine g_enter (by decide) (Nat.le_of_ble_eq_true rfl) (fun p e s m args below meth c A ls F hX hl => ?_)
  have hx := F.1
  have hb := F.2.1
  generalize hH0 : s.heap = H at hX ⊢
  generalize ([] : List Loc) = locs at hX ⊢
  have hl : lv_has ls 3 [(0, .ref h), (1, .int x1), (2, .int x2)] := hl
  clear hH0
  have hF := fm_compare.eq_1 x1 x2
  refine lv_aload_n hx hb dX1_compare_0 rfl (lv_at hl 0 rfl) ?_
  refine lv_iload_n hx hb dX1_compare_1 rfl (lv_at hl 1 rfl) ?_
  refine m_callP (rest := []) F hX (cm_isCode l D h hs dA mo no st x1) cq_m_isCode rfl ⟨rfl, rfl⟩ (by decide) rfl hl.1 rfl (Nat.le_of_ble_eq_true rfl) dX1_compare_2 (fun H locs hX => ?_)
  refine lv_if_eq (tgt := 16) hx hb dX1_compare_5 (by decide) (fun c_5 => ?_) (fun c_5 => ?_)
  · have hF := hF.trans (if_pos c_5)
    refine lv_iconst (v := (-1)) hx hb dX1_compare_16 (by decide) ?_
    exact g_iret F hX ⟨hF.symm, rfl⟩ dX1_compare_17
  · have hF := hF.trans (if_neg c_5)
    refine lv_aload_n hx hb dX1_compare_8 rfl (lv_at hl 0 rfl) ?_
    refine lv_iload_n hx hb dX1_compare_9 rfl (lv_at hl 2 rfl) ?_
    refine m_callP (rest := []) F hX (cm_isCode l D h hs dA mo no st x2) cq_m_isCode rfl ⟨rfl, rfl⟩ (by decide) rfl hl.1 rfl (Nat.le_of_ble_eq_true rfl) dX1_compare_10 (fun H locs hX => ?_)
    refine lv_if_ne (tgt := 18) hx hb dX1_compare_13 (by decide) (fun c_13 => ?_) (fun c_13 => ?_)
    · have hF := hF.trans (if_neg c_13)
      refine lv_aload_n hx hb dX1_compare_18 rfl (lv_at hl 0 rfl) ?_
      refine lv_iload_n hx hb dX1_compare_19 rfl (lv_at hl 1 rfl) ?_
      refine m_callP (rest := []) F hX (cm_isNone l D h hs dA mo no st x1) cq_m_isNone rfl ⟨rfl, rfl⟩ (by decide) rfl hl.1 rfl (Nat.le_of_ble_eq_true rfl) dX1_compare_20 (fun H locs hX => ?_)
      refine lv_if_ne (tgt := 34) hx hb dX1_compare_23 (by decide) (fun c_23 => ?_) (fun c_23 => ?_)
      · have hF := hF.trans (if_neg c_23)
        refine lv_iconst (v := 2) hx hb dX1_compare_34 (by decide) ?_
        exact g_iret F hX ⟨hF.symm, rfl⟩ dX1_compare_35
      · have hF := hF.trans (if_pos c_23)
        refine lv_aload_n hx hb dX1_compare_26 rfl (lv_at hl 0 rfl) ?_
        refine lv_iload_n hx hb dX1_compare_27 rfl (lv_at hl 2 rfl) ?_
        refine m_callP (rest := []) F hX (cm_isNone l D h hs dA mo no st x2) cq_m_isNone rfl ⟨rfl, rfl⟩ (by decide) rfl hl.1 rfl (Nat.le_of_ble_eq_true rfl) dX1_compare_28 (fun H locs hX => ?_)
        refine lv_if_eq (tgt := 36) hx hb dX1_compare_31 (by decide) (fun c_31 => ?_) (fun c_31 => ?_)
        · have hF := hF.trans (if_pos c_31)
          refine lv_aload_n hx hb dX1_compare_36 rfl (lv_at hl 0 rfl) ?_
          refine lv_aload_n hx hb dX1_compare_37 rfl (lv_at hl 0 rfl) ?_
          refine lv_iload_n hx hb dX1_compare_38 rfl (lv_at hl 1 rfl) ?_
          refine m_callP (rest := [.ref h]) F hX (cm_valueOf l D h hs dA mo no st x1 (m_in (by assumption) (by assumption))) cq_m_valueOf rfl ⟨rfl, rfl⟩ (by decide) rfl hl.1 rfl (Nat.le_of_ble_eq_true rfl) dX1_compare_39 (fun H locs hX => ?_)
          refine lv_aload_n hx hb dX1_compare_42 rfl (lv_at hl 0 rfl) ?_
          refine lv_iload_n hx hb dX1_compare_43 rfl (lv_at hl 2 rfl) ?_
          refine m_callP (rest := [.int (fm_valueOf x1), .ref h]) F hX (cm_valueOf l D h hs dA mo no st x2 (m_in (by assumption) (by assumption))) cq_m_valueOf rfl ⟨rfl, rfl⟩ (by decide) rfl hl.1 rfl (Nat.le_of_ble_eq_true rfl) dX1_compare_44 (fun H locs hX => ?_)
          refine lv_isub hx hb dX1_compare_47 ?_
          refine lv_i2l (v := ((((fm_valueOf x1) - (fm_valueOf x2)) : Int32).toInt64)) hx hb dX1_compare_48 rfl ?_
          refine m_callP (rest := []) F hX (cm_sign l D h hs dA mo no st ((((fm_valueOf x1) - (fm_valueOf x2)) : Int32).toInt64)) cq_m_sign rfl ⟨rfl, rfl⟩ (by decide) rfl hl.1 rfl (Nat.le_of_ble_eq_true rfl) dX1_compare_49 (fun H locs hX => ?_)
          exact g_iret F hX ⟨hF.symm, rfl⟩ dX1_compare_52
        · have hF := hF.trans (if_neg c_31)
          refine lv_iconst (v := 2) hx hb dX1_compare_34 (by decide) ?_
          exact g_iret F hX ⟨hF.symm, rfl⟩ dX1_compare_35
    · have hF := hF.trans (if_pos c_13)
      refine lv_iconst (v := (-1)) hx hb dX1_compare_16 (by decide) ?_
      exact g_iret F hX ⟨hF.symm, rfl⟩ dX1_compare_17
def fm_from_b26 (mo : Int32) (x1 : Int32) (t0 : Int64) (no_ : Int32) : Int32 × Int32 :=
  (if x1 = 0 then (0, no_) else (if (0 : Int32) ≤ x1 then ((fm_round mo no_ (512 * t0) 1 0).1, (fm_round mo no_ (512 * t0) 1 0).2) else ((fm_round mo no_ (512 * t0) 1 1).1, (fm_round mo no_ (512 * t0) 1 1).2)))
def fm_from (mo : Int32) (no : Int32) (x1 : Int32) : Int32 × Int32 :=
  (if x1 < (-1000000) then ((-1), no) else (if x1 ≤ 1000000 then (if (0 : Int32) ≤ x1 then fm_from_b26 mo x1 ((x1 : Int32).toInt64) no else fm_from_b26 mo x1 (((-x1) : Int32).toInt64) no) else ((-1), no)))
set_option maxHeartbeats 8000000 in
set_option maxRecDepth 100000 in
theorem cm_from (l : Launch) (D : va_G) (h hs : Nat) (dA : ClassId) (mo : Int32) (no : Int32) (st : Int32) (x1 : Int32)  : g_Met l yX1_from cX1_from 4 (some .int) (rmK 3) (wM h hs dA) [(dA, .int)] D (mo, no, st) [.ref h, .int x1] (pm_S (fm_from mo no x1) mo st) := by
  refine g_enter (by decide) (Nat.le_of_ble_eq_true rfl) (fun p e s m args below meth c A ls F hX hl => ?_)
  have hx := F.1
  have hb := F.2.1
  generalize hH0 : s.heap = H at hX ⊢
  generalize ([] : List Loc) = locs at hX ⊢
  have hl : lv_has ls 4 [(0, .ref h), (1, .int x1)] := hl
  clear hH0
  have K_26 : ∀ (t0 : Int64) (no_ : Int32) (H : Heap) (locs : List Loc) (ls : Array Slot), (¬ x1 < (-1000000)) → (x1 ≤ 1000000) → fm_from mo no x1 = fm_from_b26 mo x1 t0 no_ → g_At (wM h hs dA) D A s (mo, no_, st) H locs → lv_has ls 4 [(0, .ref h), (1, .int x1)] → W p l e (rmK 3) s m args below meth c H locs 0 0 (MQ below (va_Qi (pm_S (fm_from mo no x1) mo st) (g_B (wM h hs dA) [(dA, .int)] D A) A) args s 0 0 A) (F0 m 26 ls [.long t0]) := by
    intro t0 no_ H locs ls f26_0 f26_1 hF hX hl
    have hF := hF.trans (fm_from_b26.eq_1 mo x1 t0 no_)
    refine lv_lstore_n (lv' := [(2, .long t0), (0, .ref h), (1, .int x1)]) hx hb dX1_from_26 rfl hl (by decide) rfl (fun ls hl => ?_)
    refine lv_iload_n hx hb dX1_from_27 rfl (lv_at hl 2 rfl) ?_
    refine lv_if_ne (tgt := 35) hx hb dX1_from_28 (by decide) (fun c_28 => ?_) (fun c_28 => ?_)
    · have hF := hF.trans (if_neg c_28)
      refine lv_aload_n hx hb dX1_from_35 rfl (lv_at hl 1 rfl) ?_
      refine lv_ldc2 hx hb F.2.2.2.1 (F.2.2.2.2.1 _ q286) dX1_from_36 ?_
      refine lv_lload_n hx hb dX1_from_39 rfl (lv_at hl 0 rfl) ?_
      refine lv_lmul hx hb dX1_from_40 ?_
      refine lv_lconst (v := 1) hx hb dX1_from_41 (by decide) ?_
      refine lv_iload_n hx hb dX1_from_42 rfl (lv_at hl 2 rfl) ?_
      refine lv_if_ge (tgt := 50) hx hb dX1_from_43 (by decide) (fun c_43 => ?_) (fun c_43 => ?_)
      · have hF := hF.trans (if_pos c_43)
        refine lv_iconst (v := 0) hx hb dX1_from_50 (by decide) ?_
        refine m_call (rest := []) F hX (cm_round l D h hs dA mo no_ st (512 * t0) 1 0) cq_m_round rfl ⟨rfl, rfl⟩ (by decide) rfl hl.1 rfl (Nat.le_of_ble_eq_true rfl) dX1_from_51 (fun r u' H locs hq hX => ?_)
        obtain ⟨rfl, rfl⟩ := hq
        exact g_iret F hX (lm_S hF) dX1_from_54
      · have hF := hF.trans (if_neg c_43)
        refine lv_iconst (v := 1) hx hb dX1_from_46 (by decide) ?_
        refine lv_goto (tgt := 51) hx hb dX1_from_47 (by decide) ?_
        refine m_call (rest := []) F hX (cm_round l D h hs dA mo no_ st (512 * t0) 1 1) cq_m_round rfl ⟨rfl, rfl⟩ (by decide) rfl hl.1 rfl (Nat.le_of_ble_eq_true rfl) dX1_from_51 (fun r u' H locs hq hX => ?_)
        obtain ⟨rfl, rfl⟩ := hq
        exact g_iret F hX (lm_S hF) dX1_from_54
    · have hF := hF.trans (if_pos c_28)
      refine lv_iconst (v := 0) hx hb dX1_from_31 (by decide) ?_
      refine lv_goto (tgt := 54) hx hb dX1_from_32 (by decide) ?_
      exact g_iret F hX (lm_S hF) dX1_from_54
  have hF := fm_from.eq_1 mo no x1
  refine lv_iload_n hx hb dX1_from_0 rfl (lv_at hl 1 rfl) ?_
  refine lv_ldc hx hb F.2.2.2.1 (F.2.2.2.2.1 _ q308) dX1_from_1 ?_
  refine lv_icmp_lt (tgt := 12) hx hb dX1_from_3 (by decide) (fun c_3 => ?_) (fun c_3 => ?_)
  · have hF := hF.trans (if_pos c_3)
    refine lv_iconst (v := (-1)) hx hb dX1_from_12 (by decide) ?_
    exact g_iret F hX (lm_S hF) dX1_from_13
  · have hF := hF.trans (if_neg c_3)
    refine lv_iload_n hx hb dX1_from_6 rfl (lv_at hl 1 rfl) ?_
    refine lv_ldc hx hb F.2.2.2.1 (F.2.2.2.2.1 _ q309) dX1_from_7 ?_
    refine lv_icmp_le (tgt := 14) hx hb dX1_from_9 (by decide) (fun c_9 => ?_) (fun c_9 => ?_)
    · have hF := hF.trans (if_pos c_9)
      refine lv_iload_n hx hb dX1_from_14 rfl (lv_at hl 1 rfl) ?_
      refine lv_if_ge (tgt := 24) hx hb dX1_from_15 (by decide) (fun c_15 => ?_) (fun c_15 => ?_)
      · have hF := hF.trans (if_pos c_15)
        refine lv_iload_n hx hb dX1_from_24 rfl (lv_at hl 1 rfl) ?_
        refine lv_i2l (v := ((x1 : Int32).toInt64)) hx hb dX1_from_25 rfl ?_
        exact K_26 ((x1 : Int32).toInt64) no _ _ _ c_3 c_9 hF hX (lv_sub hl [0, 1] rfl)
      · have hF := hF.trans (if_neg c_15)
        refine lv_iload_n hx hb dX1_from_18 rfl (lv_at hl 1 rfl) ?_
        refine lv_ineg hx hb dX1_from_19 ?_
        refine lv_i2l (v := (((-x1) : Int32).toInt64)) hx hb dX1_from_20 rfl ?_
        refine lv_goto (tgt := 26) hx hb dX1_from_21 (by decide) ?_
        exact K_26 (((-x1) : Int32).toInt64) no _ _ _ c_3 c_9 hF hX (lv_sub hl [0, 1] rfl)
    · have hF := hF.trans (if_neg c_9)
      refine lv_iconst (v := (-1)) hx hb dX1_from_12 (by decide) ?_
      exact g_iret F hX (lm_S hF) dX1_from_13
def fm_whole_b144 (x1 : Int32) (t0 : Int32) : Int32 :=
  (if (fm_isNegative x1) = 0 then t0 else (-t0))
def fm_whole_b130 (x1 : Int32) (x3 : Int32) (t0 : Int32) : Int32 :=
  (if t0 = 0 then fm_whole_b144 x1 x3 else fm_whole_b144 x1 (x3 + 1))
def fm_whole_b129 (x1 : Int32) (x3 : Int32) : Int32 :=
  fm_whole_b130 x1 x3 0
def fm_whole (mo : Int32) (x1 : Int32) : Int32 :=
  (if (fm_isCode x1) = 0 then 9999 else (if (fm_isNone x1) = 0 then (if (fm_isInfinite x1) = 0 then (if mo = 0 then (if (256 : Int32) < ((szF ((x1 - x1 / 128 * 128) : Int32).toNatClampNeg) - (szF ((x1 - x1 / 128 * 128) : Int32).toNatClampNeg) / 512 * 512) then fm_whole_b130 x1 ((szF ((x1 - x1 / 128 * 128) : Int32).toNatClampNeg) / 512) 1 else (if ((szF ((x1 - x1 / 128 * 128) : Int32).toNatClampNeg) - (szF ((x1 - x1 / 128 * 128) : Int32).toNatClampNeg) / 512 * 512) = 256 then (if (((szF ((x1 - x1 / 128 * 128) : Int32).toNatClampNeg) / 512) - ((szF ((x1 - x1 / 128 * 128) : Int32).toNatClampNeg) / 512) / 2 * 2) = 1 then fm_whole_b130 x1 ((szF ((x1 - x1 / 128 * 128) : Int32).toNatClampNeg) / 512) 1 else fm_whole_b130 x1 ((szF ((x1 - x1 / 128 * 128) : Int32).toNatClampNeg) / 512) 0) else fm_whole_b130 x1 ((szF ((x1 - x1 / 128 * 128) : Int32).toNatClampNeg) / 512) 0)) else (if ((szF ((x1 - x1 / 128 * 128) : Int32).toNatClampNeg) - (szF ((x1 - x1 / 128 * 128) : Int32).toNatClampNeg) / 512 * 512) ≤ 0 then fm_whole_b129 x1 ((szF ((x1 - x1 / 128 * 128) : Int32).toNatClampNeg) / 512) else (if (fm_goesUp mo (fm_isNegative x1)) = 0 then fm_whole_b129 x1 ((szF ((x1 - x1 / 128 * 128) : Int32).toNatClampNeg) / 512) else fm_whole_b130 x1 ((szF ((x1 - x1 / 128 * 128) : Int32).toNatClampNeg) / 512) 1))) else (if (fm_isNegative x1) = 0 then 1000 else (-1000))) else 9999))
set_option maxHeartbeats 8000000 in
set_option maxRecDepth 100000 in
theorem cm_whole (l : Launch) (D : va_G) (h hs : Nat) (dA : ClassId) (mo : Int32) (no : Int32) (st : Int32) (x1 : Int32)  : g_Met l yX1_whole cX1_whole 7 (some .int) (rmK 1) (wM h hs dA) [(dA, .int)] D (mo, no, st) [.ref h, .int x1] (p_P (fm_whole mo x1) ((mo, no, st) : SM)) := by
  refine g_enter (by decide) (Nat.le_of_ble_eq_true rfl) (fun p e s m args below meth c A ls F hX hl => ?_)
  have hx := F.1
  have hb := F.2.1
  generalize hH0 : s.heap = H at hX ⊢
  generalize ([] : List Loc) = locs at hX ⊢
  have hl : lv_has ls 7 [(0, .ref h), (1, .int x1)] := hl
  clear hH0
  have K_144 : ∀ (x2 : Int32) (x3 : Int32) (x4 : Int32) (x5 : Int32) (t0 : Int32) (H : Heap) (locs : List Loc) (ls : Array Slot), (¬ (fm_isCode x1) = 0) → ((fm_isNone x1) = 0) → ((fm_isInfinite x1) = 0) → fm_whole mo x1 = fm_whole_b144 x1 t0 → g_At (wM h hs dA) D A s (mo, no, st) H locs → lv_has ls 7 [(0, .ref h), (1, .int x1), (2, .int x2), (3, .int x3), (4, .int x4), (5, .int x5)] → W p l e (rmK 1) s m args below meth c H locs 0 0 (MQ below (va_Qi (p_P (fm_whole mo x1) ((mo, no, st) : SM)) (g_B (wM h hs dA) [(dA, .int)] D A) A) args s 0 0 A) (F0 m 144 ls [.int t0]) := by
    intro x2 x3 x4 x5 t0 H locs ls f144_0 f144_1 f144_2 hF hX hl
    have hF := hF.trans (fm_whole_b144.eq_1 x1 t0)
    refine lv_istore (lv' := [(6, .int t0), (0, .ref h), (1, .int x1), (2, .int x2), (3, .int x3), (4, .int x4), (5, .int x5)]) hx hb dX1_whole_144 hl (by decide) rfl (fun ls hl => ?_)
    refine lv_aload_n hx hb dX1_whole_146 rfl (lv_at hl 1 rfl) ?_
    refine lv_iload_n hx hb dX1_whole_147 rfl (lv_at hl 2 rfl) ?_
    refine m_callP (rest := []) F hX (cm_isNegative l D h hs dA mo no st x1) cq_m_isNegative rfl ⟨rfl, rfl⟩ (by decide) rfl hl.1 rfl (Nat.le_of_ble_eq_true rfl) dX1_whole_148 (fun H locs hX => ?_)
    refine lv_if_eq (tgt := 160) hx hb dX1_whole_151 (by decide) (fun c_151 => ?_) (fun c_151 => ?_)
    · have hF := hF.trans (if_pos c_151)
      refine lv_iload hx hb dX1_whole_160 (lv_at hl 0 rfl) ?_
      exact g_iret F hX ⟨hF.symm, rfl⟩ dX1_whole_162
    · have hF := hF.trans (if_neg c_151)
      refine lv_iload hx hb dX1_whole_154 (lv_at hl 0 rfl) ?_
      refine lv_ineg hx hb dX1_whole_156 ?_
      refine lv_goto (tgt := 162) hx hb dX1_whole_157 (by decide) ?_
      exact g_iret F hX ⟨hF.symm, rfl⟩ dX1_whole_162
  have K_130 : ∀ (x2 : Int32) (x3 : Int32) (x4 : Int32) (t0 : Int32) (H : Heap) (locs : List Loc) (ls : Array Slot), (¬ (fm_isCode x1) = 0) → ((fm_isNone x1) = 0) → ((fm_isInfinite x1) = 0) → fm_whole mo x1 = fm_whole_b130 x1 x3 t0 → g_At (wM h hs dA) D A s (mo, no, st) H locs → lv_has ls 7 [(0, .ref h), (1, .int x1), (2, .int x2), (3, .int x3), (4, .int x4)] → W p l e (rmK 1) s m args below meth c H locs 0 0 (MQ below (va_Qi (p_P (fm_whole mo x1) ((mo, no, st) : SM)) (g_B (wM h hs dA) [(dA, .int)] D A) A) args s 0 0 A) (F0 m 130 ls [.int t0]) := by
    intro x2 x3 x4 t0 H locs ls f130_0 f130_1 f130_2 hF hX hl
    have hF := hF.trans (fm_whole_b130.eq_1 x1 x3 t0)
    refine lv_istore (lv' := [(5, .int t0), (0, .ref h), (1, .int x1), (2, .int x2), (3, .int x3), (4, .int x4)]) hx hb dX1_whole_130 hl (by decide) rfl (fun ls hl => ?_)
    refine lv_iload hx hb dX1_whole_132 (lv_at hl 0 rfl) ?_
    refine lv_if_eq (tgt := 143) hx hb dX1_whole_134 (by decide) (fun c_134 => ?_) (fun c_134 => ?_)
    · have hF := hF.trans (if_pos c_134)
      refine lv_iload_n hx hb dX1_whole_143 rfl (lv_at hl 4 rfl) ?_
      exact K_144 x2 x3 x4 t0 x3 _ _ _ f130_0 f130_1 f130_2 hF hX (lv_sub hl [1, 2, 3, 4, 5, 0] rfl)
    · have hF := hF.trans (if_neg c_134)
      refine lv_iload_n hx hb dX1_whole_137 rfl (lv_at hl 4 rfl) ?_
      refine lv_iconst (v := 1) hx hb dX1_whole_138 (by decide) ?_
      refine lv_iadd hx hb dX1_whole_139 ?_
      refine lv_goto (tgt := 144) hx hb dX1_whole_140 (by decide) ?_
      exact K_144 x2 x3 x4 t0 (x3 + 1) _ _ _ f130_0 f130_1 f130_2 hF hX (lv_sub hl [1, 2, 3, 4, 5, 0] rfl)
  have K_129 : ∀ (x2 : Int32) (x3 : Int32) (x4 : Int32) (H : Heap) (locs : List Loc) (ls : Array Slot), (¬ (fm_isCode x1) = 0) → ((fm_isNone x1) = 0) → ((fm_isInfinite x1) = 0) → fm_whole mo x1 = fm_whole_b129 x1 x3 → g_At (wM h hs dA) D A s (mo, no, st) H locs → lv_has ls 7 [(0, .ref h), (1, .int x1), (2, .int x2), (3, .int x3), (4, .int x4)] → W p l e (rmK 1) s m args below meth c H locs 0 0 (MQ below (va_Qi (p_P (fm_whole mo x1) ((mo, no, st) : SM)) (g_B (wM h hs dA) [(dA, .int)] D A) A) args s 0 0 A) (F0 m 129 ls []) := by
    intro x2 x3 x4 H locs ls f129_0 f129_1 f129_2 hF hX hl
    have hF := hF.trans (fm_whole_b129.eq_1 x1 x3)
    refine lv_iconst (v := 0) hx hb dX1_whole_129 (by decide) ?_
    exact K_130 x2 x3 x4 0 _ _ _ f129_0 f129_1 f129_2 hF hX (lv_sub hl [0, 1, 2, 3, 4] rfl)
  have hF := fm_whole.eq_1 mo x1
  refine lv_aload_n hx hb dX1_whole_0 rfl (lv_at hl 0 rfl) ?_
  refine lv_iload_n hx hb dX1_whole_1 rfl (lv_at hl 1 rfl) ?_
  refine m_callP (rest := []) F hX (cm_isCode l D h hs dA mo no st x1) cq_m_isCode rfl ⟨rfl, rfl⟩ (by decide) rfl hl.1 rfl (Nat.le_of_ble_eq_true rfl) dX1_whole_2 (fun H locs hX => ?_)
  refine lv_if_eq (tgt := 16) hx hb dX1_whole_5 (by decide) (fun c_5 => ?_) (fun c_5 => ?_)
  · have hF := hF.trans (if_pos c_5)
    refine lv_sipush (v := 9999) hx hb dX1_whole_16 (by decide) ?_
    exact g_iret F hX ⟨hF.symm, rfl⟩ dX1_whole_19
  · have hF := hF.trans (if_neg c_5)
    refine lv_aload_n hx hb dX1_whole_8 rfl (lv_at hl 0 rfl) ?_
    refine lv_iload_n hx hb dX1_whole_9 rfl (lv_at hl 1 rfl) ?_
    refine m_callP (rest := []) F hX (cm_isNone l D h hs dA mo no st x1) cq_m_isNone rfl ⟨rfl, rfl⟩ (by decide) rfl hl.1 rfl (Nat.le_of_ble_eq_true rfl) dX1_whole_10 (fun H locs hX => ?_)
    refine lv_if_eq (tgt := 20) hx hb dX1_whole_13 (by decide) (fun c_13 => ?_) (fun c_13 => ?_)
    · have hF := hF.trans (if_pos c_13)
      refine lv_aload_n hx hb dX1_whole_20 rfl (lv_at hl 0 rfl) ?_
      refine lv_iload_n hx hb dX1_whole_21 rfl (lv_at hl 1 rfl) ?_
      refine m_callP (rest := []) F hX (cm_isInfinite l D h hs dA mo no st x1) cq_m_isInfinite rfl ⟨rfl, rfl⟩ (by decide) rfl hl.1 rfl (Nat.le_of_ble_eq_true rfl) dX1_whole_22 (fun H locs hX => ?_)
      refine lv_if_eq (tgt := 46) hx hb dX1_whole_25 (by decide) (fun c_25 => ?_) (fun c_25 => ?_)
      · have hF := hF.trans (if_pos c_25)
        refine lv_aload_n hx hb dX1_whole_46 rfl (lv_at hl 0 rfl) ?_
        refine m_get F hX 0 (by decide) q190 rfl rfl dX1_whole_47 ?_
        refine lv_iload_n hx hb dX1_whole_50 rfl (lv_at hl 1 rfl) ?_
        refine lv_sipush (v := 128) hx hb dX1_whole_51 (by decide) ?_
        refine lv_irem hx hb dX1_whole_54 (by decide) ?_
        refine m_ald F hX (m_in (by assumption) (by assumption)) dX1_whole_55 ?_
        refine lv_istore_n (lv' := [(2, .int (szF ((x1 - x1 / 128 * 128) : Int32).toNatClampNeg)), (0, .ref h), (1, .int x1)]) hx hb dX1_whole_56 rfl hl (by decide) rfl (fun ls hl => ?_)
        refine lv_iload_n hx hb dX1_whole_57 rfl (lv_at hl 0 rfl) ?_
        refine lv_sipush (v := 512) hx hb dX1_whole_58 (by decide) ?_
        refine lv_idiv hx hb dX1_whole_61 (by decide) ?_
        refine lv_istore_n (lv' := [(3, .int ((szF ((x1 - x1 / 128 * 128) : Int32).toNatClampNeg) / 512)), (2, .int (szF ((x1 - x1 / 128 * 128) : Int32).toNatClampNeg)), (0, .ref h), (1, .int x1)]) hx hb dX1_whole_62 rfl hl (by decide) rfl (fun ls hl => ?_)
        refine lv_iload_n hx hb dX1_whole_63 rfl (lv_at hl 1 rfl) ?_
        refine lv_sipush (v := 512) hx hb dX1_whole_64 (by decide) ?_
        refine lv_irem hx hb dX1_whole_67 (by decide) ?_
        refine lv_istore (lv' := [(4, .int ((szF ((x1 - x1 / 128 * 128) : Int32).toNatClampNeg) - (szF ((x1 - x1 / 128 * 128) : Int32).toNatClampNeg) / 512 * 512)), (3, .int ((szF ((x1 - x1 / 128 * 128) : Int32).toNatClampNeg) / 512)), (2, .int (szF ((x1 - x1 / 128 * 128) : Int32).toNatClampNeg)), (0, .ref h), (1, .int x1)]) hx hb dX1_whole_68 hl (by decide) rfl (fun ls hl => ?_)
        refine lv_aload_n hx hb dX1_whole_70 rfl (lv_at hl 3 rfl) ?_
        refine m_get F hX 1 (by decide) q191 rfl rfl dX1_whole_71 ?_
        refine lv_if_ne (tgt := 108) hx hb dX1_whole_74 (by decide) (fun c_74 => ?_) (fun c_74 => ?_)
        · have hF := hF.trans (if_neg c_74)
          refine lv_iload hx hb dX1_whole_108 (lv_at hl 0 rfl) ?_
          refine lv_if_le (tgt := 129) hx hb dX1_whole_110 (by decide) (fun c_110 => ?_) (fun c_110 => ?_)
          · have hF := hF.trans (if_pos c_110)
            exact K_129 (szF ((x1 - x1 / 128 * 128) : Int32).toNatClampNeg) ((szF ((x1 - x1 / 128 * 128) : Int32).toNatClampNeg) / 512) ((szF ((x1 - x1 / 128 * 128) : Int32).toNatClampNeg) - (szF ((x1 - x1 / 128 * 128) : Int32).toNatClampNeg) / 512 * 512) _ _ _ c_5 c_13 c_25 hF hX (lv_sub hl [3, 4, 2, 1, 0] rfl)
          · have hF := hF.trans (if_neg c_110)
            refine lv_aload_n hx hb dX1_whole_113 rfl (lv_at hl 3 rfl) ?_
            refine lv_aload_n hx hb dX1_whole_114 rfl (lv_at hl 3 rfl) ?_
            refine lv_iload_n hx hb dX1_whole_115 rfl (lv_at hl 4 rfl) ?_
            refine m_callP (rest := [.ref h]) F hX (cm_isNegative l D h hs dA mo no st x1) cq_m_isNegative rfl ⟨rfl, rfl⟩ (by decide) rfl hl.1 rfl (Nat.le_of_ble_eq_true rfl) dX1_whole_116 (fun H locs hX => ?_)
            refine m_callP (rest := []) F hX (cm_goesUp l D h hs dA mo no st (fm_isNegative x1)) cq_m_goesUp rfl ⟨rfl, rfl⟩ (by decide) rfl hl.1 rfl (Nat.le_of_ble_eq_true rfl) dX1_whole_119 (fun H locs hX => ?_)
            refine lv_if_eq (tgt := 129) hx hb dX1_whole_122 (by decide) (fun c_122 => ?_) (fun c_122 => ?_)
            · have hF := hF.trans (if_pos c_122)
              exact K_129 (szF ((x1 - x1 / 128 * 128) : Int32).toNatClampNeg) ((szF ((x1 - x1 / 128 * 128) : Int32).toNatClampNeg) / 512) ((szF ((x1 - x1 / 128 * 128) : Int32).toNatClampNeg) - (szF ((x1 - x1 / 128 * 128) : Int32).toNatClampNeg) / 512 * 512) _ _ _ c_5 c_13 c_25 hF hX (lv_sub hl [3, 4, 2, 1, 0] rfl)
            · have hF := hF.trans (if_neg c_122)
              refine lv_iconst (v := 1) hx hb dX1_whole_125 (by decide) ?_
              refine lv_goto (tgt := 130) hx hb dX1_whole_126 (by decide) ?_
              exact K_130 (szF ((x1 - x1 / 128 * 128) : Int32).toNatClampNeg) ((szF ((x1 - x1 / 128 * 128) : Int32).toNatClampNeg) / 512) ((szF ((x1 - x1 / 128 * 128) : Int32).toNatClampNeg) - (szF ((x1 - x1 / 128 * 128) : Int32).toNatClampNeg) / 512 * 512) 1 _ _ _ c_5 c_13 c_25 hF hX (lv_sub hl [3, 4, 2, 1, 0] rfl)
        · have hF := hF.trans (if_pos c_74)
          refine lv_iload hx hb dX1_whole_77 (lv_at hl 0 rfl) ?_
          refine lv_sipush (v := 256) hx hb dX1_whole_79 (by decide) ?_
          refine lv_icmp_gt (tgt := 100) hx hb dX1_whole_82 (by decide) (fun c_82 => ?_) (fun c_82 => ?_)
          · have hF := hF.trans (if_pos c_82)
            refine lv_iconst (v := 1) hx hb dX1_whole_100 (by decide) ?_
            refine lv_goto (tgt := 130) hx hb dX1_whole_101 (by decide) ?_
            exact K_130 (szF ((x1 - x1 / 128 * 128) : Int32).toNatClampNeg) ((szF ((x1 - x1 / 128 * 128) : Int32).toNatClampNeg) / 512) ((szF ((x1 - x1 / 128 * 128) : Int32).toNatClampNeg) - (szF ((x1 - x1 / 128 * 128) : Int32).toNatClampNeg) / 512 * 512) 1 _ _ _ c_5 c_13 c_25 hF hX (lv_sub hl [3, 4, 2, 1, 0] rfl)
          · have hF := hF.trans (if_neg c_82)
            refine lv_iload hx hb dX1_whole_85 (lv_at hl 0 rfl) ?_
            refine lv_sipush (v := 256) hx hb dX1_whole_87 (by decide) ?_
            refine lv_icmp_ne (tgt := 104) hx hb dX1_whole_90 (by decide) (fun c_90 => ?_) (fun c_90 => ?_)
            · have hF := hF.trans (if_neg c_90)
              refine lv_iconst (v := 0) hx hb dX1_whole_104 (by decide) ?_
              refine lv_goto (tgt := 130) hx hb dX1_whole_105 (by decide) ?_
              exact K_130 (szF ((x1 - x1 / 128 * 128) : Int32).toNatClampNeg) ((szF ((x1 - x1 / 128 * 128) : Int32).toNatClampNeg) / 512) ((szF ((x1 - x1 / 128 * 128) : Int32).toNatClampNeg) - (szF ((x1 - x1 / 128 * 128) : Int32).toNatClampNeg) / 512 * 512) 0 _ _ _ c_5 c_13 c_25 hF hX (lv_sub hl [3, 4, 2, 1, 0] rfl)
            · have hF := hF.trans (if_pos c_90)
              refine lv_iload_n hx hb dX1_whole_93 rfl (lv_at hl 1 rfl) ?_
              refine lv_iconst (v := 2) hx hb dX1_whole_94 (by decide) ?_
              refine lv_irem hx hb dX1_whole_95 (by decide) ?_
              refine lv_iconst (v := 1) hx hb dX1_whole_96 (by decide) ?_
              refine lv_icmp_ne (tgt := 104) hx hb dX1_whole_97 (by decide) (fun c_97 => ?_) (fun c_97 => ?_)
              · have hF := hF.trans (if_neg c_97)
                refine lv_iconst (v := 0) hx hb dX1_whole_104 (by decide) ?_
                refine lv_goto (tgt := 130) hx hb dX1_whole_105 (by decide) ?_
                exact K_130 (szF ((x1 - x1 / 128 * 128) : Int32).toNatClampNeg) ((szF ((x1 - x1 / 128 * 128) : Int32).toNatClampNeg) / 512) ((szF ((x1 - x1 / 128 * 128) : Int32).toNatClampNeg) - (szF ((x1 - x1 / 128 * 128) : Int32).toNatClampNeg) / 512 * 512) 0 _ _ _ c_5 c_13 c_25 hF hX (lv_sub hl [3, 4, 2, 1, 0] rfl)
              · have hF := hF.trans (if_pos c_97)
                refine lv_iconst (v := 1) hx hb dX1_whole_100 (by decide) ?_
                refine lv_goto (tgt := 130) hx hb dX1_whole_101 (by decide) ?_
                exact K_130 (szF ((x1 - x1 / 128 * 128) : Int32).toNatClampNeg) ((szF ((x1 - x1 / 128 * 128) : Int32).toNatClampNeg) / 512) ((szF ((x1 - x1 / 128 * 128) : Int32).toNatClampNeg) - (szF ((x1 - x1 / 128 * 128) : Int32).toNatClampNeg) / 512 * 512) 1 _ _ _ c_5 c_13 c_25 hF hX (lv_sub hl [3, 4, 2, 1, 0] rfl)
      · have hF := hF.trans (if_neg c_25)
        refine lv_aload_n hx hb dX1_whole_28 rfl (lv_at hl 0 rfl) ?_
        refine lv_iload_n hx hb dX1_whole_29 rfl (lv_at hl 1 rfl) ?_
        refine m_callP (rest := []) F hX (cm_isNegative l D h hs dA mo no st x1) cq_m_isNegative rfl ⟨rfl, rfl⟩ (by decide) rfl hl.1 rfl (Nat.le_of_ble_eq_true rfl) dX1_whole_30 (fun H locs hX => ?_)
        refine lv_if_eq (tgt := 42) hx hb dX1_whole_33 (by decide) (fun c_33 => ?_) (fun c_33 => ?_)
        · have hF := hF.trans (if_pos c_33)
          refine lv_sipush (v := 1000) hx hb dX1_whole_42 (by decide) ?_
          exact g_iret F hX ⟨hF.symm, rfl⟩ dX1_whole_45
        · have hF := hF.trans (if_neg c_33)
          refine lv_sipush (v := (-1000)) hx hb dX1_whole_36 (by decide) ?_
          refine lv_goto (tgt := 45) hx hb dX1_whole_39 (by decide) ?_
          exact g_iret F hX ⟨hF.symm, rfl⟩ dX1_whole_45
    · have hF := hF.trans (if_neg c_13)
      refine lv_sipush (v := 9999) hx hb dX1_whole_16 (by decide) ?_
      exact g_iret F hX ⟨hF.symm, rfl⟩ dX1_whole_19
def fm_pile (mo : Int32) (no : Int32) (st : Int32) (x1 : Int32) : Int32 × Int32 × Int32 × Int32 :=
  (if (fm_isCode x1) = 0 then ((-1), mo, no, st) else ((fm_add mo no st x1).1, mo, (fm_add mo no st x1).2, (fm_add mo no st x1).1))
set_option maxHeartbeats 8000000 in
set_option maxRecDepth 100000 in
theorem cm_pile (l : Launch) (D : va_G) (h hs : Nat) (dA : ClassId) (mo : Int32) (no : Int32) (st : Int32) (x1 : Int32)  : g_Met l yX1_pile cX1_pile 2 (some .int) (rmK 5) (wM h hs dA) [(dA, .int)] D (mo, no, st) [.ref h, .int x1] (pm_T (fm_pile mo no st x1)) := by
  refine g_enter (by decide) (Nat.le_of_ble_eq_true rfl) (fun p e s m args below meth c A ls F hX hl => ?_)
  have hx := F.1
  have hb := F.2.1
  generalize hH0 : s.heap = H at hX ⊢
  generalize ([] : List Loc) = locs at hX ⊢
  have hl : lv_has ls 2 [(0, .ref h), (1, .int x1)] := hl
  clear hH0
  have hF := fm_pile.eq_1 mo no st x1
  refine lv_aload_n hx hb dX1_pile_0 rfl (lv_at hl 0 rfl) ?_
  refine lv_iload_n hx hb dX1_pile_1 rfl (lv_at hl 1 rfl) ?_
  refine m_callP (rest := []) F hX (cm_isCode l D h hs dA mo no st x1) cq_m_isCode rfl ⟨rfl, rfl⟩ (by decide) rfl hl.1 rfl (Nat.le_of_ble_eq_true rfl) dX1_pile_2 (fun H locs hX => ?_)
  refine lv_if_ne (tgt := 10) hx hb dX1_pile_5 (by decide) (fun c_5 => ?_) (fun c_5 => ?_)
  · have hF := hF.trans (if_neg c_5)
    refine lv_aload_n hx hb dX1_pile_10 rfl (lv_at hl 0 rfl) ?_
    refine lv_aload_n hx hb dX1_pile_11 rfl (lv_at hl 0 rfl) ?_
    refine lv_aload_n hx hb dX1_pile_12 rfl (lv_at hl 0 rfl) ?_
    refine m_get F hX 3 (by decide) q193 rfl rfl dX1_pile_13 ?_
    refine lv_iload_n hx hb dX1_pile_16 rfl (lv_at hl 1 rfl) ?_
    refine m_call (rest := [.ref h]) F hX (cm_add l D h hs dA mo no st st x1) cq_m_add rfl ⟨rfl, rfl⟩ (by decide) rfl hl.1 rfl (Nat.le_of_ble_eq_true rfl) dX1_pile_17 (fun r u' H locs hq hX => ?_)
    obtain ⟨rfl, rfl⟩ := hq
    refine m_put (u' := (mo, (fm_add mo no st x1).2, (fm_add mo no st x1).1)) F hX 3 (by decide) q193 rfl rfl (tyX1_ok 3 (by decide)) rfl rfl rfl dX1_pile_20 (fun H locs hX => ?_)
    refine lv_aload_n hx hb dX1_pile_23 rfl (lv_at hl 0 rfl) ?_
    refine m_get F hX 3 (by decide) q193 rfl rfl dX1_pile_24 ?_
    exact g_iret F hX (lm_T hF) dX1_pile_27
  · have hF := hF.trans (if_pos c_5)
    refine lv_iconst (v := (-1)) hx hb dX1_pile_8 (by decide) ?_
    exact g_iret F hX (lm_T hF) dX1_pile_9
def fm_pileProduct (mo : Int32) (no : Int32) (st : Int32) (x1 : Int32) (x2 : Int32) : Int32 × Int32 × Int32 × Int32 :=
  (if (fm_isCode x1) = 0 then ((-1), mo, no, st) else (if (fm_isCode x2) = 0 then ((-1), mo, no, st) else ((fm_together mo no x1 x2 st).1, mo, (fm_together mo no x1 x2 st).2, (fm_together mo no x1 x2 st).1)))
set_option maxHeartbeats 8000000 in
set_option maxRecDepth 100000 in
theorem cm_pileProduct (l : Launch) (D : va_G) (h hs : Nat) (dA : ClassId) (mo : Int32) (no : Int32) (st : Int32) (x1 : Int32) (x2 : Int32)  : g_Met l yX1_pileProduct cX1_pileProduct 3 (some .int) (rmK 5) (wM h hs dA) [(dA, .int)] D (mo, no, st) [.ref h, .int x1, .int x2] (pm_T (fm_pileProduct mo no st x1 x2)) := by
  refine g_enter (by decide) (Nat.le_of_ble_eq_true rfl) (fun p e s m args below meth c A ls F hX hl => ?_)
  have hx := F.1
  have hb := F.2.1
  generalize hH0 : s.heap = H at hX ⊢
  generalize ([] : List Loc) = locs at hX ⊢
  have hl : lv_has ls 3 [(0, .ref h), (1, .int x1), (2, .int x2)] := hl
  clear hH0
  have hF := fm_pileProduct.eq_1 mo no st x1 x2
  refine lv_aload_n hx hb dX1_pileProduct_0 rfl (lv_at hl 0 rfl) ?_
  refine lv_iload_n hx hb dX1_pileProduct_1 rfl (lv_at hl 1 rfl) ?_
  refine m_callP (rest := []) F hX (cm_isCode l D h hs dA mo no st x1) cq_m_isCode rfl ⟨rfl, rfl⟩ (by decide) rfl hl.1 rfl (Nat.le_of_ble_eq_true rfl) dX1_pileProduct_2 (fun H locs hX => ?_)
  refine lv_if_eq (tgt := 16) hx hb dX1_pileProduct_5 (by decide) (fun c_5 => ?_) (fun c_5 => ?_)
  · have hF := hF.trans (if_pos c_5)
    refine lv_iconst (v := (-1)) hx hb dX1_pileProduct_16 (by decide) ?_
    exact g_iret F hX (lm_T hF) dX1_pileProduct_17
  · have hF := hF.trans (if_neg c_5)
    refine lv_aload_n hx hb dX1_pileProduct_8 rfl (lv_at hl 0 rfl) ?_
    refine lv_iload_n hx hb dX1_pileProduct_9 rfl (lv_at hl 2 rfl) ?_
    refine m_callP (rest := []) F hX (cm_isCode l D h hs dA mo no st x2) cq_m_isCode rfl ⟨rfl, rfl⟩ (by decide) rfl hl.1 rfl (Nat.le_of_ble_eq_true rfl) dX1_pileProduct_10 (fun H locs hX => ?_)
    refine lv_if_ne (tgt := 18) hx hb dX1_pileProduct_13 (by decide) (fun c_13 => ?_) (fun c_13 => ?_)
    · have hF := hF.trans (if_neg c_13)
      refine lv_aload_n hx hb dX1_pileProduct_18 rfl (lv_at hl 0 rfl) ?_
      refine lv_aload_n hx hb dX1_pileProduct_19 rfl (lv_at hl 0 rfl) ?_
      refine lv_iload_n hx hb dX1_pileProduct_20 rfl (lv_at hl 1 rfl) ?_
      refine lv_iload_n hx hb dX1_pileProduct_21 rfl (lv_at hl 2 rfl) ?_
      refine lv_aload_n hx hb dX1_pileProduct_22 rfl (lv_at hl 0 rfl) ?_
      refine m_get F hX 3 (by decide) q193 rfl rfl dX1_pileProduct_23 ?_
      refine m_call (rest := [.ref h]) F hX (cm_together l D h hs dA mo no st x1 x2 st) cq_m_together rfl ⟨rfl, rfl⟩ (by decide) rfl hl.1 rfl (Nat.le_of_ble_eq_true rfl) dX1_pileProduct_26 (fun r u' H locs hq hX => ?_)
      obtain ⟨rfl, rfl⟩ := hq
      refine m_put (u' := (mo, (fm_together mo no x1 x2 st).2, (fm_together mo no x1 x2 st).1)) F hX 3 (by decide) q193 rfl rfl (tyX1_ok 3 (by decide)) rfl rfl rfl dX1_pileProduct_29 (fun H locs hX => ?_)
      refine lv_aload_n hx hb dX1_pileProduct_32 rfl (lv_at hl 0 rfl) ?_
      refine m_get F hX 3 (by decide) q193 rfl rfl dX1_pileProduct_33 ?_
      exact g_iret F hX (lm_T hF) dX1_pileProduct_36
    · have hF := hF.trans (if_pos c_13)
      refine lv_iconst (v := (-1)) hx hb dX1_pileProduct_16 (by decide) ?_
      exact g_iret F hX (lm_T hF) dX1_pileProduct_17
end
section
set_option maxRecDepth 100000
/-! the two constructors -/
set_option maxHeartbeats 4000000 in
theorem cx_init (l : Launch) (D : va_G) (h : Nat) (u : SX) : g_MetV l yX0_init cX0_init 1 (rmK 1) (wX h) [] D u [.ref h] (fun u' => u' = u) := by
  refine g_enterV (by decide) (Nat.le_of_ble_eq_true rfl) (fun p e s m args below meth c A ls F hX hl => ?_)
  have hx := F.1
  have hb := F.2.1
  have hml := F.2.2.1
  have hts := F.2.2.2.2.1
  have hl : lv_has ls 1 [(0, .ref h)] := hl
  refine lv_aload_n hx hb dX0_init_0 rfl (lv_at hl 0 rfl) ?_
  refine W.objInit hx hb F.2.2.2.1 (hts _ q37) (hts _ q38) (hts _ q39) rfl (by rw [hml]; exact hl.1) rfl dX0_init_1 (Nat.le_of_ble_eq_true rfl) (Nat.le_of_ble_eq_true rfl) ?_
  refine W.eq (g2 := F0 m 4 ls []) rfl ?_
  exact g_vret F hX rfl dX0_init_4
theorem ar_same {dA : ClassId} {f g : Nat → Int32} {n : Nat} (h : ∀ j, j < n → f j = g j) : vp_cell dA (n, .inl f) = vp_cell dA (n, .inl g) := by
  rw [vp_cell_i, vp_cell_i]
  unfold arrV
  congr 2
  funext j
  show Value.int (f j.val) = Value.int (g j.val)
  rw [h j.val j.isLt]
theorem sz_small {k : Nat} (h : k < 8) : nI k = szF k := by
  unfold szF szN
  rw [if_pos h]
theorem sz_calc : ∀ k, k < 121 → 8 ≤ k → ((8 : Int32) + (nI k - nI k / 8 * 8)) <<< ((nI k / 8 - 1) &&& 31) = szF k := by
  decide +kernel
/-- what the second class's object is at its constructor's start -/
abbrev wM0 (h : Nat) : va_W := [(h, .inr (1, [.null, .int 0, .int 0, .int 0]))]
set_option maxHeartbeats 4000000 in
theorem cm_init (l : Launch) (D : va_G) (h sz : Nat) : Met l yX1_init (ws_ yX1_init cX1_init 2 none) ({ frames := 1, cells := 1, slots := 121, locals := 40 }) (va_Pc [.ref h] (fun U => U.heap.size = sz ∧ va_P D vwCl (wM0 h) U.heap ∧ va_K D vwCl [] U ∧ va_D (fun _ => True) (wM0 h)))
    (va_Qv (fun _ : Nat × ClassId => True) (fun u t => va_P D vwCl (wM h u.1 u.2 (0, 0, 0)) t.heap ∧ va_K D vwCl [(u.2, .int)] t ∧ va_D (va_A (wM0 h) sz) (wM h u.1 u.2 (0, 0, 0))) (va_A (wM0 h) sz)) 1 121 (va_A (wM0 h) sz) := by
  refine Met.ofW (cc := cX1_init) (maxL := 2) (ret := none) (by decide) rfl ?_
  intro p e s m args below meth c s₁ B hml hv
  obtain ⟨rfl, hsz, hP, hK, hD0⟩ := hv
  subst hsz
  have hx := B.exec
  have hb := B.bytes
  have hr := B.returns
  have hts := atoms_spec (ws := ws_ yX1_init cX1_init 2 none) B.pre
  have hts : ∀ w ∈ lw_all, w.before _ s = true := fun w h => hts w (List.mem_cons_of_mem _ h)
  have hown : s.vm.findClass RX1 = some m.cls := findClass_of_methodNamed B.named
  have hlocks := B.notSynchronized
  have hin : meth.name = "<init>" := (name_of_methodNamed B.named B.method).1
  have hD := hD0.self (sz := s.heap.size)
  generalize hAe : va_A (wM0 h) s.heap.size = A at hD ⊢
  have hA : ∀ q : Nat, s.heap.size ≤ q → A q := fun q h => by rw [← hAe]; exact Or.inr h
  have hS : va_S A s.heap s.heap [] := va_S.rf
  have hl := lv_entry ([.ref h]) (n := 2) (Nat.le_of_ble_eq_true rfl)
  rw [lg_entry_eq]
  generalize (lg_sl ([.ref h]) ++ List.replicate (2 - (lg_sl ([.ref h])).length) Slot.unset).toArray = ls at hl ⊢
  have hl : lv_has ls 2 [(0, .ref h)] := hl
  have K : ∀ (hs : Nat) (dA : ClassId), va_K D vwCl [(dA, .int)] s → ∀ (n k : Nat) (f : Nat → Int32) (H : Heap) (locs : List Loc) (ls : Array Slot), k + n = 122 → 1 ≤ n → (∀ j, j < k → f j = szF j) → va_P D vwCl [(h, .inr (1, [.ref hs, .int 0, .int 0, .int 0])), (hs, .inl (dA, 121, .inl f))] H → va_D A [(h, .inr (1, [.ref hs, .int 0, .int 0, .int 0])), (hs, .inl (dA, 121, .inl f))] → va_S A s.heap H locs → lv_has ls 2 [(0, .ref h), (1, .int (nI k))] →
      W p l e (headSpec (ws_ yX1_init cX1_init 2 none) ({ frames := 1, cells := 1, slots := 121, locals := 40 })).room s m ([Value.ref h] : List Value).toArray below meth c H locs 1 121 (MQ below (va_Qv (fun _ : Nat × ClassId => True) (fun u t => va_P D vwCl (wM h u.1 u.2 (0, 0, 0)) t.heap ∧ va_K D vwCl [(u.2, .int)] t ∧ va_D A (wM h u.1 u.2 (0, 0, 0))) A) ([Value.ref h] : List Value).toArray s 1 121 A) (F0 m 14 ls []) := by
    intro hs dA hK n
    induction n with
    | zero => intro k f H locs ls h1 h2; exact absurd h2 (by decide)
    | succ n ih =>
      intro k f H locs ls hk h1 hf hP hD hS hl
      have J : ∀ (v : Int32) (ls : Array Slot), k < 121 → v = szF k → lv_has ls 2 [(0, .ref h), (1, .int (nI k))] → W p l e (headSpec (ws_ yX1_init cX1_init 2 none) ({ frames := 1, cells := 1, slots := 121, locals := 40 })).room s m ([Value.ref h] : List Value).toArray below meth c H locs 1 121 (MQ below (va_Qv (fun _ : Nat × ClassId => True) (fun u t => va_P D vwCl (wM h u.1 u.2 (0, 0, 0)) t.heap ∧ va_K D vwCl [(u.2, .int)] t ∧ va_D A (wM h u.1 u.2 (0, 0, 0))) A) ([Value.ref h] : List Value).toArray s 1 121 A) (F0 m 49 ls [.int v, .int (nI k), .ref hs]) := by
        intro v ls hlt hv hl
        refine va_iast hx hb hK hP hD hS 1 0 rfl rfl (vp_in_nI hlt (by decide)) dX1_init_49 (fun H locs hP hD hS => ?_)
        rw [nI_clamp (by omega)] at hP hD
        refine lv_iinc (v := nI (k + 1)) (lv' := [(1, .int (nI (k + 1))), (0, .ref h)]) hx hb dX1_init_50 hl (k := 1) rfl (nI_1 k) (by decide) rfl (fun ls hl => ?_)
        refine lv_goto (tgt := 14) hx hb dX1_init_53 (by decide) ?_
        refine ih (k + 1) (upd f k v) _ _ _ (by omega) (by omega) ?_ hP hD hS (lv_sub hl [1, 0] rfl)
        intro j hj
        by_cases hjk : j = k
        · subst hjk; rw [pk_us]; exact hv
        · rw [pk_un hjk]; exact hf j (by omega)
      refine lv_iload_n hx hb dX1_init_14 rfl (lv_at hl 1 rfl) ?_
      refine lv_bipush (v := 121) hx hb dX1_init_15 (by decide) ?_
      refine lv_icmp_ge (tgt := 56) hx hb dX1_init_17 (by decide) (fun c_17 => ?_) (fun c_17 => ?_)
      · have hk2 : k = 121 := by
          have q : ¬ k < 121 := fun q => nI_ge (b := 121) q (by decide) c_17
          omega
        subst hk2
        have hP9 : va_P D vwCl (wM h hs dA (0, 0, 0)) H := by
          intro i q hq
          match i, hq with
          | 0, hq => exact hP 0 q hq
          | 1, hq =>
            cases hq
            have e1 : H[hs]? = some (vp_cell dA (121, .inl f)) := hP 1 _ rfl
            rw [ar_same hf] at e1
            exact e1
          | i + 2, hq => cases hq
        have hD9 : va_D A (wM h hs dA (0, 0, 0)) := hD.set (p := 1) (a := hs) (e := .inl (dA, 121, .inl szF)) rfl
        exact W.vret hx hb hr (fun t ht hW => ⟨⟨(hs, dA), rfl, trivial, by rw [ht]; exact hP9, va_K.moved hW.alike hK, hD9⟩, hS.F ht⟩) hS.2.2 dX1_init_56
      · have hk2 : k < 121 := Classical.byContradiction fun q => c_17 (nI_le (a := 121) (by omega) (by omega))
        refine lv_aload_n hx hb dX1_init_20 rfl (lv_at hl 0 rfl) ?_
        refine va_get (D := D) (ci := 1) (v := .ref hs) (C := RX1) (T := TX1) (N := 4) hx hb hts in_X1 hown hK hP 0 rfl rfl 0 (by decide) (hts _ q190) (fun _ h9 => h9) rfl dX1_init_21 ?_
        refine lv_iload_n hx hb dX1_init_24 rfl (lv_at hl 1 rfl) ?_
        refine lv_iload_n hx hb dX1_init_25 rfl (lv_at hl 1 rfl) ?_
        refine lv_bipush (v := 8) hx hb dX1_init_26 (by decide) ?_
        refine lv_icmp_ge (tgt := 35) hx hb dX1_init_28 (by decide) (fun c_28 => ?_) (fun c_28 => ?_)
        · have h8 : 8 ≤ k := Classical.byContradiction fun q => nI_ge (b := 8) (by omega) (by decide) c_28
          refine lv_bipush (v := 8) hx hb dX1_init_35 (by decide) ?_
          refine lv_iload_n hx hb dX1_init_37 rfl (lv_at hl 1 rfl) ?_
          refine lv_bipush (v := 8) hx hb dX1_init_38 (by decide) ?_
          refine lv_irem hx hb dX1_init_40 (by decide) ?_
          refine lv_iadd hx hb dX1_init_41 ?_
          refine lv_iload_n hx hb dX1_init_42 rfl (lv_at hl 1 rfl) ?_
          refine lv_bipush (v := 8) hx hb dX1_init_43 (by decide) ?_
          refine lv_idiv hx hb dX1_init_45 (by decide) ?_
          refine lv_iconst (v := 1) hx hb dX1_init_46 (by decide) ?_
          refine lv_isub hx hb dX1_init_47 ?_
          refine lv_ishl hx hb dX1_init_48 ?_
          exact J _ _ hk2 (sz_calc k hk2 h8) hl
        · have h8 : k < 8 := Classical.byContradiction fun q => c_28 (nI_le (a := 8) (by omega) (by omega))
          refine lv_iload_n hx hb dX1_init_31 rfl (lv_at hl 1 rfl) ?_
          refine lv_goto (tgt := 49) hx hb dX1_init_32 (by decide) ?_
          exact J _ _ hk2 (sz_small h8) hl
  refine lv_aload_n hx hb dX1_init_0 rfl (lv_at hl 0 rfl) ?_
  refine W.objInit hx hb hown (hts _ q189) (hts _ q38) (hts _ q39) rfl (by rw [hml]; exact hl.1) rfl dX1_init_1 (Nat.le_of_ble_eq_true rfl) (Nat.le_of_ble_eq_true rfl) ?_
  refine W.eq (g2 := F0 m 4 ls []) rfl ?_
  refine lv_aload_n hx hb dX1_init_4 rfl (lv_at hl 0 rfl) ?_
  refine lv_bipush (v := 121) hx hb dX1_init_5 (by decide) ?_
  refine va_newa (atype := .int) (N' := 121) (a0 := (121, .inl (fun _ => 0))) (ty := .int) hx hb (hts _ q203) rfl hK hP hD hS hA (fun cA => rfl) (by decide) (by decide) (by decide) (Nat.le_of_ble_eq_true rfl) (Nat.le_of_ble_eq_true rfl) dX1_init_7 (fun hs dA H hK hP hD hS => ?_)
  have hK : va_K D vwCl [(dA, .int)] s := hK
  refine va_putF (D := D) (ci := 1) (v := .ref hs) (ty := .array .int) (C := RX1) (T := TX1) (N := 4) hx hb hts in_X1 tyX1 tyX1_ok nmX1 hown hK hP hD hS 0 rfl rfl 0 (by decide) (hts _ q190) (fun _ h9 => h9) rfl hin rfl (tyX1_ok 0 (by decide)) rfl rfl (Nat.le_of_ble_eq_true rfl) dX1_init_9 (fun H locs hP hD hS => ?_)
  refine lv_iconst (v := 0) hx hb dX1_init_12 (by decide) ?_
  refine lv_istore_n (lv' := [(1, .int 0), (0, .ref h)]) hx hb dX1_init_13 rfl hl (by decide) rfl (fun ls hl => ?_)
  exact K hs dA hK 122 0 (fun _ => 0) _ _ _ rfl (by decide) (fun j hj => absurd hj (Nat.not_lt_zero j)) hP hD hS (lv_sub hl [1, 0] rfl)
end
section
set_option maxRecDepth 100000
theorem nx_and (a b : Nat) : nI a &&& nI b = nI (a &&& b) := by
  apply Int32.toBitVec_inj.1
  show BitVec.ofNat 32 a &&& BitVec.ofNat 32 b = BitVec.ofNat 32 (a &&& b)
  apply BitVec.eq_of_getLsbD_eq
  intro i hi
  simp [hi]
theorem nx_xor (a b : Nat) : nI a ^^^ nI b = nI (a ^^^ b) := by
  apply Int32.toBitVec_inj.1
  show BitVec.ofNat 32 a ^^^ BitVec.ofNat 32 b = BitVec.ofNat 32 (a ^^^ b)
  apply BitVec.eq_of_getLsbD_eq
  intro i hi
  simp [hi]
theorem wb_tb (n : Nat) : (lN n).toBitVec = BitVec.ofNat 64 n := rfl
theorem wb_inj {a b : Int64} (h : a.toBitVec = b.toBitVec) : a = b := Int64.toBitVec_inj.mp h
theorem wb_tn {n : Nat} (h : n < 2 ^ 64) : (lN n).toBitVec.toNat = n := by rw [wb_tb, BitVec.toNat_ofNat, Nat.mod_eq_of_lt h]
theorem wb_of (x : Int64) : ∃ n, n < 2 ^ 64 ∧ x = lN n := ⟨x.toBitVec.toNat, x.toBitVec.isLt, wb_inj (by rw [wb_tb]; simp)⟩
theorem wb_of32 (x : Int32) : ∃ n, n < 2 ^ 32 ∧ x = nI n := ⟨x.toBitVec.toNat, x.toBitVec.isLt, Int32.toBitVec_inj.mp (by show _ = BitVec.ofNat 32 _; simp)⟩
theorem wb_c : ∀ k, k < 64 → ((nI k).toInt64 &&& 63) = lN k := by decide +kernel
theorem wb_cu : ∀ k, k < 64 → ((nI k).toInt64.toUInt64 &&& Int64.toUInt64 63) = UInt64.ofNat k := by decide +kernel
theorem wb_sm : ∀ k, k < 64 → (BitVec.ofNat 64 k).smod 64 = BitVec.ofNat 64 k := by decide +kernel
theorem wb_pw {a b : Nat} (h : a ≤ b) : 2 ^ b = 2 ^ a * 2 ^ (b - a) := by rw [← Nat.pow_add]; congr 1; omega
theorem wb_lt2 {a b : Nat} (h : a < b) : 2 ^ a < 2 ^ b := Nat.pow_lt_pow_right (by decide) h
theorem wb_mod (n : Nat) : lN n = lN (n % 2 ^ 64) := wb_inj (by rw [wb_tb, wb_tb]; apply BitVec.eq_of_toNat_eq; rw [BitVec.toNat_ofNat, BitVec.toNat_ofNat, Nat.mod_mod])
theorem wb_shr {n k : Nat} (hn : n < 2 ^ 64) (hk : k < 64) : ((lN n).toUInt64 >>> ((nI k).toInt64.toUInt64 &&& Int64.toUInt64 63)).toInt64 = lN (n / 2 ^ k) := by
  rw [wb_cu k hk]
  apply wb_inj
  apply BitVec.eq_of_toNat_eq
  show ((lN n).toUInt64 >>> UInt64.ofNat k).toNat = (BitVec.ofNat 64 _).toNat
  have h1 : (UInt64.ofNat k).toNat = k := by
    show (BitVec.ofNat 64 k).toNat = k
    rw [BitVec.toNat_ofNat, Nat.mod_eq_of_lt (by omega)]
  have h2 : (lN n).toUInt64.toNat = n := wb_tn hn
  rw [UInt64.toNat_shiftRight, h1, h2, Nat.mod_eq_of_lt hk, Nat.shiftRight_eq_div_pow, BitVec.toNat_ofNat, Nat.mod_eq_of_lt (Nat.lt_of_le_of_lt (Nat.div_le_self _ _) hn)]
theorem wb_shl (n : Nat) {k : Nat} (hk : k < 64) : lN n <<< ((nI k).toInt64 &&& 63) = lN (n * 2 ^ k) := by
  rw [wb_c k hk]
  apply wb_inj
  rw [Int64.toBitVec_shiftLeft, wb_tb, wb_tb, wb_tb, wb_sm k hk]
  apply BitVec.eq_of_toNat_eq
  rw [BitVec.shiftLeft_eq', BitVec.toNat_shiftLeft, BitVec.toNat_ofNat, BitVec.toNat_ofNat, BitVec.toNat_ofNat, Nat.mod_eq_of_lt (show k < 2 ^ 64 by omega), Nat.shiftLeft_eq, Nat.mul_mod, Nat.mod_mod, ← Nat.mul_mod]
theorem wb_and {a b : Nat} (ha : a < 2 ^ 64) (hb : b < 2 ^ 64) : lN a &&& lN b = lN (a &&& b) := by
  apply wb_inj
  rw [Int64.toBitVec_and, wb_tb, wb_tb, wb_tb]
  apply BitVec.eq_of_toNat_eq
  rw [BitVec.toNat_and, BitVec.toNat_ofNat, BitVec.toNat_ofNat, BitVec.toNat_ofNat, Nat.mod_eq_of_lt ha, Nat.mod_eq_of_lt hb, Nat.mod_eq_of_lt (Nat.and_lt_two_pow _ hb)]
theorem wb_or {a b : Nat} (ha : a < 2 ^ 64) (hb : b < 2 ^ 64) : lN a ||| lN b = lN (a ||| b) := by
  apply wb_inj
  rw [Int64.toBitVec_or, wb_tb, wb_tb, wb_tb]
  apply BitVec.eq_of_toNat_eq
  rw [BitVec.toNat_or, BitVec.toNat_ofNat, BitVec.toNat_ofNat, BitVec.toNat_ofNat, Nat.mod_eq_of_lt ha, Nat.mod_eq_of_lt hb, Nat.mod_eq_of_lt (Nat.or_lt_two_pow ha hb)]
theorem wb_mask {n k : Nat} (hn : n < 2 ^ 64) (hk : k < 64) : lN n &&& lN (2 ^ k - 1) = lN (n % 2 ^ k) := by
  rw [wb_and hn (by have := wb_lt2 hk; omega), Nat.and_two_pow_sub_one_eq_mod]
theorem wb_a1 {n : Nat} (hn : n < 2 ^ 64) : lN n &&& 1 = lN (n % 2) := wb_mask (k := 1) hn (by decide)
theorem wb_bit {n k : Nat} (hn : n < 2 ^ 64) (hk : k < 64) : ((lN n).toUInt64 >>> ((nI k).toInt64.toUInt64 &&& Int64.toUInt64 63)).toInt64 &&& 1 = lN (n / 2 ^ k % 2) := by
  rw [wb_shr hn hk, wb_a1 (Nat.lt_of_le_of_lt (Nat.div_le_self _ _) hn)]
end
section
set_option maxRecDepth 100000
/-! the plain part, first: what is done behind the loops of both roundings, by a finite look -/
def okM (mo : Int32) : Prop := mo = 0 ∨ mo = 1 ∨ mo = 2 ∨ mo = 3
def okS (st : Int32) : Prop := ∃ k : Nat, k < 256 ∧ st = nI k
def bI (b : Bool) : Int32 := if b = true then 1 else 0
theorem or_a (n : Int32) : n ||| 0 = n := by simp
theorem or_b (n a b : Int32) : (n ||| a) ||| b = n ||| (a ||| b) := Int32.or_assoc n a b
theorem okM_n {mo : Int32} (h : okM mo) : ∃ k : Nat, k < 4 ∧ mo = nI k := by
  rcases h with rfl | rfl | rfl | rfl
  · exact ⟨0, by decide, rfl⟩
  · exact ⟨1, by decide, rfl⟩
  · exact ⟨2, by decide, rfl⟩
  · exact ⟨3, by decide, rfl⟩
theorem fx_pack_no (mo no x1 : Int32) (x2 : Int64) (x4 : Int32) : fx_pack mo no x1 x2 x4 = ((fx_pack mo 0 x1 x2 x4).1, no ||| (fx_pack mo 0 x1 x2 x4).2) := by
  simp only [fx_pack, fx_pack_b80, fx_pack_b81, fx_pack_b73, fx_pack_b64]
  repeat' split
  all_goals simp [or_b]
theorem fx_b169_no (mo no x1 : Int32) (x6 : Int64) (x8 : Int32) : fx_round_b169 mo x1 x6 x8 no = ((fx_round_b169 mo x1 x6 x8 0).1, no ||| (fx_round_b169 mo x1 x6 x8 0).2) := by
  simp only [fx_round_b169]
  split
  · rw [fx_pack_no mo no]
  · rw [fx_pack_no mo no]
theorem fx_b145_no (mo no x1 : Int32) (x6 : Int64) (x8 x9 x10 : Int32) : fx_round_b145 mo x1 x6 x8 x9 x10 no = ((fx_round_b145 mo x1 x6 x8 x9 x10 0).1, no ||| (fx_round_b145 mo x1 x6 x8 x9 x10 0).2) := by
  simp only [fx_round_b145]
  split
  · rw [fx_b169_no mo no]
  · rw [fx_b169_no mo no]
theorem fx_b125_no (mo no x1 : Int32) (x6 : Int64) (x8 x9 x10 : Int32) : fx_round_b125 mo x1 x6 x8 x9 x10 no = ((fx_round_b125 mo x1 x6 x8 x9 x10 0).1, no ||| (fx_round_b125 mo x1 x6 x8 x9 x10 0).2) := by
  simp only [fx_round_b125, fx_round_b135]
  repeat' split
  · rw [fx_b145_no mo no]
  · rw [fx_b145_no mo (no ||| 1), fx_b145_no mo (0 ||| 1)]
    simp [or_b]
  · rw [fx_b145_no mo (no ||| 1), fx_b145_no mo (0 ||| 1)]
    simp [or_b]
theorem fm_b77_no (no x4 x5 x7 : Int32) : fm_choose_b77 x4 x5 x7 no = ((fm_choose_b77 x4 x5 x7 0).1, no ||| (fm_choose_b77 x4 x5 x7 0).2) := by
  simp only [fm_choose_b77, fm_choose_b89]
  repeat' split
  all_goals simp
theorem fm_b54_no (no x3 x4 x5 t0 : Int32) : fm_choose_b54 x3 x4 x5 t0 no = ((fm_choose_b54 x3 x4 x5 t0 0).1, no ||| (fm_choose_b54 x3 x4 x5 t0 0).2) := by
  simp only [fm_choose_b54, fm_choose_b67]
  repeat' split
  · rw [fm_b77_no (no ||| 1), fm_b77_no (0 ||| 1)]
    simp [or_b]
  · rw [fm_b77_no (no ||| 1), fm_b77_no (0 ||| 1)]
    simp [or_b]
  · rw [fm_b77_no no]
theorem fm_b36_no (no x1 x3 x4 x5 t0 : Int32) : fm_choose_b36 x1 x3 x4 x5 t0 no = ((fm_choose_b36 x1 x3 x4 x5 t0 0).1, no ||| (fm_choose_b36 x1 x3 x4 x5 t0 0).2) := by
  simp only [fm_choose_b36, fm_choose_b53]
  repeat' split
  all_goals rw [fm_b54_no no]
theorem fm_choose_no (mo no x1 x2 x3 x4 x5 : Int32) : fm_choose mo no x1 x2 x3 x4 x5 = ((fm_choose mo 0 x1 x2 x3 x4 x5).1, no ||| (fm_choose mo 0 x1 x2 x3 x4 x5).2) := by
  simp only [fm_choose]
  repeat' split
  all_goals rw [fm_b36_no no]
/-- the code of kept times 2 to the power -/
def cN (kept power : Nat) : Nat := if kept < 8 then kept else 8 * power + kept
def moreI (half rest : Bool) : Int32 := if half = true then (if rest = true then 1 else 0) else (-1)
def exactI (half rest : Bool) : Int32 := if half = true then 0 else (if rest = true then 0 else 1)
def peI (a b : Int32 × Int32) : Bool := decide (a.1 = b.1) && decide (a.2 = b.2)
theorem peI_eq {a b : Int32 × Int32} (h : peI a b = true) : a = b := by
  unfold peI at h
  rw [Bool.and_eq_true, decide_eq_true_eq, decide_eq_true_eq] at h
  exact Prod.ext h.1 h.2
theorem all_at {p : Nat → Bool} {n : Nat} (h : (List.range n).all p = true) {k : Nat} (hk : k < n) : p k = true := List.all_eq_true.mp h k (List.mem_range.mpr hk)
set_option maxHeartbeats 4000000 in
theorem fin_in1 : ((List.range 32).all fun t => (List.range 16).all fun kept => (List.range 14).all fun power => (decide (kept < 8) && decide (0 < power)) ||
    peI (fx_round_b125 (nI (t / 8)) (nI (t / 4 % 2)) (lN kept) (nI power) (nI (t / 2 % 2)) (nI (t % 2)) 0) (fm_choose (nI (t / 8)) 0 (nI (cN kept power)) (moreI (t / 2 % 2 == 1) (t % 2 == 1)) (exactI (t / 2 % 2 == 1) (t % 2 == 1)) 0 (nI (t / 4 % 2)))) = true := by
  decide +kernel
set_option maxHeartbeats 4000000 in
theorem fin_out1 : ((List.range 32).all fun t => (List.range 8).all fun kept => (List.range 46).all fun power =>
    peI (fx_round_b125 (nI (t / 8)) (nI (t / 4 % 2)) (lN (kept + 8)) (nI (power + 14)) (nI (t / 2 % 2)) (nI (t % 2)) 0) (fm_choose (nI (t / 8)) 0 119 1 0 1 (nI (t / 4 % 2)))) = true := by
  decide +kernel
theorem fin_in0 (t : Nat) (ht : t < 32) (kept : Nat) (hk : kept < 16) (power : Nat) (hp : power < 14) (h8 : 8 ≤ kept ∨ power = 0) :
    fx_round_b125 (nI (t / 8)) (nI (t / 4 % 2)) (lN kept) (nI power) (nI (t / 2 % 2)) (nI (t % 2)) 0 = fm_choose (nI (t / 8)) 0 (nI (cN kept power)) (moreI (t / 2 % 2 == 1) (t % 2 == 1)) (exactI (t / 2 % 2 == 1) (t % 2 == 1)) 0 (nI (t / 4 % 2)) := by
  have h := all_at (all_at (all_at fin_in1 ht) hk) hp
  rw [Bool.or_eq_true, Bool.and_eq_true, decide_eq_true_eq, decide_eq_true_eq] at h
  rcases h with h | h
  · omega
  · exact peI_eq h
theorem fin_out0 (t : Nat) (ht : t < 32) (kept : Nat) (hk : kept < 16) (power : Nat) (hp : power < 60) (h8 : 8 ≤ kept) (h14 : 14 ≤ power) :
    fx_round_b125 (nI (t / 8)) (nI (t / 4 % 2)) (lN kept) (nI power) (nI (t / 2 % 2)) (nI (t % 2)) 0 = fm_choose (nI (t / 8)) 0 119 1 0 1 (nI (t / 4 % 2)) := by
  have h := all_at (all_at (all_at fin_out1 ht) (k := kept - 8) (by omega)) (k := power - 14) (by omega)
  rw [show kept - 8 + 8 = kept by omega, show power - 14 + 14 = power by omega] at h
  exact peI_eq h
theorem fin_t {mo s h r : Nat} (hs : s < 2) (hh : h < 2) (hr : r < 2) : (mo * 8 + s * 4 + h * 2 + r) / 8 = mo ∧ (mo * 8 + s * 4 + h * 2 + r) / 4 % 2 = s ∧ (mo * 8 + s * 4 + h * 2 + r) / 2 % 2 = h ∧ (mo * 8 + s * 4 + h * 2 + r) % 2 = r := by
  omega
theorem fin_in (mo : Nat) (hm : mo < 4) (s : Nat) (hs : s < 2) (h : Nat) (hh : h < 2) (r : Nat) (hr : r < 2) (kept : Nat) (hk : kept < 16) (power : Nat) (hp : power < 14) (h8 : 8 ≤ kept ∨ power = 0) :
    fx_round_b125 (nI mo) (nI s) (lN kept) (nI power) (nI h) (nI r) 0 = fm_choose (nI mo) 0 (nI (cN kept power)) (moreI (h == 1) (r == 1)) (exactI (h == 1) (r == 1)) 0 (nI s) := by
  obtain ⟨e1, e2, e3, e4⟩ := fin_t (mo := mo) hs hh hr
  have q := fin_in0 (mo * 8 + s * 4 + h * 2 + r) (by omega) kept hk power hp h8
  rw [e1, e2, e3, e4] at q
  exact q
theorem fin_out (mo : Nat) (hm : mo < 4) (s : Nat) (hs : s < 2) (h : Nat) (hh : h < 2) (r : Nat) (hr : r < 2) (kept : Nat) (hk : kept < 16) (power : Nat) (hp : power < 60) (h8 : 8 ≤ kept) (h14 : 14 ≤ power) :
    fx_round_b125 (nI mo) (nI s) (lN kept) (nI power) (nI h) (nI r) 0 = fm_choose (nI mo) 0 119 1 0 1 (nI s) := by
  obtain ⟨e1, e2, e3, e4⟩ := fin_t (mo := mo) hs hh hr
  have q := fin_out0 (mo * 8 + s * 4 + h * 2 + r) (by omega) kept hk power hp h8 h14
  rw [e1, e2, e3, e4] at q
  exact q
theorem fin_In {mo no : Int32} (hm : okM mo) {s : Nat} (hs : s < 2) (half rest : Bool) {kept power : Nat} (hk : kept < 16) (hp : power < 14) (h8 : 8 ≤ kept ∨ power = 0) :
    fx_round_b125 mo (nI s) (lN kept) (nI power) (bI half) (bI rest) no = fm_choose mo no (nI (cN kept power)) (moreI half rest) (exactI half rest) 0 (nI s) := by
  obtain ⟨k, hk4, rfl⟩ := okM_n hm
  rw [fx_b125_no, fm_choose_no]
  cases half <;> cases rest
  · rw [show bI false = nI 0 from rfl, fin_in k hk4 s hs 0 (by decide) 0 (by decide) kept hk power hp h8]; rfl
  · rw [show bI false = nI 0 from rfl, show bI true = nI 1 from rfl, fin_in k hk4 s hs 0 (by decide) 1 (by decide) kept hk power hp h8]; rfl
  · rw [show bI false = nI 0 from rfl, show bI true = nI 1 from rfl, fin_in k hk4 s hs 1 (by decide) 0 (by decide) kept hk power hp h8]; rfl
  · rw [show bI true = nI 1 from rfl, fin_in k hk4 s hs 1 (by decide) 1 (by decide) kept hk power hp h8]; rfl
theorem fin_Out {mo no : Int32} (hm : okM mo) {s : Nat} (hs : s < 2) (half rest : Bool) {kept power : Nat} (hk : kept < 16) (hp : power < 60) (h8 : 8 ≤ kept) (h14 : 14 ≤ power) :
    fx_round_b125 mo (nI s) (lN kept) (nI power) (bI half) (bI rest) no = fm_choose mo no 119 1 0 1 (nI s) := by
  obtain ⟨k, hk4, rfl⟩ := okM_n hm
  rw [fx_b125_no, fm_choose_no]
  cases half <;> cases rest
  · rw [show bI false = nI 0 from rfl, fin_out k hk4 s hs 0 (by decide) 0 (by decide) kept hk power hp h8 h14]
  · rw [show bI false = nI 0 from rfl, show bI true = nI 1 from rfl, fin_out k hk4 s hs 0 (by decide) 1 (by decide) kept hk power hp h8 h14]
  · rw [show bI false = nI 0 from rfl, show bI true = nI 1 from rfl, fin_out k hk4 s hs 1 (by decide) 0 (by decide) kept hk power hp h8 h14]
  · rw [show bI true = nI 1 from rfl, fin_out k hk4 s hs 1 (by decide) 1 (by decide) kept hk power hp h8 h14]
end
section
set_option maxRecDepth 100000
/-! the first class's rounding: its two loops bring the number to at most four digits; what was cut off is told by half and rest -/
def Wk (V U kept : Nat) (any : Bool) : Prop := kept * U ≤ V ∧ V < (kept + 1) * U ∧ (any = true ↔ V ≠ kept * U)
def Sg (V U kept : Nat) (half rest : Bool) : Prop := kept * U ≤ V ∧ V < (kept + 1) * U ∧ (half = true ↔ (2 * kept + 1) * U ≤ 2 * V) ∧ (rest = true ↔ (V ≠ kept * U ∧ 2 * V ≠ (2 * kept + 1) * U))
theorem sg_wk {V U kept : Nat} {half rest : Bool} (hU : 0 < U) (h : Sg V U kept half rest) : Wk V U kept (rest || half) := by
  obtain ⟨h1, h2, h3, h4⟩ := h
  refine ⟨h1, h2, ?_⟩
  rw [Bool.or_eq_true, h3, h4]
  have e : (2 * kept + 1) * U = 2 * (kept * U) + U := by rw [Nat.add_mul, Nat.one_mul, Nat.mul_assoc]
  rw [e]
  omega
theorem wk_step {V U kept : Nat} {any : Bool} (h : Wk V U kept any) (hU : 0 < U) : Sg V (2 * U) (kept / 2) (kept % 2 == 1) any := by
  obtain ⟨h1, h2, h3⟩ := h
  have hk : kept = 2 * (kept / 2) + kept % 2 := by omega
  have hb : kept % 2 < 2 := Nat.mod_lt _ (by decide)
  generalize kept / 2 = k at hk ⊢
  generalize kept % 2 = b at hk hb ⊢
  subst hk
  unfold Sg
  rw [h3]
  have e1 : k * (2 * U) = 2 * (k * U) := by rw [Nat.mul_left_comm]
  have e2 : (k + 1) * (2 * U) = 2 * (k * U) + 2 * U := by rw [Nat.add_mul, e1, Nat.one_mul]
  have e3 : (2 * k + 1) * (2 * U) = 4 * (k * U) + 2 * U := by rw [Nat.add_mul, Nat.one_mul, Nat.mul_mul_mul_comm]
  rcases (show b = 0 ∨ b = 1 by omega) with rfl | rfl
  · have e4 : (2 * k + 0) * U = 2 * (k * U) := by rw [Nat.add_zero, Nat.mul_assoc]
    have e5 : (2 * k + 0 + 1) * U = 2 * (k * U) + U := by rw [Nat.add_zero, Nat.add_mul, Nat.one_mul, Nat.mul_assoc]
    rw [e4] at h1
    rw [e5] at h2
    rw [e1, e2, e3, e4]
    refine ⟨by omega, by omega, ?_, ?_⟩
    · simp only [show ((0 : Nat) == 1) = false from rfl]
      constructor
      · intro q; cases q
      · intro q; omega
    · omega
  · have e4 : (2 * k + 1) * U = 2 * (k * U) + U := by rw [Nat.add_mul, Nat.one_mul, Nat.mul_assoc]
    have e5 : (2 * k + 1 + 1) * U = 2 * (k * U) + 2 * U := by rw [show 2 * k + 1 + 1 = 2 * k + 2 by omega, Nat.add_mul, Nat.mul_assoc]
    rw [e4] at h1
    rw [e5] at h2
    rw [e1, e2, e3, e4]
    refine ⟨by omega, by omega, ?_, ?_⟩
    · simp only [show ((1 : Nat) == 1) = true from rfl]
      constructor
      · intro q; omega
      · intro q; trivial
    · omega
theorem sg_exact {V U kept : Nat} (hU : 0 < U) : Sg V U kept false false ↔ V = kept * U := by
  unfold Sg
  have e : (2 * kept + 1) * U = 2 * (kept * U) + U := by rw [Nat.add_mul, Nat.one_mul, Nat.mul_assoc]
  have e2 : (kept + 1) * U = kept * U + U := by rw [Nat.add_mul, Nat.one_mul]
  rw [e, e2]
  constructor
  · rintro ⟨h1, h2, h3, h4⟩
    have h3 : ¬ (2 * (kept * U) + U ≤ 2 * V) := fun q => by have := h3.mpr q; cases this
    have h4 : ¬ (V ≠ kept * U ∧ 2 * V ≠ 2 * (kept * U) + U) := fun q => by have := h4.mpr q; cases this
    omega
  · intro h
    subst h
    exact ⟨by omega, by omega, ⟨fun q => absurd q (by decide), fun q => absurd q (by omega)⟩, ⟨fun q => absurd q (by decide), fun q => absurd rfl q.1⟩⟩
theorem u_up (B q : Nat) : B * 2 ^ (q + 1) = 2 * (B * 2 ^ q) := by
  rw [Nat.pow_succ, ← Nat.mul_assoc, Nat.mul_comm]
theorem u_pos {B : Nat} (hB : 0 < B) (q : Nat) : 0 < B * 2 ^ q := Nat.mul_pos hB (Nat.pow_pos (by decide))
theorem pw_ge {q : Nat} (h : q < 2 ^ 20) : ((0 : Int32) ≤ nI q - 64) ↔ 64 ≤ q := by
  rw [Int32.le_iff_toInt_le, show nI q - 64 = nI q - nI 64 from rfl, pk_sub_toInt (by omega) (by decide), Int32.toInt_zero]
  omega
theorem pw_le {q : Nat} (h : q < 2 ^ 20) : (nI q - 64 ≤ (0 : Int32)) ↔ q ≤ 64 := by
  rw [Int32.le_iff_toInt_le, show nI q - 64 = nI q - nI 64 from rfl, pk_sub_toInt (by omega) (by decide), Int32.toInt_zero]
  omega
theorem pw_up (q : Nat) : nI q - 64 + 1 = nI (q + 1) - 64 := by rw [nI_succ]; grind
theorem pw_dn {q : Nat} (h : 0 < q) : nI q - 64 + (-1) = nI (q - 1) - 64 := by
  obtain ⟨k, rfl⟩ : ∃ k, q = k + 1 := ⟨q - 1, by omega⟩
  rw [nI_succ, Nat.add_sub_cancel]; grind
theorem l_odd {k : Nat} (h : k < 2 ^ 63) : ((lN k &&& 1) = 1) ↔ k % 2 = 1 := by
  rw [wb_a1 (by omega)]
  exact pk_lEQ (a := k % 2) (b := 1) (by omega) (by decide)
theorem l_half {k : Nat} (h : k < 2 ^ 63) : (((lN k) : Int64).toUInt64 >>> ((1 : Int32).toInt64.toUInt64 &&& Int64.toUInt64 63)).toInt64 = lN (k / 2) := wb_shr (k := 1) (by omega) (by decide)
theorem l_twice (k : Nat) : (lN k <<< ((1 : Int32).toInt64 &&& 63)) = lN (k * 2) := wb_shl k (k := 1) (by decide)
theorem bI0 (b : Bool) : (bI b = 0) ↔ b = false := by cases b <;> decide
theorem x_l1 {n : Nat} (mo s no : Int32) {kept q i : Nat} (half rest : Bool) (hk : kept < 2 ^ 63) (hq : q < 2 ^ 20) (hi : i < 2 ^ 20) :
    fx_round_b17 (n + 1) mo s (lN kept) (nI q - 64) (bI half) (bI rest) (nI i) no = if 64 ≤ i then fx_round_b86 mo s (lN kept) (nI q - 64) (bI half) (bI rest) no else if 15 < kept ∨ q < 64 then fx_round_b17 n mo s (lN (kept / 2)) (nI (q + 1) - 64) (bI (kept % 2 == 1)) (bI (rest || half)) (nI (i + 1)) no else fx_round_b86 mo s (lN kept) (nI q - 64) (bI half) (bI rest) no := by
  have e1 : ((64 : Int32) ≤ nI i) ↔ 64 ≤ i := nI_leI (a := 64) (by decide) (by omega)
  have e2 : ((15 : Int64) < lN kept) ↔ 15 < kept := pk_lLT (a := 15) (by decide) hk
  rw [fx_round_b17.eq_2]
  simp only [e1, e2, pw_ge hq, l_odd hk, l_half hk, pw_up, nI_1, bI0]
  by_cases c1 : 64 ≤ i
  · rw [if_pos c1, if_pos c1]
  · rw [if_neg c1, if_neg c1]
    have eb : bI (kept % 2 == 1) = if kept % 2 = 1 then 1 else 0 := by
      by_cases c : kept % 2 = 1
      · rw [if_pos c, c]; rfl
      · rw [if_neg c, show kept % 2 = 0 by omega]; rfl
    rw [eb]
    by_cases c2 : 15 < kept
    · rw [if_pos c2, if_pos (Or.inl c2)]
      by_cases c3 : kept % 2 = 1 <;> cases half <;> cases rest <;> simp [c3, bI]
    · rw [if_neg c2]
      by_cases c4 : 64 ≤ q
      · rw [if_pos c4, if_neg (by omega)]
      · rw [if_neg c4, if_pos (Or.inr (by omega))]
        by_cases c3 : kept % 2 = 1 <;> cases half <;> cases rest <;> simp [c3, bI]
theorem x_T {kept q : Nat} {half rest : Bool} (hT : 8 ≤ kept ∨ q ≤ 64 ∨ (half = false ∧ rest = false ∧ 0 < kept)) (hq : 64 ≤ q) : 8 ≤ kept ∨ q = 64 ∨ (half = false ∧ rest = false ∧ 0 < kept) := by
  rcases hT with h | h | h
  · exact Or.inl h
  · exact Or.inr (Or.inl (by omega))
  · exact Or.inr (Or.inr h)
theorem x_loop1 (mo s no : Int32) {V B : Nat} (hB : 0 < B) : ∀ (n kept q : Nat) (half rest : Bool), 1 ≤ n → n ≤ 65 → kept < 2 ^ (n + 3) → kept < 2 ^ 63 → 65 ≤ q + n → q + n ≤ 1000 →
    Wk V (B * 2 ^ q) kept (rest || half) → (Sg V (B * 2 ^ q) kept half rest ∨ 15 < kept) → (8 ≤ kept ∨ q ≤ 64 ∨ (half = false ∧ rest = false ∧ 0 < kept)) →
    ∃ (kept' q' : Nat) (half' rest' : Bool), kept' ≤ 15 ∧ 64 ≤ q' ∧ q' ≤ 1000 ∧ Sg V (B * 2 ^ q') kept' half' rest' ∧ (8 ≤ kept' ∨ q' = 64 ∨ (half' = false ∧ rest' = false ∧ 0 < kept')) ∧
      fx_round_b17 n mo s (lN kept) (nI q - 64) (bI half) (bI rest) (nI (65 - n)) no = fx_round_b86 mo s (lN kept') (nI q' - 64) (bI half') (bI rest') no := by
  intro n
  induction n with
  | zero => intro kept q half rest h; exact absurd h (by decide)
  | succ n ih =>
    intro kept q half rest _ hn hk hk63 hq hq2 hW hS hT
    have hp : 2 ^ (n + 1 + 3) = 2 * 2 ^ (n + 3) := by rw [show n + 1 + 3 = n + 3 + 1 by omega, Nat.pow_succ, Nat.mul_comm]
    rw [x_l1 mo s no half rest hk63 (by omega) (by omega)]
    by_cases c1 : 64 ≤ 65 - (n + 1)
    · have hn0 : n = 0 := by omega
      subst hn0
      rw [if_pos c1]
      have hk16 : kept < 16 := hk
      refine ⟨kept, q, half, rest, by omega, by omega, by omega, ?_, x_T hT (by omega), rfl⟩
      rcases hS with hS | hS
      · exact hS
      · omega
    · rw [if_neg c1]
      by_cases c2 : 15 < kept ∨ q < 64
      · rw [if_pos c2, show 65 - (n + 1) + 1 = 65 - n by omega]
        have hs2 := wk_step hW (u_pos hB q)
        rw [← u_up] at hs2
        exact ih (kept / 2) (q + 1) (kept % 2 == 1) (rest || half) (by omega) (by omega) (by omega) (by omega) (by omega) (by omega) (sg_wk (u_pos hB _) hs2) (Or.inl hs2) (by omega)
      · rw [if_neg c2]
        refine ⟨kept, q, half, rest, by omega, by omega, by omega, ?_, x_T hT (by omega), rfl⟩
        rcases hS with hS | hS
        · exact hS
        · omega
theorem x_l2 {n : Nat} (mo s no h r : Int32) {kept q i : Nat} (hk : kept < 2 ^ 60) (hq : q < 2 ^ 20) (hi : i < 2 ^ 20) :
    fx_round_b89 (n + 1) mo s (lN kept) (nI q - 64) h r (nI i) no = if 64 ≤ i ∨ 8 ≤ kept ∨ q ≤ 64 then fx_round_b125 mo s (lN kept) (nI q - 64) h r no else fx_round_b89 n mo s (lN (kept * 2)) (nI (q - 1) - 64) h r (nI (i + 1)) no := by
  have e1 : ((64 : Int32) ≤ nI i) ↔ 64 ≤ i := nI_leI (a := 64) (by decide) (by omega)
  have e2 : ((8 : Int64) ≤ lN kept) ↔ 8 ≤ kept := pk_lLE (a := 8) (by decide) (by omega)
  rw [fx_round_b89.eq_2]
  simp only [e1, e2, pw_le hq, l_twice, nI_1]
  by_cases c1 : 64 ≤ i
  · rw [if_pos c1, if_pos (Or.inl c1)]
  · rw [if_neg c1]
    by_cases c2 : 8 ≤ kept
    · rw [if_pos c2, if_pos (Or.inr (Or.inl c2))]
    · rw [if_neg c2]
      by_cases c3 : q ≤ 64
      · rw [if_pos c3, if_pos (Or.inr (Or.inr c3))]
      · rw [if_neg c3, if_neg (by omega), pw_dn (by omega)]
theorem x_loop2 (mo s no : Int32) {V B : Nat} (hB : 0 < B) : ∀ (n kept q : Nat) (half rest : Bool), 1 ≤ n → n ≤ 65 → kept ≤ 15 → 64 ≤ q → q ≤ 1000 → (kept < 8 → 64 < q → 8 ≤ kept * 2 ^ (n - 1)) →
    Sg V (B * 2 ^ q) kept half rest → (8 ≤ kept ∨ q = 64 ∨ (half = false ∧ rest = false ∧ 0 < kept)) →
    ∃ (kept' power : Nat), kept' ≤ 15 ∧ (8 ≤ kept' ∨ power = 0) ∧ Sg V (B * 2 ^ (power + 64)) kept' half rest ∧
      fx_round_b89 n mo s (lN kept) (nI q - 64) (bI half) (bI rest) (nI (65 - n)) no = fx_round_b125 mo s (lN kept') (nI power) (bI half) (bI rest) no := by
  intro n
  induction n with
  | zero => intro kept q half rest h; exact absurd h (by decide)
  | succ n ih =>
    intro kept q half rest _ hn hk hq hq2 hf hS hT
    rw [x_l2 mo s no _ _ (by omega) (by omega) (by omega)]
    by_cases c : 64 ≤ 65 - (n + 1) ∨ 8 ≤ kept ∨ q ≤ 64
    · rw [if_pos c]
      refine ⟨kept, q - 64, hk, ?_, by rw [show q - 64 + 64 = q by omega]; exact hS, by rw [show nI q - 64 = nI q - nI 64 from rfl, pk_sub hq]⟩
      by_cases c8 : 8 ≤ kept
      · exact Or.inl c8
      · by_cases cq : q ≤ 64
        · right; omega
        · have hn0 : n = 0 := by omega
          subst hn0
          have := hf (by omega) (by omega)
          rw [show 0 + 1 - 1 = 0 from rfl, Nat.pow_zero, Nat.mul_one] at this
          exact Or.inl this
    · rw [if_neg c, show 65 - (n + 1) + 1 = 65 - n by omega]
      obtain ⟨k, rfl⟩ : ∃ k, q = k + 1 := ⟨q - 1, by omega⟩
      have hT : half = false ∧ rest = false ∧ 0 < kept := by
        rcases hT with h | h | h
        · exact absurd (Or.inr (Or.inl h)) c
        · exact absurd (Or.inr (Or.inr (by omega))) c
        · exact h
      obtain ⟨rfl, rfl, h0⟩ := hT
      rw [u_up, sg_exact (by have := u_pos hB k; omega)] at hS
      rw [show k + 1 - 1 = k from rfl]
      refine ih (kept * 2) k false false (by omega) (by omega) (by omega) (by omega) (by omega) ?_ ?_ ?_
      · intro h8 hk64
        have := hf (by omega) (by omega)
        rw [show n + 1 - 1 = (n - 1) + 1 by omega, Nat.pow_succ] at this
        rw [Nat.mul_assoc, Nat.mul_comm 2]
        exact this
      · rw [sg_exact (u_pos hB k), hS, Nat.mul_assoc]
      · right; right; exact ⟨rfl, rfl, by omega⟩
theorem sg_scale {V U kept z : Nat} {half rest : Bool} (hz : 0 < z) (h : Sg (V * z) (U * z) kept half rest) : Sg V U kept half rest := by
  obtain ⟨h1, h2, h3, h4⟩ := h
  simp only [← Nat.mul_assoc] at h1 h2 h3 h4
  refine ⟨Nat.le_of_mul_le_mul_right h1 hz, Nat.lt_of_mul_lt_mul_right h2, ?_, ?_⟩
  · rw [h3]
    exact Nat.mul_le_mul_right_iff hz
  · rw [h4, Ne, Ne, Nat.mul_left_inj (by omega), Nat.mul_left_inj (by omega)]
/-- what the first class's rounding comes to: f 2^(E - 64) units of a B-th, A / B units in all -/
theorem x_norm (mo s no : Int32) {A B f E : Nat} (sticky : Bool) (hB : 0 < B) (hf : 0 < f) (hf2 : f < 2 ^ 62) (hE : E ≤ 200) (hlo : f * (B * 2 ^ E) ≤ A * 2 ^ 64) (hhi : A * 2 ^ 64 < (f + 1) * (B * 2 ^ E)) (hs : sticky = true ↔ A * 2 ^ 64 ≠ f * (B * 2 ^ E)) (h15 : sticky = true → 15 < f) :
    ∃ (kept power : Nat) (half rest : Bool), kept ≤ 15 ∧ (8 ≤ kept ∨ power = 0) ∧ Sg A (B * 2 ^ power) kept half rest ∧
      fx_round mo no s (lN f) (nI E - 64) (bI sticky) = fx_round_b125 mo s (lN kept) (nI power) (bI half) (bI rest) no := by
  have hW : Wk (A * 2 ^ 64) (B * 2 ^ E) f (sticky || false) := ⟨hlo, hhi, by rw [Bool.or_false]; exact hs⟩
  have hS : Sg (A * 2 ^ 64) (B * 2 ^ E) f false sticky ∨ 15 < f := by
    cases sticky with
    | true => exact Or.inr (h15 rfl)
    | false =>
      left
      rw [sg_exact (u_pos hB E)]
      exact Classical.byContradiction fun q => by have := hs.mpr q; cases this
  have hT : 8 ≤ f ∨ E ≤ 64 ∨ (false = false ∧ sticky = false ∧ 0 < f) := by
    cases sticky with
    | true => left; have := h15 rfl; omega
    | false => right; right; exact ⟨rfl, rfl, hf⟩
  obtain ⟨k1, q1, h1, r1, a1, a2, a3, a4, a5, a6⟩ := x_loop1 mo s no hB 65 f E false sticky (by decide) (by decide) (by omega) (by omega) (by omega) (by omega) hW hS hT
  obtain ⟨k2, p2, b1, b2, b3, b4⟩ := x_loop2 mo s no (V := A * 2 ^ 64) hB 65 k1 q1 h1 r1 (by decide) (by decide) a1 a2 a3 (by
    intro c1 c2
    have h0 : 0 < k1 := by omega
    have : 1 * 2 ^ (65 - 1) ≤ k1 * 2 ^ (65 - 1) := Nat.mul_le_mul_right _ h0
    omega) a4 a5
  refine ⟨k2, p2, h1, r1, b1, b2, ?_, ?_⟩
  · rw [Nat.pow_add, ← Nat.mul_assoc] at b3
    exact sg_scale (by decide) b3
  · rw [← b4]
    show fx_round_b17 65 mo s (lN f) (nI E - 64) 0 (bI sticky) 0 no = fx_round_b89 65 mo s (lN k1) (nI q1 - 64) (bI h1) (bI r1) 0 no
    exact a6
end
section
set_option maxRecDepth 100000
/-! the second class's rounding: the search ends at the greatest code whose size isn't above; both roundings agree -/
theorem sz_up : ∀ i, i < 120 → szN i < szN (i + 1) := by decide +kernel
theorem sz_le {i : Nat} : ∀ {j : Nat}, i ≤ j → j ≤ 120 → szN i ≤ szN j := by
  intro j
  induction j with
  | zero => intro h _; rw [show i = 0 by omega]; exact Nat.le_refl _
  | succ j ih =>
    intro h hj
    by_cases e : i = j + 1
    · rw [e]; exact Nat.le_refl _
    · exact Nat.le_trans (ih (by omega) (by omega)) (Nat.le_of_lt (sz_up j (by omega)))
theorem sz_max {i : Nat} (h : i ≤ 120) : szN i ≤ 131072 := sz_le (j := 120) h (Nat.le_refl _)
theorem sz_c : ∀ kept, kept < 16 → ∀ power, power < 14 → (8 ≤ kept ∨ power = 0) → szN (cN kept power) = kept * 2 ^ power ∧ szN (cN kept power + 1) = (kept + 1) * 2 ^ power ∧ cN kept power ≤ 119 := by decide +kernel
theorem sz_l {i : Nat} (h : i ≤ 120) : (szF i).toInt64 = lN (szN i) := nI_l (by have := sz_max h; omega)
theorem sz_l2 {i j : Nat} (h : i ≤ 120) (h2 : j ≤ 120) : (szF i + szF j).toInt64 = lN (szN i + szN j) := by
  unfold szF
  rw [nI_add]
  exact nI_l (by have := sz_max h; have := sz_max h2; omega)
theorem l_subT {a b : Nat} (ha : a < 2 ^ 62) (hb : b < 2 ^ 62) : (lN a - lN b).toInt = (a : Int) - b := by
  rw [Int64.toInt_sub, pk_lT (by omega), pk_lT (by omega)]
  exact Int.bmod_eq_of_le (by omega) (by omega)
theorem m_more {a b : Nat} (ha : a < 2 ^ 62) (hb : b < 2 ^ 62) : fm_sign (lN a - lN b) = if a < b then -1 else if a = b then 0 else 1 := by
  have e1 : ((0 : Int64) ≤ lN a - lN b) ↔ b ≤ a := by
    rw [Int64.le_iff_toInt_le, l_subT ha hb, show (0 : Int64).toInt = 0 from by decide]; omega
  have e2 : (lN a - lN b ≤ (0 : Int64)) ↔ a ≤ b := by
    rw [Int64.le_iff_toInt_le, l_subT ha hb, show (0 : Int64).toInt = 0 from by decide]; omega
  rw [fm_sign]
  simp only [e1, e2]
  by_cases c1 : b ≤ a
  · rw [if_pos c1, if_neg (by omega : ¬ a < b)]
    by_cases c2 : a ≤ b
    · rw [if_pos c2, if_pos (by omega)]
    · rw [if_neg c2, if_neg (by omega)]
  · rw [if_neg c1, if_pos (by omega)]
theorem mul_bd {a b m n : Nat} (ha : a ≤ m) (hb : b ≤ n) : a * b ≤ m * n := Nat.mul_le_mul ha hb
theorem m_b33 (mo no neg : Int32) {A B c : Nat} (hA : A < 2 ^ 60) (hB : B < 2 ^ 20) (hc : c ≤ 119) : fm_round_b33 mo (lN A) (lN B) neg (nI c) no =
    fm_choose mo no (nI c) (if 2 * A < (szN c + szN (c + 1)) * B then -1 else if 2 * A = (szN c + szN (c + 1)) * B then 0 else 1) (if szN c * B = A then 1 else 0) (if A < szN 120 * B then 0 else 1) neg := by
  have b1 : szN c * B ≤ 131072 * 2 ^ 20 := mul_bd (sz_max (by omega)) (by omega)
  have b2 : szN (c + 1) * B ≤ 131072 * 2 ^ 20 := mul_bd (sz_max (by omega)) (by omega)
  have b3 : szN 120 * B ≤ 131072 * 2 ^ 20 := mul_bd (sz_max (by omega)) (by omega)
  have b4 : (szN c + szN (c + 1)) * B = szN c * B + szN (c + 1) * B := Nat.add_mul _ _ _
  have e1 : (nI c).toNatClampNeg = c := nI_clamp (by omega)
  have e2 : (nI c + 1).toNatClampNeg = c + 1 := by rw [nI_1]; exact nI_clamp (by omega)
  have e3 : (120 : Int32).toNatClampNeg = 120 := by decide
  have e4 : (2 : Int64) * lN A = lN (2 * A) := lN_mul 2 A
  rw [fm_round_b33]
  simp only [fm_round_b85, fm_round_b107, e1, e2, e3, e4, sz_l (show c ≤ 120 by omega), sz_l (Nat.le_refl 120), sz_l2 (show c ≤ 120 by omega) (show c + 1 ≤ 120 by omega), lN_mul]
  rw [m_more (by omega) (by omega)]
  have e5 : (lN (szN c * B) = lN A) ↔ szN c * B = A := pk_lEQ (by omega) (by omega)
  have e6 : (lN A < lN (szN 120 * B)) ↔ A < szN 120 * B := pk_lLT (by omega) (by omega)
  simp only [e5, e6]
  by_cases c1 : szN c * B = A
  · rw [if_pos c1, if_pos c1]
    by_cases c2 : A < szN 120 * B
    · rw [if_pos c2, if_pos c2]
    · rw [if_neg c2, if_neg c2]
  · rw [if_neg c1, if_neg c1]
    by_cases c2 : A < szN 120 * B
    · rw [if_pos c2, if_pos c2]
    · rw [if_neg c2, if_neg c2]
theorem m_loop (mo no neg : Int32) {A B : Nat} (hA : A < 2 ^ 60) (hB : B < 2 ^ 20) : ∀ n, 1 ≤ n → n ≤ 120 → szN (120 - n) * B ≤ A →
    ∃ c, c ≤ 119 ∧ szN c * B ≤ A ∧ (c < 119 → A < szN (c + 1) * B) ∧ fm_round_b3 n mo (lN A) (lN B) neg (nI (120 - n)) no = fm_round_b33 mo (lN A) (lN B) neg (nI c) no := by
  intro n
  induction n with
  | zero => intro h; exact absurd h (by decide)
  | succ n ih =>
    intro _ hn hle
    have hc : 120 - (n + 1) ≤ 119 := by omega
    have hc2 : 120 - (n + 1) + 1 = 120 - n := by omega
    have b2 : szN (120 - n) * B ≤ 131072 * 2 ^ 20 := mul_bd (sz_max (by omega)) (by omega)
    have e2 : (nI (120 - (n + 1)) + 1).toNatClampNeg = 120 - n := by rw [nI_1, hc2]; exact nI_clamp (by omega)
    have e3 : ((119 : Int32) ≤ nI (120 - (n + 1))) ↔ 119 ≤ 120 - (n + 1) := nI_leI (a := 119) (by decide) (by omega)
    have e4 : (lN A < lN (szN (120 - n) * B)) ↔ A < szN (120 - n) * B := pk_lLT (by omega) (by omega)
    rw [fm_round_b3.eq_2]
    simp only [e2, e3, sz_l (show 120 - n ≤ 120 by omega), lN_mul, e4]
    by_cases c1 : 119 ≤ 120 - (n + 1)
    · rw [if_pos c1]
      exact ⟨_, hc, hle, fun h => absurd h (by omega), rfl⟩
    · rw [if_neg c1]
      by_cases c2 : A < szN (120 - n) * B
      · rw [if_pos c2]
        exact ⟨_, hc, hle, fun _ => by rw [hc2]; exact c2, rfl⟩
      · rw [if_neg c2, nI_1, hc2]
        exact ih (by omega) (by omega) (by omega)
theorem m_round {mo no neg : Int32} {A B : Nat} (hA : A < 2 ^ 60) (hB : B < 2 ^ 20) :
    ∃ c, c ≤ 119 ∧ szN c * B ≤ A ∧ (c < 119 → A < szN (c + 1) * B) ∧ fm_round mo no (lN A) (lN B) neg =
      fm_choose mo no (nI c) (if 2 * A < (szN c + szN (c + 1)) * B then -1 else if 2 * A = (szN c + szN (c + 1)) * B then 0 else 1) (if szN c * B = A then 1 else 0) (if A < szN 120 * B then 0 else 1) neg := by
  obtain ⟨c, h1, h2, h3, h4⟩ := m_loop mo no neg hA hB 120 (by decide) (by decide) (by show 0 * B ≤ A; rw [Nat.zero_mul]; exact Nat.zero_le _)
  refine ⟨c, h1, h2, h3, ?_⟩
  rw [← m_b33 mo no neg hA hB h1, ← h4]
  rfl
theorem sg_more {V U kept : Nat} {half rest : Bool} (hU : 0 < U) (h : Sg V U kept half rest) : (if 2 * V < (2 * kept + 1) * U then (-1 : Int32) else if 2 * V = (2 * kept + 1) * U then 0 else 1) = moreI half rest ∧ (if kept * U = V then (1 : Int32) else 0) = exactI half rest := by
  obtain ⟨h1, h2, h3, h4⟩ := h
  have e : (2 * kept + 1) * U = 2 * (kept * U) + U := by rw [Nat.add_mul, Nat.one_mul, Nat.mul_assoc]
  rw [e] at h3 h4 ⊢
  cases half with
  | false =>
    have h3 : ¬ (2 * (kept * U) + U ≤ 2 * V) := fun q => absurd (h3.mpr q) (by decide)
    refine ⟨by rw [if_pos (by omega)]; rfl, ?_⟩
    cases rest with
    | false =>
      have h4 : ¬ (V ≠ kept * U ∧ 2 * V ≠ 2 * (kept * U) + U) := fun q => absurd (h4.mpr q) (by decide)
      rw [if_pos (by omega)]; rfl
    | true =>
      have h4 := h4.mp rfl
      rw [if_neg (by omega)]; rfl
  | true =>
    have h3 := h3.mp rfl
    refine ⟨?_, by rw [if_neg (by omega)]; rfl⟩
    rw [if_neg (by omega)]
    cases rest with
    | false =>
      have h4 : ¬ (V ≠ kept * U ∧ 2 * V ≠ 2 * (kept * U) + U) := fun q => absurd (h4.mpr q) (by decide)
      rw [if_pos (by omega)]; rfl
    | true =>
      have h4 := h4.mp rfl
      rw [if_neg (by omega)]; rfl
/-- BOTH ROUNDINGS AGREE: the number is A / B units; f 2^(E - 64) of them are given to the first class, and whether anything is left -/
theorem round_eq {mo : Int32} (hm : okM mo) (no : Int32) {s : Nat} (hs : s < 2) {A B f E : Nat} (sticky : Bool) (hA : A < 2 ^ 58) (hB : 0 < B) (hB2 : B < 2 ^ 20) (hf : 0 < f) (hf2 : f < 2 ^ 62) (hE : E ≤ 200) (hlo : f * (B * 2 ^ E) ≤ A * 2 ^ 64) (hhi : A * 2 ^ 64 < (f + 1) * (B * 2 ^ E)) (hst : sticky = true ↔ A * 2 ^ 64 ≠ f * (B * 2 ^ E)) (h15 : sticky = true → 15 < f) :
    fx_round mo no (nI s) (lN f) (nI E - 64) (bI sticky) = fm_round mo no (lN A) (lN B) (nI s) := by
  obtain ⟨kept, power, half, rest, h1, h2, h3, h4⟩ := x_norm mo (nI s) no sticky hB hf hf2 hE hlo hhi hst h15
  obtain ⟨c, g1, g2, g3, g4⟩ := m_round (mo := mo) (no := no) (neg := nI s) (A := A) (B := B) (by omega) hB2
  rw [h4, g4]
  have hU := u_pos hB power
  by_cases hp : power < 14
  · obtain ⟨z1, z2, z3⟩ := sz_c kept (by omega) power hp h2
    obtain ⟨m1, m2⟩ := sg_more hU h3
    have y1 : kept * (B * 2 ^ power) = szN (cN kept power) * B := by rw [z1, Nat.mul_assoc, Nat.mul_comm B]
    have y2 : (kept + 1) * (B * 2 ^ power) = szN (cN kept power + 1) * B := by rw [z2, Nat.mul_assoc, Nat.mul_comm B]
    have y3 : (2 * kept + 1) * (B * 2 ^ power) = (szN (cN kept power) + szN (cN kept power + 1)) * B := by
      rw [Nat.add_mul (szN _), ← y1, ← y2, Nat.add_mul, Nat.add_mul, Nat.mul_assoc]; omega
    rw [y3] at m1
    rw [y1] at m2
    obtain ⟨k1, k2, -, -⟩ := h3
    rw [y1] at k1
    rw [y2] at k2
    obtain ⟨c0, hc0⟩ : ∃ c0, cN kept power = c0 := ⟨_, rfl⟩
    rw [hc0] at y1 y2 y3 m1 m2 k1 k2 z1 z2 z3
    have hcc : c = c0 := by
      rcases Nat.lt_trichotomy c c0 with h | h | h
      · exfalso
        have q1 := g3 (by omega)
        have q2 : szN (c + 1) * B ≤ szN c0 * B := Nat.mul_le_mul_right _ (sz_le (by omega) (by omega))
        omega
      · exact h
      · exfalso
        have q2 : szN (c0 + 1) * B ≤ szN c * B := Nat.mul_le_mul_right _ (sz_le (by omega) (by omega))
        omega
    subst hcc
    have q3 : szN (c + 1) * B ≤ szN 120 * B := Nat.mul_le_mul_right _ (sz_le (by omega) (by omega))
    rw [m1, m2, if_pos (by omega)]
    rw [← hc0]
    exact fin_In hm hs half rest (by omega) hp h2
  · have h8 : 8 ≤ kept := by omega
    obtain ⟨k1, -, -, -⟩ := h3
    have p1 : 8 * (B * 2 ^ power) ≤ kept * (B * 2 ^ power) := Nat.mul_le_mul_right _ h8
    have p2 : 2 ^ 14 ≤ 2 ^ power := Nat.pow_le_pow_right (by decide) (by omega)
    have p3 : B * 2 ^ 14 ≤ B * 2 ^ power := Nat.mul_le_mul_left _ p2
    have p4 : power < 60 := by
      refine Classical.byContradiction fun q => ?_
      have q1 : 2 ^ 60 ≤ 2 ^ power := Nat.pow_le_pow_right (by decide) (by omega)
      have q2 : 1 * 2 ^ 60 ≤ B * 2 ^ power := Nat.mul_le_mul hB q1
      omega
    have z119 : szN 119 = 122880 := by decide
    have z120 : szN 120 = 131072 := by decide
    have hcc : c = 119 := by
      refine Classical.byContradiction fun q => ?_
      have q1 := g3 (by omega)
      have q2 : szN (c + 1) * B ≤ szN 120 * B := Nat.mul_le_mul_right _ (sz_le (by omega) (by omega))
      rw [z120] at q2
      omega
    subst hcc
    rw [z119, z120, if_neg (by omega), if_neg (by omega), if_neg (by omega), if_neg (by omega)]
    exact fin_Out hm hs half rest (by omega) p4 h8 (by omega)
end
section
set_option maxRecDepth 100000
/-! codes: what both classes make of a code below 256 -/
theorem cd_split (a : Int32) : (¬ fx_bad a = 0 ∧ fm_isCode a = 0) ∨ (fx_bad a = 0 ∧ ¬ fm_isCode a = 0 ∧ ∃ k : Nat, k < 256 ∧ a = nI k) := by
  by_cases h : fm_isCode a = 0
  · refine Or.inl ⟨?_, h⟩
    rw [fm_isCode] at h
    rw [fx_bad]
    by_cases c : a < 0
    · rw [if_pos c]; decide
    · rw [if_neg c] at h ⊢
      by_cases c2 : (255 : Int32) < a
      · rw [if_neg (Int32.not_le.mpr c2)]; decide
      · rw [if_neg c2] at h; exact absurd h (by decide)
  · refine Or.inr ⟨?_, h, m_code h⟩
    rw [fm_isCode] at h
    rw [fx_bad]
    by_cases c : a < 0
    · rw [if_pos c] at h; exact absurd rfl h
    · rw [if_neg c] at h ⊢
      by_cases c2 : (255 : Int32) < a
      · rw [if_pos c2] at h; exact absurd rfl h
      · rw [if_pos (Int32.not_lt.mp c2)]
theorem cd_good {k : Nat} (h : k < 256) : fx_bad (nI k) = 0 ∧ ¬ fm_isCode (nI k) = 0 := by
  have q : ∀ k, k < 256 → fx_bad (nI k) = 0 ∧ ¬ fm_isCode (nI k) = 0 := by decide +kernel
  exact q k h
theorem cd_none : ∀ k, k < 256 → fm_isNone (nI k) = fx_isNone (nI k) := by decide +kernel
theorem cd_inf : ∀ k, k < 256 → fm_isInfinite (nI k) = fx_isInfinite (nI k) := by decide +kernel
theorem cd_zero : ∀ k, k < 256 → fm_isZero (nI k) = fx_isZero (nI k) := by decide +kernel
theorem cd_neg : ∀ k, k < 256 → fm_isNegative (nI k) = nI (k / 128) := by decide +kernel
theorem cd_fin : ∀ k, k < 256 → fx_isNone (nI k) = 0 → fx_isInfinite (nI k) = 0 → k % 128 < 120 := by decide +kernel
theorem cd_z : ∀ k, k < 256 → (fx_isZero (nI k) = 0 ↔ k % 128 ≠ 0) := by decide +kernel
def frN (j : Nat) : Nat := if j < 8 then j else 8 + j % 8
def exN (j : Nat) : Nat := if j < 8 then 0 else j / 8 - 1
theorem cd_up : ∀ k, k < 256 → (fx_unpack (nI k)).1 = nI (k / 128) ∧ (fx_unpack (nI k)).2.1 = lN (frN (k % 128)) ∧ (fx_unpack (nI k)).2.2 = nI (exN (k % 128)) := by decide +kernel
theorem cd_sz : ∀ j, j < 120 → szN j = frN j * 2 ^ exN j ∧ frN j ≤ 15 ∧ exN j ≤ 13 ∧ (frN j = 0 ↔ j = 0) := by decide +kernel
theorem cd_ix {k : Nat} (h : k < 256) : (nI k - nI k / 128 * 128).toNatClampNeg = k % 128 := by
  rw [m_rem (by omega)]; exact nI_clamp (by omega)
theorem cd_xor {i j : Nat} (hi : i < 256) (hj : j < 256) : (nI i ^^^ nI j) >>> (7 &&& 31) = nI ((i / 128 + j / 128) % 2) := by
  have hx : i ^^^ j < 256 := Nat.xor_lt_two_pow (n := 8) hi hj
  rw [nx_xor, pk_shrN (by omega) _ 7 (by decide)]
  congr 1
  rw [show (2 : Nat) ^ 7 = 128 from rfl]
  have e : (i ^^^ j) / 2 ^ 7 = i / 2 ^ 7 ^^^ j / 2 ^ 7 := Nat.xor_div_two_pow
  rw [show (2 : Nat) ^ 7 = 128 from rfl] at e
  rw [e]
  rcases (show i / 128 = 0 ∨ i / 128 = 1 by omega) with h1 | h1 <;> rcases (show j / 128 = 0 ∨ j / 128 = 1 by omega) with h2 | h2 <;> rw [h1, h2] <;> rfl
theorem cd_same {i j : Nat} (hi : i < 256) (hj : j < 256) {α : Type} (f : Int32 → α) : (if nI (i / 128) = nI (j / 128) then f 0 else f 1) = f (nI ((i / 128 + j / 128) % 2)) := by
  rcases (show i / 128 = 0 ∨ i / 128 = 1 by omega) with h1 | h1 <;> rcases (show j / 128 = 0 ∨ j / 128 = 1 by omega) with h2 | h2 <;> rw [h1, h2] <;> rfl
theorem sg_128 : ∀ s, s < 2 → nI s * 128 + 120 = fm_signed 120 (nI s) ∧ nI s * 128 = fm_zero (nI s) := by decide +kernel
theorem round_ex {mo : Int32} (hm : okM mo) (no : Int32) {s : Nat} (hs : s < 2) {A B f E : Nat} (hA : A < 2 ^ 58) (hB : 0 < B) (hB2 : B < 2 ^ 20) (hf : 0 < f) (hf2 : f < 2 ^ 62) (hE : E ≤ 200) (h : A * 2 ^ 64 = f * (B * 2 ^ E)) :
    fx_round mo no (nI s) (lN f) (nI E - 64) 0 = fm_round mo no (lN A) (lN B) (nI s) := by
  have hU := u_pos hB E
  exact round_eq hm no hs false hA hB hB2 hf hf2 hE (by omega) (by rw [Nat.add_mul]; omega) ⟨fun q => absurd q (by decide), fun q => absurd h q⟩ (fun q => absurd q (by decide))
theorem pr_eta {α β : Type} (x : α × β) : (x.1, x.2) = x := rfl
theorem e_9 (a b : Nat) : nI a + nI b - 9 = nI (a + b + 55) - 64 := by
  rw [show nI (a + b + 55) = nI a + nI b + 55 by rw [nI_add]; exact (nI_add (a + b) 55).symm]
  grind
set_option maxHeartbeats 4000000 in
theorem eq_multiply {mo : Int32} (hm : okM mo) (no a b : Int32) : fx_multiply mo no a b = fm_multiply mo no a b := by
  rcases cd_split a with ⟨h1, h2⟩ | ⟨h1, h2, i, hi, rfl⟩
  · rw [fx_multiply, fm_multiply, if_neg h1, if_pos h2]
  rcases cd_split b with ⟨h3, h4⟩ | ⟨h3, h4, j, hj, rfl⟩
  · rw [fx_multiply, fm_multiply, if_pos h1, if_neg h3, if_neg h2, if_pos h4]
  rw [fx_multiply, fm_multiply, if_pos h1, if_pos h3, if_neg h2, if_neg h4]
  rw [cd_none i hi, cd_none j hj]
  by_cases n1 : fx_isNone (nI i) = 0
  · rw [if_pos n1, if_pos n1]
    by_cases n2 : fx_isNone (nI j) = 0
    · rw [if_pos n2, if_pos n2, cd_neg i hi, cd_neg j hj, cd_same hi hj (fun t => fm_multiply_b55 mo (nI i) (nI j) t no), cd_xor hi hj]
      have hs : (i / 128 + j / 128) % 2 < 2 := Nat.mod_lt _ (by decide)
      generalize (i / 128 + j / 128) % 2 = s at hs ⊢
      obtain ⟨z1, z2⟩ := sg_128 s hs
      have L : fx_multiply_b60 (nI i) (nI j) (nI s) no = fm_multiply_b72 (nI i) (nI j) (nI s) no := by
        rw [fx_multiply_b60, fm_multiply_b72, cd_zero i hi, cd_zero j hj, z1]
        rfl
      rw [fm_multiply_b55, cd_inf i hi, cd_inf j hj, L]
      by_cases f1 : fx_isInfinite (nI i) = 0
      · rw [if_pos f1, if_pos f1]
        by_cases f2 : fx_isInfinite (nI j) = 0
        · rw [if_pos f2, if_pos f2]
          have hi2 := cd_fin i hi n1 f1
          have hj2 := cd_fin j hj n2 f2
          obtain ⟨-, u1, u2⟩ := cd_up i hi
          obtain ⟨-, u3, u4⟩ := cd_up j hj
          obtain ⟨s1, s2, s3, s4⟩ := cd_sz (i % 128) hi2
          obtain ⟨s5, s6, s7, s8⟩ := cd_sz (j % 128) hj2
          have b1 := sz_max (i := i % 128) (by omega)
          have b2 := sz_max (i := j % 128) (by omega)
          have b3 := mul_bd b1 b2
          rw [cd_ix hi, cd_ix hj, sz_l (by omega), sz_l (by omega), lN_mul, u1, u2, u3, u4, lN_mul, e_9]
          have ez : (lN (szN (i % 128) * szN (j % 128)) = 0) ↔ szN (i % 128) * szN (j % 128) = 0 := pk_lEQ (b := 0) (by omega) (by decide)
          simp only [ez]
          by_cases y1 : fx_isZero (nI i) = 0
          · rw [if_pos y1]
            by_cases y2 : fx_isZero (nI j) = 0
            · rw [if_pos y2]
              have w1 := (cd_z i hi).mp y1
              have w2 := (cd_z j hj).mp y2
              have w3 : 0 < frN (i % 128) := by omega
              have w4 : 0 < frN (j % 128) := by omega
              have w5 := Nat.mul_pos w3 w4
              have w6 := mul_bd s2 s6
              have w7 : 0 < szN (i % 128) * szN (j % 128) := by
                rw [s1, s5]
                exact Nat.mul_pos (Nat.mul_pos w3 (Nat.pow_pos (by decide))) (Nat.mul_pos w4 (Nat.pow_pos (by decide)))
              rw [if_neg (by omega), pr_eta, pr_eta]
              refine round_ex hm no hs (A := szN (i % 128) * szN (j % 128)) (B := 512) (by omega) (by decide) (by decide) w5 (by omega) (by omega) ?_
              rw [s1, s5, Nat.pow_add, Nat.pow_add, show (2 : Nat) ^ 64 = 512 * 2 ^ 55 from rfl]
              ac_rfl
            · rw [if_neg y2, if_pos, z2]
              have : ¬ j % 128 ≠ 0 := fun q => y2 ((cd_z j hj).mpr q)
              rw [show j % 128 = 0 by omega]; rfl
          · rw [if_neg y1, if_pos, z2]
            have : ¬ i % 128 ≠ 0 := fun q => y1 ((cd_z i hi).mpr q)
            rw [show i % 128 = 0 by omega]; exact Nat.zero_mul _
        · rw [if_neg f2, if_neg f2]
      · rw [if_neg f1, if_neg f1]
    · rw [if_neg n2, if_neg n2]
  · rw [if_neg n1, if_neg n1]
theorem eq_mode (mo no st a : Int32) : fx_mode mo no st a = fm_mode mo no st a := rfl
theorem eq_notes (no : Int32) : fx_notes no = fm_notes no := rfl
theorem eq_clear (mo no st : Int32) : fx_clear mo no st = fm_clear mo no st := rfl
theorem eq_store (mo no st a : Int32) : fx_store mo no st a = fm_store mo no st a := by
  rw [fx_store, fm_store]
  rcases cd_split a with ⟨h1, h2⟩ | ⟨h1, h2, -⟩
  · rw [if_neg h1, if_pos h2]
  · rw [if_pos h1, if_neg h2]
theorem ok_mode {mo st : Int32} (hm : okM mo) (hs : okS st) (no a : Int32) : okM (fm_mode mo no st a).2.1 ∧ okS (fm_mode mo no st a).2.2.2 := by
  rw [fm_mode]
  by_cases c : a < 0
  · rw [if_pos c]; exact ⟨hm, hs⟩
  · rw [if_neg c]
    by_cases c2 : a ≤ 3
    · rw [if_pos c2]
      refine ⟨?_, hs⟩
      obtain ⟨j, hj, rfl⟩ := nI_of c
      have h3 : j ≤ 3 := Classical.byContradiction fun q => nI_ge (a := 3) (by omega) hj c2
      show okM (nI j)
      rcases (show j = 0 ∨ j = 1 ∨ j = 2 ∨ j = 3 by omega) with rfl | rfl | rfl | rfl
      · exact Or.inl rfl
      · exact Or.inr (Or.inl rfl)
      · exact Or.inr (Or.inr (Or.inl rfl))
      · exact Or.inr (Or.inr (Or.inr rfl))
    · rw [if_neg c2]; exact ⟨hm, hs⟩
theorem ok_clear {mo st : Int32} (hm : okM mo) (hs : okS st) (no : Int32) : okM (fm_clear mo no st).2.1 ∧ okS (fm_clear mo no st).2.2.2 := ⟨hm, hs⟩
theorem ok_store {mo st : Int32} (hm : okM mo) (hs : okS st) (no a : Int32) : okM (fm_store mo no st a).2.1 ∧ okS (fm_store mo no st a).2.2.2 := by
  rw [fm_store]
  by_cases c : fm_isCode a = 0
  · rw [if_pos c]; exact ⟨hm, hs⟩
  · rw [if_neg c]; exact ⟨hm, m_code c⟩
end
section
set_option maxRecDepth 100000
/-! compare, from and whole agree -/
def rkZ (k : Nat) : Int := if k < 128 then (k : Int) else -((k % 128 : Nat) : Int)
def vlZ (k : Nat) : Int := if k < 128 then (szN k : Int) else -(szN (k % 128) : Int)
theorem cd_rk : ∀ k, k < 256 → (fx_rank (nI k)).toInt = rkZ k := by decide +kernel
theorem cd_vl : ∀ k, k < 256 → (fm_valueOf (nI k)).toInt = vlZ k ∧ -1000000 ≤ vlZ k ∧ vlZ k ≤ 1000000 := by decide +kernel
theorem cd_nn : ∀ k, k < 256 → fx_isNone (nI k) = 0 → k % 128 ≤ 120 := by decide +kernel
theorem sz_ltI {i j : Nat} (hi : i ≤ 120) (hj : j ≤ 120) : szN i < szN j ↔ i < j := by
  constructor
  · intro h
    refine Classical.byContradiction fun q => ?_
    have := sz_le (i := j) (j := i) (by omega) hi
    omega
  · intro h
    have h1 := sz_up i (by omega)
    have h2 := sz_le (i := i + 1) (j := j) (by omega) hj
    omega
theorem rk_vl {i j : Nat} (hi : i < 256) (hj : j < 256) (h1 : i % 128 ≤ 120) (h2 : j % 128 ≤ 120) : (rkZ i < rkZ j ↔ vlZ i < vlZ j) := by
  have z0 : szN 0 = 0 := rfl
  have a1 := sz_ltI h1 h2
  have a2 := sz_ltI h2 h1
  have a3 := sz_ltI (i := 0) (by omega) h1
  have a4 := sz_ltI (i := 0) (by omega) h2
  unfold rkZ vlZ
  by_cases c1 : i < 128
  · rw [Nat.mod_eq_of_lt c1] at a1 a2 a3
    rw [if_pos c1, if_pos c1]
    by_cases c2 : j < 128
    · rw [Nat.mod_eq_of_lt c2] at a1 a2 a4
      rw [if_pos c2, if_pos c2]
      omega
    · rw [if_neg c2, if_neg c2]
      omega
  · rw [if_neg c1, if_neg c1]
    by_cases c2 : j < 128
    · rw [Nat.mod_eq_of_lt c2] at a1 a2 a4
      rw [if_pos c2, if_pos c2]
      omega
    · rw [if_neg c2, if_neg c2]
      omega
theorem eq_compare (a b : Int32) : fx_compare a b = fm_compare a b := by
  rcases cd_split a with ⟨h1, h2⟩ | ⟨h1, h2, i, hi, rfl⟩
  · rw [fx_compare, fm_compare, if_neg h1, if_pos h2]
  rcases cd_split b with ⟨h3, h4⟩ | ⟨h3, h4, j, hj, rfl⟩
  · rw [fx_compare, fm_compare, if_pos h1, if_neg h3, if_neg h2, if_pos h4]
  rw [fx_compare, fm_compare, if_pos h1, if_pos h3, if_neg h2, if_neg h4, cd_none i hi, cd_none j hj]
  by_cases n1 : fx_isNone (nI i) = 0
  · rw [if_pos n1, if_pos n1]
    by_cases n2 : fx_isNone (nI j) = 0
    · rw [if_pos n2, if_pos n2]
      have q1 := rk_vl hi hj (cd_nn i hi n1) (cd_nn j hj n2)
      have q2 := rk_vl hj hi (cd_nn j hj n2) (cd_nn i hi n1)
      obtain ⟨v1, v2, v3⟩ := cd_vl i hi
      obtain ⟨v4, v5, v6⟩ := cd_vl j hj
      have r1 := cd_rk i hi
      have r2 := cd_rk j hj
      have d1 : (fm_valueOf (nI i) - fm_valueOf (nI j)).toInt64.toInt = vlZ i - vlZ j := by
        rw [Int32.toInt_toInt64, Int32.toInt_sub, v1, v4]
        exact Int.bmod_eq_of_le (by omega) (by omega)
      have e1 : ((0 : Int64) ≤ (fm_valueOf (nI i) - fm_valueOf (nI j)).toInt64) ↔ vlZ j ≤ vlZ i := by
        rw [Int64.le_iff_toInt_le, d1, show (0 : Int64).toInt = 0 from by decide]; omega
      have e2 : ((fm_valueOf (nI i) - fm_valueOf (nI j)).toInt64 ≤ (0 : Int64)) ↔ vlZ i ≤ vlZ j := by
        rw [Int64.le_iff_toInt_le, d1, show (0 : Int64).toInt = 0 from by decide]; omega
      have e3 : (fx_rank (nI i) = fx_rank (nI j)) ↔ rkZ i = rkZ j := by
        rw [← Int32.toInt_inj, r1, r2]
      have e4 : (fx_rank (nI j) ≤ fx_rank (nI i)) ↔ rkZ j ≤ rkZ i := by
        rw [Int32.le_iff_toInt_le, r1, r2]
      rw [fm_sign]
      simp only [e1, e2, e3, e4]
      by_cases c1 : rkZ i = rkZ j
      · rw [if_pos c1, if_pos (by omega), if_pos (by omega)]
      · rw [if_neg c1]
        by_cases c2 : rkZ j ≤ rkZ i
        · rw [if_pos c2, if_pos (by omega), if_neg (by omega)]
        · rw [if_neg c2, if_neg (by omega)]
    · rw [if_neg n2, if_neg n2]
  · rw [if_neg n1, if_neg n1]
theorem neg_of {x : Int32} (h : x < 0) (h2 : ¬ x < -1000000) : ∃ k : Nat, 0 < k ∧ k ≤ 1000000 ∧ -x = nI k := by
  rw [Int32.lt_iff_toInt_lt, show (0 : Int32).toInt = 0 from by decide] at h
  rw [Int32.lt_iff_toInt_lt, show (-1000000 : Int32).toInt = -1000000 from by decide] at h2
  refine ⟨(-x.toInt).toNat, by omega, by omega, ?_⟩
  apply Int32.toInt_inj.mp
  rw [nI_toInt (by omega), Int32.toInt_neg]
  rw [Int.bmod_eq_of_le (by omega) (by omega)]
  omega
theorem eq_from {mo : Int32} (hm : okM mo) (no a : Int32) : fx_from mo no a = fm_from mo no a := by
  rw [fx_from, fm_from]
  by_cases c1 : a < -1000000
  · rw [if_pos c1, if_pos c1]
  rw [if_neg c1, if_neg c1]
  by_cases c2 : a ≤ 1000000
  · rw [if_pos c2, if_pos c2]
    by_cases c3 : a < 0
    · obtain ⟨k, k0, k1, e⟩ := neg_of c3 c1
      have n0 : ¬ a = 0 := fun q => by rw [q] at c3; exact absurd c3 (by decide)
      have n1 : a ≤ 0 := Int32.le_of_lt c3
      have n2 : ¬ 0 ≤ a := Int32.not_le.mpr c3
      rw [if_neg n0, if_pos n1, if_neg n2, fm_from_b26, if_neg n0, if_neg n2, e, nI_l (by omega), show (512 : Int64) = lN 512 from rfl, lN_mul]
      have := round_ex hm no (s := 1) (by decide) (A := 512 * k) (B := 1) (f := k) (E := 73) (by omega) (by decide) (by decide) (by omega) (by omega) (by decide) (by omega)
      rw [pr_eta, pr_eta]
      exact this
    · obtain ⟨k, k1, rfl⟩ := nI_of2 (M := 1000000) (n := 1000000) (by decide) c3 c2
      have n2 : (0 : Int32) ≤ nI k := nI_pos' (by omega)
      rw [if_pos n2, fm_from_b26]
      by_cases c4 : nI k = 0
      · rw [if_pos c4, if_pos c4]
      · rw [if_neg c4, if_neg c4, if_pos n2]
        have k0 : 0 < k := Nat.pos_of_ne_zero fun q => c4 (by rw [q]; rfl)
        rw [if_neg (nI_nle k0 (by omega)), nI_l (by omega), show (512 : Int64) = lN 512 from rfl, lN_mul]
        have := round_ex hm no (s := 0) (by decide) (A := 512 * k) (B := 1) (f := k) (E := 73) (by omega) (by decide) (by decide) (by omega) (by omega) (by decide) (by omega)
        rw [pr_eta, pr_eta]
        exact this
  · rw [if_neg c2, if_neg c2]
theorem fx_w130 (no t0 t1 sg : Int32) : fx_whole_b130 no t0 t1 sg = ((fx_whole_b130 0 t0 t1 sg).1, no) := by
  unfold fx_whole_b130
  by_cases c : sg = 0
  · rw [if_pos c, if_pos c]
  · rw [if_neg c, if_neg c]
theorem fx_w99 (mo no : Int32) (x4 : Int64) (x6 t0 sg : Int32) : fx_whole_b99 mo no x4 x6 t0 sg = ((fx_whole_b99 mo 0 x4 x6 t0 sg).1, no) := by
  unfold fx_whole_b99
  by_cases c : fx_upward mo sg x4 x6 t0 = 0
  · rw [if_pos c, if_pos c]; exact fx_w130 _ _ _ _
  · rw [if_neg c, if_neg c]; exact fx_w130 _ _ _ _
theorem fx_w82 (mo no : Int32) (x2 x4 : Int64) (t0 sg : Int32) : fx_whole_b82 mo no x2 x4 t0 sg = ((fx_whole_b82 mo 0 x2 x4 t0 sg).1, no) := by
  unfold fx_whole_b82
  by_cases c : x2 &&& 255 = 0
  · rw [if_pos c, if_pos c]; exact fx_w99 _ _ _ _ _ _
  · rw [if_neg c, if_neg c]; exact fx_w99 _ _ _ _ _ _
theorem pr_if {p : Prop} [Decidable p] {no : Int32} {x x0 y y0 : Int32 × Int32} (h1 : x = (x0.1, no)) (h2 : y = (y0.1, no)) : (if p then x else y) = ((if p then x0 else y0).1, no) := by
  by_cases c : p
  · rw [if_pos c, if_pos c, h1]
  · rw [if_neg c, if_neg c, h2]
theorem fx_whole_no (mo no a : Int32) : fx_whole mo no a = ((fx_whole mo 0 a).1, no) := by
  unfold fx_whole
  exact pr_if (pr_if (pr_if (pr_if (fx_w82 _ _ _ _ _ _) (fx_w82 _ _ _ _ _ _)) (pr_if rfl rfl)) rfl) rfl
set_option maxHeartbeats 4000000 in
theorem fin_whole : ((List.range 4).all fun t => (List.range 256).all fun k => decide ((fx_whole (nI t) 0 (nI k)).1 = fm_whole (nI t) (nI k))) = true := by
  decide +kernel
theorem eq_whole {mo : Int32} (hm : okM mo) (no a : Int32) : fx_whole mo no a = (fm_whole mo a, no) := by
  obtain ⟨t, ht, rfl⟩ := okM_n hm
  rcases cd_split a with ⟨h1, h2⟩ | ⟨h1, h2, i, hi, rfl⟩
  · rw [fx_whole, fm_whole, if_neg h1, if_pos h2]
  have q : (fx_whole (nI t) 0 (nI i)).1 = fm_whole (nI t) (nI i) := of_decide_eq_true (all_at (all_at fin_whole ht) hi)
  rw [fx_whole_no, q]
end
section
set_option maxRecDepth 100000
/-! divide agrees -/
theorem mu_3 (Q g U : Nat) : Q * (g * U) = (g * Q) * U := by rw [← Nat.mul_assoc, Nat.mul_comm Q]
theorem mu_4 (Q g U : Nat) : (Q + 1) * (g * U) = (g * Q + g) * U := by rw [← Nat.mul_assoc, Nat.add_mul Q, Nat.one_mul, Nat.mul_comm Q]
theorem e_12 {a b : Nat} (hb : b ≤ 13) : nI a - 12 - nI b + 9 = nI (a + 61 - b) - 64 := by
  have : nI (a + 61 - b) = nI a + 61 - nI b := by
    rw [← pk_sub (by omega), ← nI_add a 61, show nI 61 = 61 from rfl]
  rw [this]
  grind
theorem dv_pos {a b : Nat} (ha : 0 < a) (hb : 0 < b) (hb2 : b ≤ 15) : 15 < a * 2 ^ 12 / b := by
  have : 16 ≤ a * 2 ^ 12 / b := by
    rw [Nat.le_div_iff_mul_le hb]
    omega
  omega
set_option maxHeartbeats 4000000 in
theorem dv_round {mo : Int32} (hm : okM mo) (no : Int32) {s : Nat} (hs : s < 2) {i j : Nat} (hi : i < 120) (hj : j < 120) (i0 : i ≠ 0) (j0 : j ≠ 0) (sticky : Bool) (hst : sticky = true ↔ frN i * 2 ^ 12 % frN j ≠ 0) :
    fx_round mo no (nI s) (lN (frN i * 2 ^ 12 / frN j)) (nI (exN i + 61 - exN j) - 64) (bI sticky) = fm_round mo no (lN (512 * szN i)) (lN (szN j)) (nI s) := by
  obtain ⟨s1, s2, s3, s4⟩ := cd_sz i hi
  obtain ⟨s5, s6, s7, s8⟩ := cd_sz j hj
  have b1 := sz_max (i := i) (by omega)
  have b2 := sz_max (i := j) (by omega)
  have f0 : 0 < frN i := by omega
  have g0 : 0 < frN j := by omega
  have q15 := dv_pos f0 g0 s6
  have hz : 0 < szN j := by rw [s5]; exact Nat.mul_pos g0 (Nat.pow_pos (by decide))
  have hq : frN i * 2 ^ 12 / frN j ≤ frN i * 2 ^ 12 := Nat.div_le_self _ _
  have hU : 0 < 2 ^ (exN i + 61) := Nat.pow_pos (by decide)
  have e1 : szN j * 2 ^ (exN i + 61 - exN j) = frN j * 2 ^ (exN i + 61) := by
    rw [s5, Nat.mul_assoc, ← Nat.pow_add, show exN j + (exN i + 61 - exN j) = exN i + 61 by omega]
  have e2 : 512 * szN i * 2 ^ 64 = frN i * 2 ^ 12 * 2 ^ (exN i + 61) := by
    rw [s1, Nat.pow_add, show (2 : Nat) ^ 64 = 2 ^ 3 * 2 ^ 61 from rfl, show (2 : Nat) ^ 12 = 512 * 2 ^ 3 from rfl]
    ac_rfl
  have dm := Nat.div_add_mod (frN i * 2 ^ 12) (frN j)
  have dl := Nat.mod_lt (frN i * 2 ^ 12) g0
  have e3 : ∀ Q : Nat, Q * (frN j * 2 ^ (exN i + 61)) = (frN j * Q) * 2 ^ (exN i + 61) := fun Q => mu_3 Q _ _
  have e4 : ∀ Q : Nat, (Q + 1) * (frN j * 2 ^ (exN i + 61)) = (frN j * Q + frN j) * 2 ^ (exN i + 61) := fun Q => mu_4 Q _ _
  refine round_eq hm no hs sticky (A := 512 * szN i) (B := szN j) (by omega) hz (by omega) (by omega) (by omega) (by omega) ?_ ?_ ?_ (fun _ => q15)
  · rw [e1, e2, e3]
    exact Nat.mul_le_mul_right _ (by omega)
  · rw [e1, e2, e4]
    exact Nat.mul_lt_mul_of_pos_right (by omega) hU
  · rw [hst, e1, e2, e3, Ne, Ne, Nat.mul_left_inj (Nat.ne_of_gt hU)]
    omega
set_option maxHeartbeats 4000000 in
theorem eq_divide {mo : Int32} (hm : okM mo) (no a b : Int32) : fx_divide mo no a b = fm_divide mo no a b := by
  rcases cd_split a with ⟨h1, h2⟩ | ⟨h1, h2, i, hi, rfl⟩
  · rw [fx_divide, fm_divide, if_neg h1, if_pos h2]
  rcases cd_split b with ⟨h3, h4⟩ | ⟨h3, h4, j, hj, rfl⟩
  · rw [fx_divide, fm_divide, if_pos h1, if_neg h3, if_neg h2, if_pos h4]
  rw [fx_divide, fm_divide, if_pos h1, if_pos h3, if_neg h2, if_neg h4]
  rw [cd_none i hi, cd_none j hj]
  by_cases n1 : fx_isNone (nI i) = 0
  · rw [if_pos n1, if_pos n1]
    by_cases n2 : fx_isNone (nI j) = 0
    · rw [if_pos n2, if_pos n2, cd_neg i hi, cd_neg j hj, cd_same hi hj (fun t => fm_divide_b55 mo (nI i) (nI j) t no), cd_xor hi hj]
      have hs : (i / 128 + j / 128) % 2 < 2 := Nat.mod_lt _ (by decide)
      generalize (i / 128 + j / 128) % 2 = s at hs ⊢
      obtain ⟨z1, z2⟩ := sg_128 s hs
      have L : fx_divide_b81 mo (nI i) (nI j) (nI s) no = fm_divide_b93 mo (nI i) (nI j) (nI s) no := by
        rw [fx_divide_b81, fm_divide_b93, cd_zero i hi, cd_zero j hj, cd_inf i hi, cd_inf j hj, z1, z2]
        by_cases f1 : fx_isInfinite (nI i) = 0
        · rw [if_pos f1, if_pos f1]
          by_cases f2 : fx_isInfinite (nI j) = 0
          · rw [if_pos f2, if_pos f2]
            by_cases y1 : fx_isZero (nI i) = 0
            · rw [if_pos y1, if_pos y1]
              by_cases y2 : fx_isZero (nI j) = 0
              · rw [if_pos y2, if_pos y2]
                have hi2 := cd_fin i hi n1 f1
                have hj2 := cd_fin j hj n2 f2
                obtain ⟨-, u1, u2⟩ := cd_up i hi
                obtain ⟨-, u3, u4⟩ := cd_up j hj
                have w1 := (cd_z i hi).mp y1
                have w2 := (cd_z j hj).mp y2
                obtain ⟨s1, s2, s3, s4⟩ := cd_sz (i % 128) hi2
                obtain ⟨s5, s6, s7, s8⟩ := cd_sz (j % 128) hj2
                have g0 : 0 < frN (j % 128) := by omega
                have ez : (lN (frN (j % 128)) ≤ 0) ↔ frN (j % 128) ≤ 0 := pk_lLE (b := 0) (by omega) (by decide)
                have n0 : ¬ lN (frN (j % 128)) ≤ 0 := by rw [ez]; omega
                have eS : lN (frN (i % 128)) <<< ((12 : Int32).toInt64 &&& 63) = lN (frN (i % 128) * 2 ^ 12) := wb_shl (frN (i % 128)) (k := 12) (by decide)
                rw [cd_ix hi, cd_ix hj, sz_l (by omega), sz_l (by omega), u1, u2, u3, u4, show (512 : Int64) = lN 512 from rfl, lN_mul, eS, if_neg n0, fx_divide_b196, if_neg n0, pk_lDiv (by omega) g0 (by omega)]
                rw [show lN (frN (i % 128) * 2 ^ 12) - lN (frN (i % 128) * 2 ^ 12 / frN (j % 128)) * lN (frN (j % 128)) = lN (frN (i % 128) * 2 ^ 12 % frN (j % 128)) by rw [← pk_lDiv (by omega) g0 (by omega)]; exact pk_lRem (by omega) g0 (by omega)]
                have hml := Nat.mod_lt (frN (i % 128) * 2 ^ 12) g0
                have er : (lN (frN (i % 128) * 2 ^ 12 % frN (j % 128)) = 0) ↔ frN (i % 128) * 2 ^ 12 % frN (j % 128) = 0 := pk_lEQ (b := 0) (by omega) (by decide)
                simp only [er]
                rw [fx_divide_b223, fx_divide_b224, fx_divide_b224, e_12 s7, pr_eta, pr_eta, pr_eta]
                by_cases c : frN (i % 128) * 2 ^ 12 % frN (j % 128) = 0
                · rw [if_pos c]
                  exact dv_round hm no hs hi2 hj2 w1 w2 false ⟨fun q => absurd q (by decide), fun q => absurd c q⟩
                · rw [if_neg c]
                  exact dv_round hm no hs hi2 hj2 w1 w2 true ⟨fun _ => c, fun _ => rfl⟩
              · rw [if_neg y2, if_neg y2]
            · rw [if_neg y1, if_neg y1]
          · rw [if_neg f2, if_neg f2]
            by_cases y1 : fx_isZero (nI i) = 0
            · rw [if_pos y1]
            · rw [if_neg y1]
        · rw [if_neg f1, if_neg f1]
      rw [fm_divide_b55, fx_divide_b60, fm_divide_b72, L, cd_zero i hi, cd_zero j hj, cd_inf i hi, cd_inf j hj]
      rfl
    · rw [if_neg n2, if_neg n2]
  · rw [if_neg n1, if_neg n1]
end
section
set_option maxRecDepth 100000
/-! root agrees: the digits of the first class against the search of the second, by a finite look at plain numbers -/
def rtN : Nat → Nat → Nat → Nat
  | 0, _, r => r
  | k + 1, F, r => if F < (r ||| 2 ^ k) * (r ||| 2 ^ k) then rtN k F r else rtN k F (r ||| 2 ^ k)
theorem or_lt {r k : Nat} (hr : r < 2 ^ 13) (hk : k < 13) : r ||| 2 ^ k < 2 ^ 13 := Nat.or_lt_two_pow hr (wb_lt2 hk)
theorem rt_lt : ∀ (k F r : Nat), k ≤ 13 → r < 2 ^ 13 → rtN k F r < 2 ^ 13 := by
  intro k
  induction k with
  | zero => intro F r _ h; exact h
  | succ k ih =>
    intro F r hk h
    rw [rtN]
    by_cases c : F < (r ||| 2 ^ k) * (r ||| 2 ^ k)
    · rw [if_pos c]; exact ih F r (by omega) h
    · rw [if_neg c]; exact ih F _ (by omega) (or_lt h (by omega))
def rtE (mo no x2 : Int32) (F r : Nat) : Int32 × Int32 := if r * r = F then fx_round mo no 0 (lN r) (x2 / 2) (bI false) else fx_round mo no 0 (lN r) (x2 / 2) (bI true)
theorem rt_loop (mo no x2 : Int32) {F : Nat} (hF : F < 2 ^ 40) : ∀ (n r : Nat), n ≤ 13 → r < 2 ^ 13 → fx_root_b100 (n + 1) mo x2 (lN F) (lN r) (nI n - 1) no = rtE mo no x2 F (rtN n F r) := by
  intro n
  induction n with
  | zero =>
    intro r _ hr
    have h1 : r * r ≤ 2 ^ 13 * 2 ^ 13 := mul_bd (by omega) (by omega)
    rw [fx_root_b100.eq_2, if_pos (by decide), lN_mul, rtN, rtE]
    have e : (lN (r * r) = lN F) ↔ r * r = F := pk_lEQ (by omega) (by omega)
    by_cases c : r * r = F
    · rw [if_pos (e.mpr c), if_pos c, pr_eta]; rfl
    · rw [if_neg (fun q => c (e.mp q)), if_neg c, pr_eta]; rfl
  | succ k ih =>
    intro r hk hr
    have ho := or_lt hr (show k < 13 by omega)
    have h1 : (r ||| 2 ^ k) * (r ||| 2 ^ k) ≤ 2 ^ 13 * 2 ^ 13 := mul_bd (by omega) (by omega)
    have hp := wb_lt2 (show k < 13 by omega)
    have e1 : (1 : Int64) <<< ((nI k).toInt64 &&& 63) = lN (2 ^ k) := by
      rw [show (1 : Int64) = lN 1 from rfl, wb_shl 1 (by omega), Nat.one_mul]
    have e2 : lN r ||| lN (2 ^ k) = lN (r ||| 2 ^ k) := wb_or (by omega) (by omega)
    have e3 : (lN F < lN ((r ||| 2 ^ k) * (r ||| 2 ^ k))) ↔ F < (r ||| 2 ^ k) * (r ||| 2 ^ k) := pk_lLT (by omega) (by omega)
    rw [nI_pred, fx_root_b100.eq_2, if_neg (nI_pos (by omega)), e1, e2, lN_mul, show nI k + (-1) = nI k - 1 by grind, rtN]
    by_cases c : F < (r ||| 2 ^ k) * (r ||| 2 ^ k)
    · rw [if_pos (e3.mpr c), if_pos c]; exact ih r (by omega) hr
    · rw [if_neg (fun q => c (e3.mp q)), if_neg c]; exact ih _ (by omega) ho
def rtF (j : Nat) : Nat := if exN j % 2 = 0 then frN j * 2 ^ 17 else frN j * 2 ^ 16
def rtR (j : Nat) : Nat := rtN 13 (rtF j) 0
def rtA (j : Nat) : Nat := (2 * rtR j + (if rtR j * rtR j = rtF j then 0 else 1)) * 2 ^ ((exN j + 1) / 2)
theorem rt_e : ∀ x, x ≤ 13 → (((nI x + 9 - 16) &&& 1 = 1) ↔ x % 2 = 0) ∧ (x % 2 = 0 → (nI x + 9 - 16 + (-1)) / 2 = nI ((x + 1) / 2 + 60) - 64) ∧ (¬ x % 2 = 0 → (nI x + 9 - 16) / 2 = nI ((x + 1) / 2 + 60) - 64) := by decide +kernel
theorem rt_15 : ∀ j, j < 120 → j ≠ 0 → 15 < rtR j ∧ rtA j < szN 120 * 32 := by decide +kernel
def rtQ (A S c : Nat) : Bool := (decide (szN c * 32 ≤ A) == decide (szN c * szN c ≤ S)) && ((decide (2 * A < (szN c + szN (c + 1)) * 32) == decide (4 * S < (szN c + szN (c + 1)) * (szN c + szN (c + 1)))) &&
    ((decide (2 * A = (szN c + szN (c + 1)) * 32) == decide (4 * S = (szN c + szN (c + 1)) * (szN c + szN (c + 1)))) && (decide (szN c * 32 = A) == decide (szN c * szN c = S))))
set_option maxHeartbeats 4000000 in
theorem rt_fin1 : ((List.range 120).all fun j => decide (j = 0) || (List.range 120).all fun c => rtQ (rtA j) (512 * szN j) c) = true := by decide +kernel
theorem rt_fin (j : Nat) (hj : j < 120) (j0 : j ≠ 0) (c : Nat) (hc : c < 120) : (szN c * 32 ≤ rtA j ↔ szN c * szN c ≤ 512 * szN j) ∧ (2 * rtA j < (szN c + szN (c + 1)) * 32 ↔ 4 * (512 * szN j) < (szN c + szN (c + 1)) * (szN c + szN (c + 1))) ∧
    (2 * rtA j = (szN c + szN (c + 1)) * 32 ↔ 4 * (512 * szN j) = (szN c + szN (c + 1)) * (szN c + szN (c + 1))) ∧ (szN c * 32 = rtA j ↔ szN c * szN c = 512 * szN j) := by
  have h := all_at rt_fin1 hj
  rw [Bool.or_eq_true, decide_eq_true_eq] at h
  have h : rtQ (rtA j) (512 * szN j) c = true := all_at (h.resolve_left j0) hc
  unfold rtQ at h
  rw [Bool.and_eq_true, Bool.and_eq_true, Bool.and_eq_true, beq_iff_eq, beq_iff_eq, beq_iff_eq, beq_iff_eq, decide_eq_decide, decide_eq_decide, decide_eq_decide, decide_eq_decide] at h
  exact h
theorem m_b104 (mo no : Int32) {S c : Nat} (hS : S < 2 ^ 40) (hc : c ≤ 119) : fm_root_b104 mo (lN S) (nI c) no =
    fm_choose mo no (nI c) (if 4 * S < (szN c + szN (c + 1)) * (szN c + szN (c + 1)) then -1 else if 4 * S = (szN c + szN (c + 1)) * (szN c + szN (c + 1)) then 0 else 1) (if szN c * szN c = S then 1 else 0) 0 0 := by
  have z1 := sz_max (i := c) (by omega)
  have z2 := sz_max (i := c + 1) (by omega)
  have b1 : szN c * szN c ≤ 131072 * 131072 := mul_bd z1 z1
  have b2 : (szN c + szN (c + 1)) * (szN c + szN (c + 1)) ≤ 262144 * 262144 := mul_bd (by omega) (by omega)
  have e1 : (nI c).toNatClampNeg = c := nI_clamp (by omega)
  have e2 : (nI c + 1).toNatClampNeg = c + 1 := by rw [nI_1]; exact nI_clamp (by omega)
  have e4 : (4 : Int64) * lN S = lN (4 * S) := lN_mul 4 S
  have e5 : (lN (szN c * szN c) = lN S) ↔ szN c * szN c = S := pk_lEQ (by omega) (by omega)
  rw [fm_root_b104]
  simp only [fm_root_b168, e1, e2, e4, sz_l (show c ≤ 120 by omega), sz_l2 (show c ≤ 120 by omega) (show c + 1 ≤ 120 by omega), lN_mul, e5]
  rw [m_more (by omega) (by omega)]
  by_cases c1 : szN c * szN c = S
  · rw [if_pos c1, if_pos c1]
  · rw [if_neg c1, if_neg c1]
theorem m_rloop (mo no : Int32) {S : Nat} (hS : S < 2 ^ 40) : ∀ n, 1 ≤ n → n ≤ 120 → szN (120 - n) * szN (120 - n) ≤ S →
    ∃ c, c ≤ 119 ∧ szN c * szN c ≤ S ∧ (c < 119 → S < szN (c + 1) * szN (c + 1)) ∧ fm_root_b65 n mo (lN S) (nI (120 - n)) no = fm_root_b104 mo (lN S) (nI c) no := by
  intro n
  induction n with
  | zero => intro h; exact absurd h (by decide)
  | succ n ih =>
    intro _ hn hle
    have hc : 120 - (n + 1) ≤ 119 := by omega
    have hc2 : 120 - (n + 1) + 1 = 120 - n := by omega
    have z1 := sz_max (i := 120 - n) (by omega)
    have b2 : szN (120 - n) * szN (120 - n) ≤ 131072 * 131072 := mul_bd z1 z1
    have e2 : (nI (120 - (n + 1)) + 1).toNatClampNeg = 120 - n := by rw [nI_1, hc2]; exact nI_clamp (by omega)
    have e3 : ((119 : Int32) ≤ nI (120 - (n + 1))) ↔ 119 ≤ 120 - (n + 1) := nI_leI (a := 119) (by decide) (by omega)
    have e4 : (lN S < lN (szN (120 - n) * szN (120 - n))) ↔ S < szN (120 - n) * szN (120 - n) := pk_lLT (by omega) (by omega)
    rw [fm_root_b65.eq_2]
    simp only [e2, e3, sz_l (show 120 - n ≤ 120 by omega), lN_mul, e4]
    by_cases c1 : 119 ≤ 120 - (n + 1)
    · rw [if_pos c1]
      exact ⟨_, hc, hle, fun h => absurd h (by omega), rfl⟩
    · rw [if_neg c1]
      by_cases c2 : S < szN (120 - n) * szN (120 - n)
      · rw [if_pos c2]
        exact ⟨_, hc, hle, fun _ => by rw [hc2]; exact c2, rfl⟩
      · rw [if_neg c2, nI_1, hc2]
        exact ih (by omega) (by omega) (by omega)
theorem ite_iff {α : Type} {p q : Prop} [Decidable p] [Decidable q] (h : p ↔ q) (x y : α) : (if p then x else y) = if q then x else y := by
  by_cases c : p
  · rw [if_pos c, if_pos (h.mp c)]
  · rw [if_neg c, if_neg (fun z => c (h.mpr z))]
set_option maxHeartbeats 4000000 in
theorem rt_eq {mo : Int32} (hm : okM mo) (no : Int32) {j : Nat} (hj : j < 120) (j0 : j ≠ 0) (sticky : Bool) (hst : sticky = true ↔ ¬ rtR j * rtR j = rtF j) :
    fx_round mo no 0 (lN (rtR j)) (nI ((exN j + 1) / 2 + 60) - 64) (bI sticky) = fm_root_b65 120 mo (lN (512 * szN j)) 0 no := by
  obtain ⟨s1, s2, s3, s4⟩ := cd_sz j hj
  obtain ⟨r15, rA⟩ := rt_15 j hj j0
  have hlt := rt_lt 13 (rtF j) 0 (by decide) (by decide)
  have hlt : rtR j < 2 ^ 13 := hlt
  have z120 : szN 120 = 131072 := by decide
  have hz := sz_max (i := j) (by omega)
  have hU : 0 < 2 ^ ((exN j + 1) / 2 + 64) := Nat.pow_pos (by decide)
  have e1 : rtA j * 2 ^ 64 = (2 * rtR j + (if rtR j * rtR j = rtF j then 0 else 1)) * 2 ^ ((exN j + 1) / 2 + 64) := by
    rw [rtA, Nat.mul_assoc, ← Nat.pow_add]
  have e2 : (32 : Nat) * 2 ^ ((exN j + 1) / 2 + 60) = 2 * 2 ^ ((exN j + 1) / 2 + 64) := by
    have : 2 ^ ((exN j + 1) / 2 + 60 + 4) = 2 ^ ((exN j + 1) / 2 + 60) * 2 ^ 4 := Nat.pow_add 2 ((exN j + 1) / 2 + 60) 4
    rw [show (exN j + 1) / 2 + 64 = (exN j + 1) / 2 + 60 + 4 by omega, this, show (2 : Nat) ^ 4 = 16 from rfl]
    generalize 2 ^ ((exN j + 1) / 2 + 60) = q
    omega
  have e3 : ∀ x : Nat, x * (2 * 2 ^ ((exN j + 1) / 2 + 64)) = (2 * x) * 2 ^ ((exN j + 1) / 2 + 64) := fun x => mu_3 x _ _
  have key := round_eq hm no (s := 0) (by decide) sticky (A := rtA j) (B := 32) (f := rtR j) (E := (exN j + 1) / 2 + 60) (by omega) (by decide) (by decide) (by omega) (by omega) (by omega)
    (by rw [e1, e2, e3]; exact Nat.mul_le_mul_right _ (by omega))
    (by rw [e1, e2, e3]; exact Nat.mul_lt_mul_of_pos_right (by split <;> omega) hU)
    (by
      rw [hst, e1, e2, e3, Ne, Nat.mul_left_inj (Nat.ne_of_gt hU)]
      by_cases c : rtR j * rtR j = rtF j
      · rw [if_pos c]; exact ⟨fun q => absurd c q, fun q => absurd (by omega) q⟩
      · rw [if_neg c]; exact ⟨fun _ => by omega, fun _ => c⟩)
    (fun _ => r15)
  have key : fx_round mo no 0 (lN (rtR j)) (nI ((exN j + 1) / 2 + 60) - 64) (bI sticky) = fm_round mo no (lN (rtA j)) (lN 32) (nI 0) := key
  rw [key]
  obtain ⟨c, g1, g2, g3, g4⟩ := m_round (mo := mo) (no := no) (neg := nI 0) (A := rtA j) (B := 32) (by omega) (by decide)
  obtain ⟨c', k1, k2, k3, k4⟩ := m_rloop mo no (S := 512 * szN j) (by omega) 120 (by decide) (by decide) (by show 0 * 0 ≤ _; exact Nat.zero_le _)
  have k4 : fm_root_b65 120 mo (lN (512 * szN j)) 0 no = fm_root_b104 mo (lN (512 * szN j)) (nI c') no := k4
  rw [g4, k4, m_b104 mo no (by omega) k1, if_pos rA]
  have hcc : c = c' := by
    rcases Nat.lt_trichotomy c c' with h | h | h
    · exfalso
      have q1 := g3 (by omega)
      have q2 := sz_le (i := c + 1) (j := c') (by omega) (by omega)
      have q3 := ((rt_fin j hj j0 c' (by omega)).1).mpr k2
      have q4 : szN (c + 1) * 32 ≤ szN c' * 32 := Nat.mul_le_mul_right _ q2
      omega
    · exact h
    · exfalso
      have q1 := k3 (by omega)
      have q2 := sz_le (i := c' + 1) (j := c) (by omega) (by omega)
      have q3 := ((rt_fin j hj j0 c (by omega)).1).mp g2
      have q4 : szN (c' + 1) * szN (c' + 1) ≤ szN c * szN c := mul_bd q2 q2
      omega
  subst hcc
  obtain ⟨-, f2, f3, f4⟩ := rt_fin j hj j0 c (by omega)
  rw [ite_iff f2, ite_iff f3, ite_iff f4]
  all_goals rfl
theorem cd_i120 : ∀ k, k < 128 → ((nI k = 120) ↔ ¬ fx_isInfinite (nI k) = 0) := by decide +kernel
set_option maxHeartbeats 4000000 in
theorem eq_root {mo : Int32} (hm : okM mo) (no a : Int32) : fx_root mo no a = fm_root mo no a := by
  rcases cd_split a with ⟨h1, h2⟩ | ⟨h1, h2, i, hi, rfl⟩
  · rw [fx_root, fm_root, if_neg h1, if_pos h2]
  rw [fx_root, fm_root, if_pos h1, if_neg h2, cd_none i hi, cd_zero i hi]
  by_cases n1 : fx_isNone (nI i) = 0
  · rw [if_pos n1, if_pos n1]
    by_cases y1 : fx_isZero (nI i) = 0
    · rw [if_pos y1, if_pos y1, cd_neg i hi]
      by_cases c : i < 128
      · have q128 : nI i < (128 : Int32) := nI_lt (b := 128) c (by decide)
        rw [if_pos q128]
        by_cases f1 : fx_isInfinite (nI i) = 0
        · have hn : ¬ nI i = 120 := fun q => (cd_i120 i c).mp q f1
          rw [if_pos f1, if_neg hn, show i / 128 = 0 by omega, if_pos nI_0]
          have hi2 := cd_fin i hi n1 f1
          have w1 := (cd_z i hi).mp y1
          obtain ⟨-, u1, u2⟩ := cd_up i hi
          rw [Nat.mod_eq_of_lt c] at hi2 w1 u1 u2
          obtain ⟨s1, s2, s3, s4⟩ := cd_sz i hi2
          obtain ⟨t1, t2, t3⟩ := rt_e (exN i) s3
          have eS : lN (frN i) <<< ((16 : Int32).toInt64 &&& 63) = lN (frN i * 2 ^ 16) := wb_shl (frN i) (k := 16) (by decide)
          rw [u1, u2, eS, l_twice, nI_clamp (by omega), sz_l (by omega), show (512 : Int64) = lN 512 from rfl, lN_mul]
          have G : ∀ x2 : Int32, x2 / 2 = nI ((exN i + 1) / 2 + 60) - 64 → fx_root_b93 mo x2 (lN (rtF i)) no = fm_root_b65 120 mo (lN (512 * szN i)) 0 no := by
            intro x2 hx2
            have hF : rtF i < 2 ^ 40 := by rw [rtF]; split <;> omega
            have hl : fx_root_b93 mo x2 (lN (rtF i)) no = rtE mo no x2 (rtF i) (rtR i) := rt_loop mo no x2 hF 13 0 (by decide) (by decide)
            rw [hl, rtE, hx2]
            by_cases c : rtR i * rtR i = rtF i
            · rw [if_pos c]
              exact rt_eq hm no hi2 w1 false ⟨fun q => absurd q (by decide), fun q => absurd c q⟩
            · rw [if_neg c]
              exact rt_eq hm no hi2 w1 true ⟨fun _ => c, fun _ => rfl⟩
          by_cases o : exN i % 2 = 0
          · rw [if_pos (t1.mpr o), show frN i * 2 ^ 16 * 2 = rtF i by rw [rtF, if_pos o]; omega]
            exact G _ (t2 o)
          · rw [if_neg (fun q => o (t1.mp q)), show frN i * 2 ^ 16 = rtF i by rw [rtF, if_neg o]]
            exact G _ (t3 o)
        · rw [if_neg f1, if_pos ((cd_i120 i c).mpr f1)]
      · have hn : ¬ nI i = 120 := fun q => by
          have : i = 120 := (nI_eq (b := 120) (by omega) (by decide)).mp q
          omega
        have q128 : ¬ nI i < (128 : Int32) := nI_nlt (b := 128) (by omega) (by omega)
        rw [if_neg q128, if_neg hn, show i / 128 = 1 by omega, if_neg (by decide)]
        rfl
    · rw [if_neg y1, if_neg y1]
  · rw [if_neg n1, if_neg n1]
end
section
set_option maxRecDepth 100000
/-! sums agree: numbers with signs, lined up -/
def sI (t n : Nat) : Int64 := if t = 0 then lN n else -(lN n)
theorem sI_0 (n : Nat) : sI 0 n = lN n := rfl
theorem sI_1 (n : Nat) : sI 1 n = -(lN n) := rfl
theorem sI_mul (t n B : Nat) : sI t n * lN B = sI t (n * B) := by
  unfold sI
  by_cases c : t = 0
  · rw [if_pos c, if_pos c, lN_mul]
  · rw [if_neg c, if_neg c, ← lN_mul]
    grind
theorem sI_toInt {t n : Nat} (h : n < 2 ^ 62) : (sI t n).toInt = if t = 0 then (n : Int) else -(n : Int) := by
  unfold sI
  by_cases c : t = 0
  · rw [if_pos c, if_pos c, pk_lT (by omega)]
  · rw [if_neg c, if_neg c, Int64.toInt_neg, pk_lT (by omega)]
    exact Int.bmod_eq_of_le (by omega) (by omega)
theorem sI_eq0 {t n : Nat} (h : n < 2 ^ 62) : sI t n = 0 ↔ n = 0 := by
  rw [← Int64.toInt_inj, sI_toInt h, show (0 : Int64).toInt = 0 from by decide]
  split <;> omega
theorem sI_le0 {t n : Nat} (h : n < 2 ^ 62) (h0 : n ≠ 0) : sI t n ≤ 0 ↔ t ≠ 0 := by
  rw [Int64.le_iff_toInt_le, sI_toInt h, show (0 : Int64).toInt = 0 from by decide]
  split <;> omega
theorem sI_ge0 {t n : Nat} (h : n < 2 ^ 62) (h0 : n ≠ 0) : 0 ≤ sI t n ↔ t = 0 := by
  rw [Int64.le_iff_toInt_le, sI_toInt h, show (0 : Int64).toInt = 0 from by decide]
  split <;> omega
theorem sI_z (t : Nat) : sI t 0 = 0 := (sI_eq0 (by decide)).mpr rfl
theorem sI_neg (n : Nat) : -(sI 1 n) = lN n := by
  rw [sI_1]; grind
theorem sI_add {s r : Nat} (hs : s < 2) (hr : r < 2) (x y : Nat) : ∃ t n : Nat, t < 2 ∧ sI s x + sI r y = sI t n ∧ ((s = r ∧ t = s ∧ n = x + y) ∨ (s ≠ r ∧ y ≤ x ∧ t = s ∧ n = x - y) ∨ (s ≠ r ∧ x < y ∧ t = r ∧ n = y - x)) := by
  rcases (show s = 0 ∨ s = 1 by omega) with rfl | rfl <;> rcases (show r = 0 ∨ r = 1 by omega) with rfl | rfl
  · exact ⟨0, x + y, by decide, by rw [sI_0, sI_0, sI_0, lN_add], Or.inl ⟨rfl, rfl, rfl⟩⟩
  · by_cases c : y ≤ x
    · exact ⟨0, x - y, by decide, by rw [sI_0, sI_1, sI_0, ← lN_sub c]; grind, Or.inr (Or.inl ⟨by decide, c, rfl, rfl⟩)⟩
    · exact ⟨1, y - x, by decide, by rw [sI_0, sI_1, sI_1, ← lN_sub (show x ≤ y by omega)]; grind, Or.inr (Or.inr ⟨by decide, by omega, rfl, rfl⟩)⟩
  · by_cases c : y ≤ x
    · exact ⟨1, x - y, by decide, by rw [sI_0, sI_1, sI_1, ← lN_sub c]; grind, Or.inr (Or.inl ⟨by decide, c, rfl, rfl⟩)⟩
    · exact ⟨0, y - x, by decide, by rw [sI_0, sI_1, sI_0, ← lN_sub (show x ≤ y by omega)]; grind, Or.inr (Or.inr ⟨by decide, by omega, rfl, rfl⟩)⟩
  · exact ⟨1, x + y, by decide, by rw [sI_1, sI_1, sI_1, ← lN_add]; grind, Or.inl ⟨rfl, rfl, rfl⟩⟩
def z3 (mo : Int32) : Int32 := if mo = 3 then 128 else 0
theorem zs_ne : ∀ s, s < 2 → ¬ nI s = 1 - nI s := by decide +kernel
theorem zs_1 (mo : Int32) {s : Nat} (hs : s < 2) : fx_zeroSum mo (nI s) (1 - nI s) = z3 mo := by
  rw [fx_zeroSum, if_neg (zs_ne s hs), z3]
theorem l_eq0 {n : Nat} (h : n < 2 ^ 62) : lN n = 0 ↔ n = 0 := pk_lEQ (b := 0) (by omega) (by decide)
theorem sm_xend (mo no : Int32) {s t n f : Nat} (x5 x9 : Int32) (x6 t0 t1 : Int64) (hs : s < 2) (ht : t < 2) (f0 : f ≠ 0) (hf : f < 2 ^ 62) (hn : n < 2 ^ 62) (h : t0 + t1 = sI t n) :
    fx_sumOf_b60 mo (nI s) (lN f) x5 x6 x9 t0 t1 no = if n = 0 then (z3 mo, no) else fx_round mo no (nI t) (lN n) x9 0 := by
  have hf2 : ¬ lN f = 0 := fun q => f0 ((l_eq0 hf).mp q)
  rw [fx_sumOf_b60, h, if_neg hf2, zs_1 mo hs]
  by_cases c : n = 0
  · rw [if_pos c, if_pos ((sI_eq0 hn).mpr c)]
  · rw [if_neg c, if_neg (fun q => c ((sI_eq0 hn).mp q))]
    rcases (show t = 0 ∨ t = 1 by omega) with rfl | rfl
    · have hg : ¬ sI 0 n ≤ 0 := fun q => (sI_le0 hn c).mp q rfl
      rw [if_neg hg, pr_eta, sI_0]
      all_goals rfl
    · have hg : sI 1 n ≤ 0 := (sI_le0 hn c).mpr (by decide)
      rw [if_pos hg, pr_eta, sI_neg]
      all_goals rfl
theorem m_z3 (mo no x5 : Int32) : fm_finiteSum_b63 mo x5 0 no = (z3 mo, no) := by
  rw [fm_finiteSum_b63, if_pos rfl, z3]
  by_cases c : mo = 3
  · rw [if_pos c, if_pos c]; rfl
  · rw [if_neg c, if_neg c]; rfl
theorem sm_mend (mo no x5 x6 : Int32) (x1 x3 : Int64) {t N : Nat} (ht : t < 2) (hN : N < 2 ^ 62) (h : x1 + (fm_valueOf x6).toInt64 * x3 = sI t N) (h1 : ¬ x1 = 0 ∨ N ≠ 0) :
    fm_finiteSum mo no x1 x3 x5 x6 = if N = 0 then (z3 mo, no) else fm_round mo no (lN N) x3 (nI t) := by
  rw [fm_finiteSum, h]
  by_cases c : N = 0
  · rw [if_pos c, if_pos ((sI_eq0 hN).mpr c)]
    have hx : ¬ x1 = 0 := by
      rcases h1 with h1 | h1
      · exact h1
      · exact absurd c h1
    rw [if_neg hx, fm_finiteSum_b39, fm_finiteSum_b40, if_pos rfl, fm_finiteSum_b62, m_z3]
  · rw [if_neg c, if_neg (fun q => c ((sI_eq0 hN).mp q))]
    rcases (show t = 0 ∨ t = 1 by omega) with rfl | rfl
    · have hg := (sI_ge0 (t := 0) hN c).mpr rfl
      rw [if_pos hg, fm_finiteSum_b109, if_pos hg, pr_eta, sI_0]
      all_goals rfl
    · have hg : ¬ 0 ≤ sI 1 N := fun q => absurd ((sI_ge0 hN c).mp q) (by decide)
      rw [if_neg hg, fm_finiteSum_b109, if_neg hg, pr_eta, sI_neg]
      all_goals rfl
theorem e_le {a b : Nat} (ha : a < 2 ^ 20) (hb : b < 2 ^ 20) : (nI a - 64 ≤ nI b - 64) ↔ a ≤ b := by
  rw [Int32.le_iff_toInt_le, show (64 : Int32) = nI 64 from rfl, pk_sub_toInt (by omega) (by decide), pk_sub_toInt (by omega) (by decide)]
  omega
theorem e_sub {a b : Nat} (h : b ≤ a) : nI a - 64 - (nI b - 64) = nI (a - b) := by
  rw [← pk_sub h]; grind
theorem e_64 (a : Nat) : nI a = nI (a + 64) - 64 := by
  rw [← nI_add a 64, show nI 64 = 64 from rfl]; grind
theorem sm_b14 (mo no : Int32) {s r f g E1 E2 L : Nat} (hs : s < 2) (hr : r < 2) (h1 : L ≤ E1) (h2 : L ≤ E2) (k1 : E1 - L < 64) (k2 : E2 - L < 64) :
    fx_sumOf_b14 mo (nI s) (lN f) (nI E1 - 64) (nI r) (lN g) (nI E2 - 64) (nI L - 64) no = fx_sumOf_b60 mo (nI s) (lN f) (nI r) (lN g) (nI L - 64) (sI s (f * 2 ^ (E1 - L))) (sI r (g * 2 ^ (E2 - L))) no := by
  rw [fx_sumOf_b14, e_sub h1, e_sub h2, wb_shl f k1, wb_shl g k2]
  rcases (show s = 0 ∨ s = 1 by omega) with rfl | rfl
  · rw [if_pos nI_0, fx_sumOf_b47]
    rcases (show r = 0 ∨ r = 1 by omega) with rfl | rfl
    · rw [if_pos nI_0]; all_goals rfl
    · rw [if_neg (by decide)]; all_goals rfl
  · rw [if_neg (by decide), fx_sumOf_b47]
    rcases (show r = 0 ∨ r = 1 by omega) with rfl | rfl
    · rw [if_pos nI_0]; all_goals rfl
    · rw [if_neg (by decide)]; all_goals rfl
theorem sm_sumOf (mo no : Int32) {s r f g E1 E2 : Nat} (hs : s < 2) (hr : r < 2) (b1 : 40 ≤ E1) (b2 : E1 ≤ 100) (b3 : 40 ≤ E2) (b4 : E2 ≤ 100) :
    ∃ L, L ≤ E1 ∧ L ≤ E2 ∧ 40 ≤ L ∧ fx_sumOf mo no (nI s) (lN f) (nI E1 - 64) (nI r) (lN g) (nI E2 - 64) = fx_sumOf_b60 mo (nI s) (lN f) (nI r) (lN g) (nI L - 64) (sI s (f * 2 ^ (E1 - L))) (sI r (g * 2 ^ (E2 - L))) no := by
  rw [fx_sumOf]
  have e := e_le (a := E2) (b := E1) (by omega) (by omega)
  by_cases c : E2 ≤ E1
  · rw [if_pos (e.mpr c)]
    exact ⟨E2, c, Nat.le_refl _, b3, sm_b14 mo no hs hr c (Nat.le_refl _) (by omega) (by omega)⟩
  · rw [if_neg (fun q => c (e.mp q))]
    exact ⟨E1, Nat.le_refl _, by omega, b1, sm_b14 mo no hs hr (Nat.le_refl _) (by omega) (by omega) (by omega)⟩
theorem cd_v64 : ∀ k, k < 256 → (fm_valueOf (nI k)).toInt64 = sI (k / 128) (szN (k % 128)) := by decide +kernel
set_option maxHeartbeats 4000000 in
/-- the sum of two numbers that aren't 0 -/
theorem sm_two {mo : Int32} (hm : okM mo) (no : Int32) {s r A C B f g E1 E2 j : Nat} (hs : s < 2) (hr : r < 2) (hv : (fm_valueOf (nI j)).toInt64 * lN B = sI r C) (hA : A * 2 ^ 64 = f * (B * 2 ^ E1)) (hC : C * 2 ^ 64 = g * (B * 2 ^ E2)) (hA2 : A < 2 ^ 50) (hC2 : C < 2 ^ 50) (hB : 0 < B) (hB2 : B < 2 ^ 20) (hf : f ≤ 225) (hg : g ≤ 225) (f0 : f ≠ 0) (b1 : 40 ≤ E1) (b2 : E1 ≤ 90) (b3 : 40 ≤ E2) (b4 : E2 ≤ 90) :
    fx_sumOf mo no (nI s) (lN f) (nI E1 - 64) (nI r) (lN g) (nI E2 - 64) = fm_finiteSum mo no (sI s A) (lN B) (nI s) (nI j) := by
  obtain ⟨L, l1, l2, l3, e⟩ := sm_sumOf mo no (f := f) (g := g) hs hr b1 (by omega) b3 (by omega)
  rw [e]
  have hK : 0 < B * 2 ^ L := Nat.mul_pos hB (Nat.pow_pos (by decide))
  have hx : f * 2 ^ (E1 - L) * (B * 2 ^ L) = A * 2 ^ 64 := by
    rw [hA, wb_pw l1]; ac_rfl
  have hy : g * 2 ^ (E2 - L) * (B * 2 ^ L) = C * 2 ^ 64 := by
    rw [hC, wb_pw l2]; ac_rfl
  have p1 : 2 ^ (E1 - L) ≤ 2 ^ 50 := Nat.pow_le_pow_right (by decide) (by omega)
  have p2 : 2 ^ (E2 - L) ≤ 2 ^ 50 := Nat.pow_le_pow_right (by decide) (by omega)
  have x1 : f * 2 ^ (E1 - L) ≤ 225 * 2 ^ 50 := mul_bd hf p1
  have y1 : g * 2 ^ (E2 - L) ≤ 225 * 2 ^ 50 := mul_bd hg p2
  clear e
  obtain ⟨x, ex⟩ : ∃ x, f * 2 ^ (E1 - L) = x := ⟨_, rfl⟩
  obtain ⟨y, ey⟩ : ∃ y, g * 2 ^ (E2 - L) = y := ⟨_, rfl⟩
  rw [ex] at hx x1 ⊢
  rw [ey] at hy y1 ⊢
  clear ex ey p1 p2
  obtain ⟨t, n, ht, hn, hc⟩ := sI_add hs hr x y
  obtain ⟨t', N, ht', hN, hc'⟩ := sI_add hs hr A C
  have A0 : A ≠ 0 := by
    intro q
    rw [q, Nat.zero_mul] at hA
    have := Nat.mul_pos (Nat.pos_of_ne_zero f0) (Nat.mul_pos hB (Nat.pow_pos (n := E1) (show 0 < 2 by decide)))
    omega
  have hx0 : ¬ sI s A = 0 := fun q => A0 ((sI_eq0 (by omega)).mp q)
  have n1 : n < 2 ^ 62 := by omega
  have N1 : N < 2 ^ 62 := by omega
  rw [sm_xend mo no _ _ _ _ _ hs ht f0 (by omega) n1 hn]
  rw [sm_mend mo no (nI s) (nI j) (sI s A) (lN B) ht' N1 (by rw [hv]; exact hN) (Or.inl hx0)]
  have q1 : y ≤ x → y * (B * 2 ^ L) ≤ x * (B * 2 ^ L) := fun q => Nat.mul_le_mul_right _ q
  have q2 : x < y → x * (B * 2 ^ L) < y * (B * 2 ^ L) := fun q => Nat.mul_lt_mul_of_pos_right q hK
  have key : t = t' ∧ n * (B * 2 ^ L) = N * 2 ^ 64 := by
    rcases hc with ⟨h1, h2, h3⟩ | ⟨h1, h2, h3, h4⟩ | ⟨h1, h2, h3, h4⟩ <;> rcases hc' with ⟨g1, g2, g3⟩ | ⟨g1, g2, g3, g4⟩ | ⟨g1, g2, g3, g4⟩
    · refine ⟨by omega, ?_⟩
      rw [h3, g3, Nat.add_mul, Nat.add_mul, hx, hy]
    · exact absurd h1 g1
    · exact absurd h1 g1
    · exact absurd g1 h1
    · refine ⟨by omega, ?_⟩
      rw [h4, g4, Nat.sub_mul, Nat.sub_mul, hx, hy]
    · have := q1 h2; omega
    · exact absurd g1 h1
    · have := q2 h2; omega
    · refine ⟨by omega, ?_⟩
      rw [h4, g4, Nat.sub_mul, Nat.sub_mul, hx, hy]
  obtain ⟨rfl, hk⟩ := key
  by_cases c : n = 0
  · rw [c, Nat.zero_mul] at hk
    rw [if_pos c, if_pos (by omega)]
  · have c2 : N ≠ 0 := by
      intro q
      rw [q, Nat.zero_mul] at hk
      have := Nat.mul_pos (Nat.pos_of_ne_zero c) hK
      omega
    rw [if_neg c, if_neg c2]
    exact round_ex hm no ht (A := N) (B := B) (f := n) (E := L) (by omega) hB hB2 (by omega) n1 (by omega) hk.symm
theorem ad_f0 (mo no sg ex x1 x4 : Int32) (fr : Int64) : fx_addUp mo no sg fr ex x1 0 x4 = fx_round mo no sg fr ex 0 := by
  rw [fx_addUp, if_pos rfl, fx_addUp_b15, if_pos rfl, fx_addUp_b29, if_pos rfl, fx_addUp_b45, if_pos rfl, fx_addUp_b62]
theorem ad_g0 (mo no sg ex x1 x4 : Int32) {f : Int64} (h : ¬ f = 0) : fx_addUp mo no sg 0 ex x1 f x4 = fx_round mo no x1 f x4 0 := by
  rw [fx_addUp, if_neg h, if_pos rfl, fx_addUp_b15, if_neg h, fx_addUp_b29, if_neg h, fx_addUp_b45, if_neg h, fx_addUp_b62]
theorem ad_2 (mo no sg ex x1 x4 : Int32) {f g : Int64} (h : ¬ f = 0) (h2 : ¬ g = 0) : fx_addUp mo no sg g ex x1 f x4 = fx_sumOf mo no x1 f x4 sg g ex := by
  rw [fx_addUp, if_neg h, if_neg h2]
set_option maxHeartbeats 4000000 in
/-- BOTH SUMS AGREE: a number of A / B units and a finite code -/
theorem sm_eq {mo : Int32} (hm : okM mo) (no : Int32) {s A B f E1 j : Nat} (hs : s < 2) (hj : j < 256) (hj2 : j % 128 < 120) (hA : A * 2 ^ 64 = f * (B * 2 ^ E1)) (hA2 : A < 2 ^ 50) (hB : 0 < B) (hB2 : B < 2 ^ 11) (hf : f ≤ 225) (b1 : 40 ≤ E1) (b2 : E1 ≤ 90) :
    (if lN f = 0 then (if lN (frN (j % 128)) = 0 then (fx_zeroSum mo (nI s) (nI (j / 128)), no) else fx_addUp mo no (nI (j / 128)) (lN (frN (j % 128))) (nI (exN (j % 128))) (nI s) (lN f) (nI E1 - 64)) else fx_addUp mo no (nI (j / 128)) (lN (frN (j % 128))) (nI (exN (j % 128))) (nI s) (lN f) (nI E1 - 64)) = fm_finiteSum mo no (sI s A) (lN B) (nI s) (nI j) := by
  obtain ⟨s1, s2, s3, s4⟩ := cd_sz (j % 128) hj2
  have z1 := sz_max (i := j % 128) (by omega)
  have hr : j / 128 < 2 := by omega
  have hv := cd_v64 j hj
  have hC : szN (j % 128) * B * 2 ^ 64 = frN (j % 128) * (B * 2 ^ (exN (j % 128) + 64)) := by
    rw [s1, Nat.pow_add 2 (exN (j % 128)) 64]; ac_rfl
  have hC2 : szN (j % 128) * B ≤ 131072 * 2 ^ 11 := mul_bd z1 (by omega)
  have hvm : (fm_valueOf (nI j)).toInt64 * lN B = sI (j / 128) (szN (j % 128) * B) := by rw [hv, sI_mul]
  rw [e_64 (exN (j % 128))]
  have ef : lN f = 0 ↔ f = 0 := l_eq0 (by omega)
  have eg : lN (frN (j % 128)) = 0 ↔ frN (j % 128) = 0 := l_eq0 (by omega)
  by_cases cf : f = 0
  · subst cf
    have A0 : A = 0 := by rw [Nat.zero_mul] at hA; omega
    subst A0
    rw [if_pos (ef.mpr rfl), show lN 0 = 0 from rfl, ad_f0, sI_z]
    by_cases cg : frN (j % 128) = 0
    · rw [if_pos (eg.mpr cg)]
      have hj0 : j % 128 = 0 := s4.mp cg
      have hz : ¬ fm_isZero (nI j) = 0 := by
        rw [cd_zero j hj]
        exact fun q => (cd_z j hj).mp q hj0
      have h0 : (0 : Int64) + (fm_valueOf (nI j)).toInt64 * lN B = 0 := by
        rw [hvm, hj0, show szN 0 = 0 from rfl, Nat.zero_mul, sI_z]; rfl
      rw [fm_finiteSum, if_pos h0, if_pos rfl, if_neg hz, fm_finiteSum_b40, if_neg (by decide), cd_neg j hj, fm_finiteSum_b62, m_z3, fx_zeroSum, (sg_128 s hs).2]
      by_cases c : nI s = nI (j / 128)
      · rw [if_pos c, if_pos c, fm_finiteSum_b63, if_neg (by decide)]
      · rw [if_neg c, if_neg c]; rfl
    · rw [if_neg (fun q => cg (eg.mp q))]
      have g0 : 0 < frN (j % 128) := Nat.pos_of_ne_zero cg
      have c0 : szN (j % 128) * B ≠ 0 := by
        have : 0 < szN (j % 128) * B := by
          rw [s1]; exact Nat.mul_pos (Nat.mul_pos g0 (Nat.pow_pos (by decide))) hB
        omega
      rw [sm_mend mo no (nI s) (nI j) 0 (lN B) hr (N := szN (j % 128) * B) (by omega) (by rw [hvm, Int64.zero_add]) (Or.inr c0), if_neg c0]
      exact round_ex hm no hr (by omega) hB (by omega) g0 (by omega) (by omega) hC
  · have cf2 : ¬ lN f = 0 := fun q => cf (ef.mp q)
    rw [if_neg cf2]
    by_cases cg : frN (j % 128) = 0
    · rw [eg.mpr cg, ad_g0 _ _ _ _ _ _ cf2]
      have hj0 : j % 128 = 0 := s4.mp cg
      have A0 : A ≠ 0 := by
        intro q
        rw [q, Nat.zero_mul] at hA
        have := Nat.mul_pos (Nat.pos_of_ne_zero cf) (Nat.mul_pos hB (Nat.pow_pos (n := E1) (show 0 < 2 by decide)))
        omega
      rw [sm_mend mo no (nI s) (nI j) (sI s A) (lN B) hs (N := A) (by omega) (by rw [hvm, hj0, show szN 0 = 0 from rfl, Nat.zero_mul, sI_z, Int64.add_zero]) (Or.inr A0), if_neg A0]
      exact round_ex hm no hs (by omega) hB (by omega) (Nat.pos_of_ne_zero cf) (by omega) (by omega) hA
    · rw [ad_2 _ _ _ _ _ _ cf2 (fun q => cg (eg.mp q))]
      exact sm_two hm no hs hr hvm hA hC hA2 (by omega) hB (by omega) hf (by omega) cf b1 b2 (by omega) (by omega)
end
section
set_option maxRecDepth 100000
/-! add, subtract, together and the store agree; the store holds a code -/
set_option maxHeartbeats 4000000 in
theorem eq_sum {mo : Int32} (hm : okM mo) (no : Int32) {i j : Nat} (hi : i < 256) (hj : j < 256) : fx_sum mo no (nI i) (nI j) = fm_add mo no (nI i) (nI j) := by
  rw [fx_sum, fm_add, if_neg (cd_good hi).2, if_neg (cd_good hj).2, cd_none i hi, cd_none j hj, cd_inf i hi, cd_inf j hj]
  by_cases n1 : fx_isNone (nI i) = 0
  · rw [if_pos n1, if_pos n1]
    by_cases n2 : fx_isNone (nI j) = 0
    · rw [if_pos n2, if_pos n2]
      by_cases f1 : fx_isInfinite (nI i) = 0
      · rw [if_pos f1, if_pos f1]
        by_cases f2 : fx_isInfinite (nI j) = 0
        · rw [if_pos f2, if_pos f2]
          have hi2 := cd_fin i hi n1 f1
          have hj2 := cd_fin j hj n2 f2
          obtain ⟨u0, u1, u2⟩ := cd_up i hi
          obtain ⟨u3, u4, u5⟩ := cd_up j hj
          obtain ⟨s1, s2, s3, s4⟩ := cd_sz (i % 128) hi2
          have z1 := sz_max (i := i % 128) (by omega)
          rw [u0, u1, u2, u3, u4, u5, cd_v64 i hi, cd_neg i hi, pr_eta, pr_eta, e_64 (exN (i % 128))]
          exact sm_eq hm no (s := i / 128) (A := szN (i % 128)) (B := 1) (by omega) hj hj2 (by rw [s1, Nat.pow_add 2 (exN (i % 128)) 64, Nat.one_mul, Nat.mul_assoc]) (by omega) (by decide) (by decide) (by omega) (by omega) (by omega)
        · rw [if_neg f2, if_neg f2, fx_sum_b35, if_pos f1, fx_sum_b61, if_pos f1]
      · rw [if_neg f1, if_neg f1, fx_sum_b35, if_neg f1, fx_sum_b61, if_neg f1]
        all_goals rfl
    · rw [if_neg n2, if_neg n2]
  · rw [if_neg n1, if_neg n1]
theorem eq_add {mo : Int32} (hm : okM mo) (no a b : Int32) : fx_add mo no a b = fm_add mo no a b := by
  rcases cd_split a with ⟨h1, h2⟩ | ⟨h1, h2, i, hi, rfl⟩
  · rw [fx_add, fm_add, if_neg h1, if_pos h2]
  rcases cd_split b with ⟨h3, h4⟩ | ⟨h3, h4, j, hj, rfl⟩
  · rw [fx_add, fm_add, if_pos h1, if_neg h3, if_neg h2, if_pos h4]
  rw [fx_add, if_pos h1, if_pos h3, pr_eta]
  exact eq_sum hm no hi hj
theorem eq_subtract {mo : Int32} (hm : okM mo) (no a b : Int32) : fx_subtract mo no a b = fm_subtract mo no a b := by
  rcases cd_split b with ⟨h3, h4⟩ | ⟨h3, h4, j, hj, rfl⟩
  · rw [fx_subtract, fm_subtract, if_neg h3, if_pos h4]
    by_cases h1 : fx_bad a = 0
    · rw [if_pos h1]
    · rw [if_neg h1]
  rw [fx_subtract, fm_subtract, if_pos h3, if_neg h4, cd_none j hj]
  rcases cd_split a with ⟨h1, h2⟩ | ⟨h1, h2, i, hi, rfl⟩
  · rw [if_neg h1, fm_add, fm_add, if_pos h2, if_pos h2]
    by_cases n2 : fx_isNone (nI j) = 0
    · rw [if_pos n2]
    · rw [if_neg n2]
  rw [if_pos h1]
  have hx : j ^^^ 128 < 256 := Nat.xor_lt_two_pow (n := 8) hj (by decide)
  by_cases n2 : fx_isNone (nI j) = 0
  · rw [if_pos n2, if_pos n2, fx_subtract_b35, pr_eta, pr_eta, show nI j ^^^ 128 = nI (j ^^^ 128) from nx_xor j 128]
    exact eq_sum hm no hi hx
  · rw [if_neg n2, if_neg n2, fx_subtract_b35, pr_eta, pr_eta]
    exact eq_sum hm no hi hj
theorem cd_clash : ∀ k, k < 256 → ¬ fx_isInfinite (nI k) = 0 → ∀ s, s < 2 → ((nI k >>> (7 &&& 31) = nI s) ↔ (nI k = fm_signed 120 (nI s))) := by decide +kernel
theorem ps_inf {i j k s : Nat} (no : Int32) (hi : i < 256) (hj : j < 256) (hk : k < 256) (hs : s < 2) : fx_productSum_b51 (nI i) (nI j) (nI k) (nI s) no = fm_together_b89 (nI i) (nI j) (nI k) (nI s) no := by
  rw [fx_productSum_b51, fm_together_b89, cd_inf k hk, (sg_128 s hs).1, fm_together_b117, fm_together_b118, fm_together_b118, cd_zero i hi, cd_zero j hj]
  by_cases y1 : fx_isZero (nI i) = 0
  · by_cases y2 : fx_isZero (nI j) = 0
    · simp only [if_pos y1, if_pos y2]
      by_cases f3 : fx_isInfinite (nI k) = 0
      · rw [if_pos f3, if_pos f3]
        all_goals rfl
      · rw [if_neg f3, if_neg f3]
        have e := cd_clash k hk f3 s hs
        by_cases c : nI k >>> (7 &&& 31) = nI s
        · rw [if_pos c, if_pos (e.mp c)]
          all_goals rfl
        · rw [if_neg c, if_neg (fun q => c (e.mpr q))]
          all_goals rfl
    · simp only [if_pos y1, if_neg y2]
      repeat' split
      all_goals rfl
  · simp only [if_neg y1]
    repeat' split
    all_goals rfl
theorem sI_if (mo no : Int32) (n : Nat) {s : Nat} (hs : s < 2) (B : Int64) (x : Int32) : (if nI s = 0 then ((fm_finiteSum mo no (lN n) B (nI s) x).1, (fm_finiteSum mo no (lN n) B (nI s) x).2) else ((fm_finiteSum mo no (-(lN n)) B (nI s) x).1, (fm_finiteSum mo no (-(lN n)) B (nI s) x).2)) = fm_finiteSum mo no (sI s n) B (nI s) x := by
  rcases (show s = 0 ∨ s = 1 by omega) with rfl | rfl
  · rw [if_pos nI_0, pr_eta]; all_goals rfl
  · rw [if_neg (by decide), pr_eta]; all_goals rfl
set_option maxHeartbeats 4000000 in
theorem eq_productSum {mo : Int32} (hm : okM mo) (no : Int32) {i j k : Nat} (hi : i < 256) (hj : j < 256) (hk : k < 256) : fx_productSum mo no (nI i) (nI j) (nI k) = fm_together mo no (nI i) (nI j) (nI k) := by
  rw [fx_productSum, fm_together, if_neg (cd_good hi).2, if_neg (cd_good hj).2, if_neg (cd_good hk).2, cd_none i hi, cd_none j hj, cd_none k hk]
  by_cases n1 : fx_isNone (nI i) = 0
  · rw [if_pos n1, if_pos n1]
    by_cases n2 : fx_isNone (nI j) = 0
    · rw [if_pos n2, if_pos n2]
      by_cases n3 : fx_isNone (nI k) = 0
      · rw [if_pos n3, if_pos n3, cd_neg i hi, cd_neg j hj, cd_same hi hj (fun t => fm_together_b71 mo (nI i) (nI j) (nI k) t no), cd_xor hi hj]
        have hs : (i / 128 + j / 128) % 2 < 2 := Nat.mod_lt _ (by decide)
        generalize (i / 128 + j / 128) % 2 = s at hs ⊢
        rw [fm_together_b71, cd_inf i hi, cd_inf j hj, cd_inf k hk, ps_inf no hi hj hk hs]
        by_cases f1 : fx_isInfinite (nI i) = 0
        · rw [if_pos f1, if_pos f1]
          by_cases f2 : fx_isInfinite (nI j) = 0
          · rw [if_pos f2, if_pos f2]
            by_cases f3 : fx_isInfinite (nI k) = 0
            · rw [if_pos f3, if_pos f3]
              have hi2 := cd_fin i hi n1 f1
              have hj2 := cd_fin j hj n2 f2
              have hk2 := cd_fin k hk n3 f3
              obtain ⟨-, u1, u2⟩ := cd_up i hi
              obtain ⟨-, u4, u5⟩ := cd_up j hj
              obtain ⟨u6, u7, u8⟩ := cd_up k hk
              obtain ⟨s1, s2, s3, s4⟩ := cd_sz (i % 128) hi2
              obtain ⟨s5, s6, s7, s8⟩ := cd_sz (j % 128) hj2
              have b1 := sz_max (i := i % 128) (by omega)
              have b2 := sz_max (i := j % 128) (by omega)
              have b3 := mul_bd b1 b2
              rw [cd_ix hi, cd_ix hj, sz_l (by omega), sz_l (by omega), lN_mul, sI_if mo no _ hs, u1, u2, u4, u5, u6, u7, u8, lN_mul, e_9, pr_eta]
              refine sm_eq hm no (s := s) (A := szN (i % 128) * szN (j % 128)) (B := 512) hs hk hk2 ?_ (by omega) (by decide) (by decide) (mul_bd s2 s6) (by omega) (by omega)
              rw [s1, s5, Nat.pow_add, Nat.pow_add, show (2 : Nat) ^ 64 = 512 * 2 ^ 55 from rfl]
              ac_rfl
            · rw [if_neg f3, if_neg f3]
          · rw [if_neg f2, if_neg f2]
        · rw [if_neg f1, if_neg f1]
      · rw [if_neg n3, if_neg n3]
    · rw [if_neg n2, if_neg n2]
  · rw [if_neg n1, if_neg n1]
theorem eq_together {mo : Int32} (hm : okM mo) (no a b c : Int32) : fx_together mo no a b c = fm_together mo no a b c := by
  rcases cd_split a with ⟨h1, h2⟩ | ⟨h1, h2, i, hi, rfl⟩
  · rw [fx_together, fm_together, if_neg h1, if_pos h2]
  rcases cd_split b with ⟨h3, h4⟩ | ⟨h3, h4, j, hj, rfl⟩
  · rw [fx_together, fm_together, if_pos h1, if_neg h3, if_neg h2, if_pos h4]
  rcases cd_split c with ⟨h5, h6⟩ | ⟨h5, h6, k, hk, rfl⟩
  · rw [fx_together, fm_together, if_pos h1, if_pos h3, if_neg h5, if_neg h2, if_neg h4, if_pos h6]
  rw [fx_together, if_pos h1, if_pos h3, if_pos h5, pr_eta]
  exact eq_productSum hm no hi hj hk
theorem eq_pile {mo st : Int32} (hm : okM mo) (hs : okS st) (no a : Int32) : fx_pile mo no st a = fm_pile mo no st a := by
  obtain ⟨i, hi, rfl⟩ := hs
  rcases cd_split a with ⟨h1, h2⟩ | ⟨h1, h2, j, hj, rfl⟩
  · rw [fx_pile, fm_pile, if_neg h1, if_pos h2]
  rw [fx_pile, fm_pile, if_pos h1, if_neg h2, eq_sum hm no hi hj]
theorem eq_pileProduct {mo st : Int32} (hm : okM mo) (hs : okS st) (no a b : Int32) : fx_pileProduct mo no st a b = fm_pileProduct mo no st a b := by
  obtain ⟨k, hk, rfl⟩ := hs
  rcases cd_split a with ⟨h1, h2⟩ | ⟨h1, h2, i, hi, rfl⟩
  · rw [fx_pileProduct, fm_pileProduct, if_neg h1, if_pos h2]
  rcases cd_split b with ⟨h3, h4⟩ | ⟨h3, h4, j, hj, rfl⟩
  · rw [fx_pileProduct, fm_pileProduct, if_pos h1, if_neg h3, if_neg h2, if_pos h4]
  rw [fx_pileProduct, fm_pileProduct, if_pos h1, if_pos h3, if_neg h2, if_neg h4, eq_productSum hm no hi hj hk]
/-! what the second class answers is a code -/
theorem ok_n {k : Nat} (h : k < 256) : okS (nI k) := ⟨k, h, rfl⟩
theorem ok_signed {c : Nat} (h : c ≤ 120) (x : Int32) : okS (fm_signed (nI c) x) := by
  rw [fm_signed]
  split
  · exact ok_n (by omega)
  · rw [show 128 + nI c = nI (128 + c) from nI_add 128 c]
    exact ok_n (by omega)
theorem ok_zero (x : Int32) : okS (fm_zero x) := by
  rw [fm_zero]
  split
  · exact ok_n (k := 0) (by decide)
  · exact ok_n (k := 128) (by decide)
theorem ok_b54 (x3 x4 x5 no : Int32) {c : Nat} (h : c ≤ 120) : okS (fm_choose_b54 x3 x4 x5 (nI c) no).1 := by
  simp only [fm_choose_b54, fm_choose_b67, fm_choose_b77, fm_choose_b89]
  repeat' split
  all_goals exact ok_signed h x5
theorem ok_b36 (x3 x4 x5 t0 no : Int32) {c : Nat} (h : c ≤ 119) : okS (fm_choose_b36 (nI c) x3 x4 x5 t0 no).1 := by
  simp only [fm_choose_b36, fm_choose_b53, nI_1]
  repeat' split
  all_goals exact ok_b54 _ _ _ _ (by omega)
theorem ok_choose (mo no x2 x3 x4 x5 : Int32) {c : Nat} (h : c ≤ 119) : okS (fm_choose mo no (nI c) x2 x3 x4 x5).1 := by
  simp only [fm_choose]
  repeat' split
  all_goals exact ok_b36 _ _ _ _ _ h
theorem ok_b33 (mo no x5 : Int32) (x1 x3 : Int64) {c : Nat} (h : c ≤ 119) : okS (fm_round_b33 mo x1 x3 x5 (nI c) no).1 := by
  simp only [fm_round_b33, fm_round_b85, fm_round_b107]
  repeat' split
  all_goals exact ok_choose _ _ _ _ _ _ h
theorem ok_b3 (mo no x5 : Int32) (x1 x3 : Int64) : ∀ n, 1 ≤ n → n ≤ 120 → okS (fm_round_b3 n mo x1 x3 x5 (nI (120 - n)) no).1 := by
  intro n
  induction n with
  | zero => intro h; exact absurd h (by decide)
  | succ n ih =>
    intro _ hn
    have e3 : ((119 : Int32) ≤ nI (120 - (n + 1))) ↔ 119 ≤ 120 - (n + 1) := nI_leI (a := 119) (by decide) (by omega)
    rw [fm_round_b3.eq_2]
    simp only [e3]
    by_cases c1 : 119 ≤ 120 - (n + 1)
    · rw [if_pos c1]; exact ok_b33 _ _ _ _ _ (by omega)
    · rw [if_neg c1]
      split
      · exact ok_b33 _ _ _ _ _ (by omega)
      · rw [nI_1, show 120 - (n + 1) + 1 = 120 - n by omega]
        exact ih (by omega) (by omega)
theorem ok_round (mo no x5 : Int32) (x1 x3 : Int64) : okS (fm_round mo no x1 x3 x5).1 := ok_b3 mo no x5 x1 x3 120 (by decide) (by decide)
def okP (x : Int32 × Int32) : Prop := okS x.1
theorem ok_if {p : Prop} [Decidable p] {x y : Int32 × Int32} (h1 : okP x) (h2 : okP y) : okP (if p then x else y) := by
  by_cases c : p
  · rw [if_pos c]; exact h1
  · rw [if_neg c]; exact h2
theorem ok_pr {a b : Int32} (h : okS a) : okP (a, b) := h
theorem ok_et {x : Int32 × Int32} (h : okP x) : okP (x.1, x.2) := h
theorem ok_124 (no : Int32) : okP (124, no) := ok_pr ⟨124, by decide, rfl⟩
theorem ok_sen (no : Int32) : okP (fm_senseless no) := by
  rw [fm_senseless]; exact ok_124 _
theorem ok_f63 (mo x5 t0 no : Int32) : okP (fm_finiteSum_b63 mo x5 t0 no) := by
  rw [fm_finiteSum_b63]
  exact ok_if (ok_if (ok_pr (ok_zero _)) (ok_pr (ok_zero _))) (ok_pr (ok_zero _))
theorem ok_f62 (mo x5 no : Int32) : okP (fm_finiteSum_b62 mo x5 no) := by
  rw [fm_finiteSum_b62]; exact ok_f63 _ _ _ _
theorem ok_f40 (mo x5 x6 t0 no : Int32) : okP (fm_finiteSum_b40 mo x5 x6 t0 no) := by
  rw [fm_finiteSum_b40]
  exact ok_if (ok_f62 _ _ _) (ok_if (ok_f63 _ _ _ _) (ok_f62 _ _ _))
theorem ok_f39 (mo x5 x6 no : Int32) : okP (fm_finiteSum_b39 mo x5 x6 no) := by
  rw [fm_finiteSum_b39]; exact ok_f40 _ _ _ _ _
theorem ok_f109 (mo no : Int32) (x3 x7 t1 : Int64) : okP (fm_finiteSum_b109 mo x3 x7 t1 no) := by
  rw [fm_finiteSum_b109]
  exact ok_if (ok_et (ok_round _ _ _ _ _)) (ok_et (ok_round _ _ _ _ _))
theorem ok_fsum (mo no x5 x6 : Int32) (x1 x3 : Int64) : okP (fm_finiteSum mo no x1 x3 x5 x6) := by
  rw [fm_finiteSum]
  exact ok_if (ok_if (ok_if (ok_f39 _ _ _ _) (ok_f40 _ _ _ _ _)) (ok_f39 _ _ _ _)) (ok_if (ok_f109 _ _ _ _ _) (ok_f109 _ _ _ _ _))
theorem ok_add (mo no : Int32) {i j : Nat} (hi : i < 256) (hj : j < 256) : okP (fm_add mo no (nI i) (nI j)) := by
  rw [fm_add, if_neg (cd_good hi).2, if_neg (cd_good hj).2]
  exact ok_if (ok_if (ok_if (ok_if (ok_et (ok_fsum _ _ _ _ _ _)) (ok_pr (ok_n hj))) (ok_if (ok_pr (ok_n hi)) (ok_if (ok_pr (ok_n hi)) (ok_et (ok_sen _))))) (ok_124 _)) (ok_124 _)
theorem ok_t118 (x1 x2 t0 no : Int32) {x5 : Int32} (h : okS x5) : okP (fm_together_b118 x1 x2 x5 t0 no) := by
  rw [fm_together_b118]
  exact ok_if (ok_if (ok_if (ok_pr h) (ok_et (ok_sen _))) (ok_et (ok_sen _))) (ok_et (ok_sen _))
theorem ok_t89 (x1 x2 x3 x4 no : Int32) : okP (fm_together_b89 x1 x2 x3 x4 no) := by
  have h : okS (fm_signed 120 x4) := ok_signed (c := 120) (by decide) x4
  rw [fm_together_b89, fm_together_b117]
  exact ok_if (ok_t118 _ _ _ _ h) (ok_if (ok_t118 _ _ _ _ h) (ok_t118 _ _ _ _ h))
theorem ok_t71 (mo x1 x2 t0 no : Int32) {x3 : Int32} (h : okS x3) : okP (fm_together_b71 mo x1 x2 x3 t0 no) := by
  rw [fm_together_b71]
  exact ok_if (ok_if (ok_if (ok_if (ok_et (ok_fsum _ _ _ _ _ _)) (ok_et (ok_fsum _ _ _ _ _ _))) (ok_pr h)) (ok_t89 _ _ _ _ _)) (ok_t89 _ _ _ _ _)
theorem ok_together (mo no : Int32) {i j k : Nat} (hi : i < 256) (hj : j < 256) (hk : k < 256) : okP (fm_together mo no (nI i) (nI j) (nI k)) := by
  rw [fm_together, if_neg (cd_good hi).2, if_neg (cd_good hj).2, if_neg (cd_good hk).2]
  exact ok_if (ok_if (ok_if (ok_if (ok_t71 _ _ _ _ _ (ok_n hk)) (ok_t71 _ _ _ _ _ (ok_n hk))) (ok_124 _)) (ok_124 _)) (ok_124 _)
theorem ok_pile {mo st : Int32} (hm : okM mo) (hs : okS st) (no a : Int32) : okM (fm_pile mo no st a).2.1 ∧ okS (fm_pile mo no st a).2.2.2 := by
  obtain ⟨i, hi, rfl⟩ := hs
  rw [fm_pile]
  by_cases c : fm_isCode a = 0
  · rw [if_pos c]; exact ⟨hm, ok_n hi⟩
  · obtain ⟨j, hj, rfl⟩ := m_code c
    rw [if_neg c]; exact ⟨hm, ok_add mo no hi hj⟩
theorem ok_pileProduct {mo st : Int32} (hm : okM mo) (hs : okS st) (no a b : Int32) : okM (fm_pileProduct mo no st a b).2.1 ∧ okS (fm_pileProduct mo no st a b).2.2.2 := by
  obtain ⟨k, hk, rfl⟩ := hs
  rw [fm_pileProduct]
  by_cases c : fm_isCode a = 0
  · rw [if_pos c]; exact ⟨hm, ok_n hk⟩
  · obtain ⟨i, hi, rfl⟩ := m_code c
    rw [if_neg c]
    by_cases c2 : fm_isCode b = 0
    · rw [if_pos c2]; exact ⟨hm, ok_n hk⟩
    · obtain ⟨j, hj, rfl⟩ := m_code c2
      rw [if_neg c2]; exact ⟨hm, ok_together mo no hi hj hk⟩
end
section
set_option maxRecDepth 100000
/-! THE CLAIM OUT OF ONE WALK OF THE LAW'S BODY. Your part is whole_start (and what it stands on); all else here is the same for every law, but numbers. -/
def R_law : String := "TinyFloatsLaw"
def lw_P (b : Addr) (xs : List Int32) (args : Array Value) (s : State) : Prop := args = #[.ref b] ∧ s.IntsAt b xs ∧ xs.length ≤ 256 ∧ (Jvm.Cond.and given_1 narrow_1).before args s = true
def lw_Q (_ : Array Value) (s : State) (o : Outcome) (t : State) : Prop := o = .returned (some (.int 1)) ∧ Framed s o t [] 600000 7290000
def lw_Z (below : List Frame) (a : Array Value) (s : State) : State → Prop := fun t => ∃ o, t.status = .running ∧ Ended t below o ∧ lw_Q a s o t
/-- the law's own end, with 1 on the stack, nothing written that was there before, its room as the claim has it -/
theorem lw_ret {p : Program} {l : Launch} {e : Env} {s : State} {m : MethodId} {below : List Frame} {meth : Method} {c : Code} {b : Nat} (hx : p.tables.exec = Jvm.exec) (hb : c.code = code) (hr : meth.sig.returnType = ret) (hlocks : meth.locks = false) {pc : Nat} {H : Heap} {ls : Array Slot} (hdg : decode code pc = .ok (.ireturn, 1)) : W p l e room_1 s m #[Value.ref b] below meth c H [] 600000 7290000 (lw_Z below #[Value.ref b] s) (F0 m pc ls [.int 1]) := by
  intro T hT X
  obtain ⟨fs, hret, hrun, hended, hW, hframe⟩ := X.leave (v := some (.int 1)) (hlocks := hlocks) (fun h => by rw [hr] at h; cases h)
  have hmeth' : T.vm.method? m = some meth := X.method'
  refine ⟨T.setFrames fs, ?_, .returned (some (.int 1)), hrun, hended, rfl, ⟨_, rfl⟩, hW, hframe⟩
  jvm_step X.here [X.here.top, hx, hb, hdg, hmeth', hr, ret, narrow_b1]
  (try refine ⟨rfl, ?_⟩); (try refine ⟨rfl, ?_⟩)
  first | (intro acts; rw [hret _ acts rfl rfl rfl]) | rw [hret _ _ rfl rfl rfl]
  exact Steps.refl _
/-- what holds at the law's entry: the machine, the code, the tables' words (any of lw_tbl by 'hts w (by decide +kernel)'), the script of L ints xs at the cell b, what the Statement gives of the start (any of its parts by flat_of_before) -/
def lw_At (p : Program) (s : State) (m : MethodId) (meth : Method) (c : Code) (b L : Nat) (xs : Nat → Int32) : Prop :=
  p.tables.exec = Jvm.exec ∧ c.code = code ∧ meth.sig.returnType = ret ∧ c.maxLocals = 4 ∧ s.vm.findClass R_law = some m.cls ∧ (∀ w ∈ lw_tbl, w.before #[Value.ref b] s = true) ∧ va_X b L xs s s.heap ∧ b < s.heap.size ∧ meth.locks = false ∧ (Jvm.Cond.and given_1 narrow_1).before #[Value.ref b] s = true
theorem cqL_x_mode : g_Cq R_law 13 yX0_mode cX0_mode 3 (some .int) 1 := ⟨q59, q60, q61, q30, q62, by decide +kernel⟩
theorem cqL_m_mode : g_Cq R_law 17 yX1_mode cX1_mode 3 (some .int) 1 := ⟨q204, q205, q206, q31, q207, by decide +kernel⟩
theorem cqL_x_notes : g_Cq R_law 18 yX0_notes cX0_notes 1 (some .int) 0 := ⟨q63, q64, q65, q30, q66, by decide +kernel⟩
theorem cqL_m_notes : g_Cq R_law 22 yX1_notes cX1_notes 1 (some .int) 0 := ⟨q208, q209, q210, q31, q211, by decide +kernel⟩
theorem cqL_x_clear : g_Cq R_law 23 yX0_clear cX0_clear 2 (some .int) 0 := ⟨q67, q68, q69, q30, q70, by decide +kernel⟩
theorem cqL_m_clear : g_Cq R_law 26 yX1_clear cX1_clear 2 (some .int) 0 := ⟨q212, q213, q214, q31, q215, by decide +kernel⟩
theorem cqL_x_add : g_Cq R_law 27 yX0_add cX0_add 3 (some .int) 2 := ⟨q71, q72, q73, q30, q74, by decide +kernel⟩
theorem cqL_m_add : g_Cq R_law 31 yX1_add cX1_add 3 (some .int) 2 := ⟨q216, q217, q218, q31, q219, by decide +kernel⟩
theorem cqL_x_subtract : g_Cq R_law 32 yX0_subtract cX0_subtract 4 (some .int) 2 := ⟨q125, q126, q127, q30, q128, by decide +kernel⟩
theorem cqL_m_subtract : g_Cq R_law 35 yX1_subtract cX1_subtract 3 (some .int) 2 := ⟨q277, q278, q279, q31, q280, by decide +kernel⟩
theorem cqL_x_multiply : g_Cq R_law 36 yX0_multiply cX0_multiply 7 (some .int) 2 := ⟨q129, q130, q131, q30, q132, by decide +kernel⟩
theorem cqL_m_multiply : g_Cq R_law 39 yX1_multiply cX1_multiply 6 (some .int) 2 := ⟨q282, q283, q284, q31, q285, by decide +kernel⟩
theorem cqL_x_divide : g_Cq R_law 40 yX0_divide cX0_divide 10 (some .int) 2 := ⟨q137, q138, q139, q30, q140, by decide +kernel⟩
theorem cqL_m_divide : g_Cq R_law 43 yX1_divide cX1_divide 6 (some .int) 2 := ⟨q287, q288, q289, q31, q290, by decide +kernel⟩
theorem cqL_x_root : g_Cq R_law 44 yX0_root cX0_root 10 (some .int) 1 := ⟨q141, q142, q143, q30, q144, by decide +kernel⟩
theorem cqL_m_root : g_Cq R_law 47 yX1_root cX1_root 9 (some .int) 1 := ⟨q291, q292, q293, q31, q294, by decide +kernel⟩
theorem cqL_x_together : g_Cq R_law 48 yX0_together cX0_together 4 (some .int) 3 := ⟨q145, q146, q147, q30, q148, by decide +kernel⟩
theorem cqL_m_together : g_Cq R_law 52 yX1_together cX1_together 7 (some .int) 3 := ⟨q296, q297, q298, q31, q299, by decide +kernel⟩
theorem cqL_x_compare : g_Cq R_law 53 yX0_compare cX0_compare 5 (some .int) 2 := ⟨q153, q154, q155, q30, q156, by decide +kernel⟩
theorem cqL_m_compare : g_Cq R_law 56 yX1_compare cX1_compare 3 (some .int) 2 := ⟨q300, q301, q302, q31, q303, by decide +kernel⟩
theorem cqL_x_from : g_Cq R_law 57 yX0_from cX0_from 2 (some .int) 1 := ⟨q161, q162, q163, q30, q164, by decide +kernel⟩
theorem cqL_m_from : g_Cq R_law 60 yX1_from cX1_from 4 (some .int) 1 := ⟨q304, q305, q306, q31, q307, by decide +kernel⟩
theorem cqL_x_whole : g_Cq R_law 61 yX0_whole cX0_whole 10 (some .int) 1 := ⟨q167, q168, q169, q30, q170, by decide +kernel⟩
theorem cqL_m_whole : g_Cq R_law 64 yX1_whole cX1_whole 7 (some .int) 1 := ⟨q310, q311, q312, q31, q313, by decide +kernel⟩
theorem cqL_x_pile : g_Cq R_law 65 yX0_pile cX0_pile 2 (some .int) 1 := ⟨q172, q173, q174, q30, q175, by decide +kernel⟩
theorem cqL_m_pile : g_Cq R_law 68 yX1_pile cX1_pile 2 (some .int) 1 := ⟨q314, q315, q316, q31, q317, by decide +kernel⟩
theorem cqL_x_pileProduct : g_Cq R_law 69 yX0_pileProduct cX0_pileProduct 3 (some .int) 2 := ⟨q176, q177, q178, q30, q179, by decide +kernel⟩
theorem cqL_m_pileProduct : g_Cq R_law 72 yX1_pileProduct cX1_pileProduct 3 (some .int) 2 := ⟨q318, q319, q320, q31, q321, by decide +kernel⟩
theorem cqL_x_store : g_Cq R_law 73 yX0_store cX0_store 3 (some .int) 1 := ⟨q180, q181, q182, q30, q183, by decide +kernel⟩
theorem cqL_m_store : g_Cq R_law 76 yX1_store cX1_store 3 (some .int) 1 := ⟨q323, q324, q325, q31, q326, by decide +kernel⟩
/-! the law's world: both objects and the table; a call of either -/
def wL (h h1 hs : Nat) (dA : ClassId) (u : SX × SM) : va_W := [(h, .inr (0, fX u.1)), (h1, .inr (1, fM hs u.2)), (hs, .inl (dA, 121, .inl szF))]
section LAWR
variable {p : Program} {l : Launch} {e : Env} {R : Room} {s : State} {m : MethodId} {args : Array Value} {below : List Frame} {meth : Method} {c : Code} {H : Heap} {locs : List Loc} {cells slots : Nat} {Q : State → Prop}
variable {D : va_G} {A : Nat → Prop} {cc : ByteArray} {nL pc : Nat} {rt : Option FieldType} {ls : Array Slot} {rest : List Value} {h h1 hs : Nat} {dA : ClassId}
theorem law_x (F : g_Fx R_law [(dA, .int)] cc nL rt D A p s m args meth c) {u : SX} {v : SM} (hX : g_At (wL h h1 hs dA) D A s (u, v) H locs) {y : MethodName} {bytes : ByteArray} {mL : Nat} {rt' : Option FieldType} {rm : Room} {As : List Value} {post : Int32 → SX → Prop} (hM : g_Met l y bytes mL rt' rm (wX h) [] D u (.ref h :: As) post) {index n : Nat} (cq : g_Cq R_law index y bytes mL rt' n) (hy : y.cls = RX0)
    (hrm : rm.cells = 0 ∧ rm.slots = 0) (hR : rm.frames + 1 ≤ R.frames ∧ 8 + (mL + 11) + rm.locals ≤ R.locals) (hcs : cells ≤ R.cells ∧ slots ≤ R.slots) {st : List Value} (hn : As.length = n) (hsz : ls.size = nL) (hst : st = As.reverse ++ .ref h :: rest) (hW : (rest.map fun v => v.category).sum ≤ 8) (hdg : decode cc pc = .ok (.invokevirtual index, 3))
    (kk : ∀ (r : Int32) (u' : SX) (H1 : Heap) (locs1 : List Loc), post r u' → g_At (wL h h1 hs dA) D A s (u', v) H1 locs1 → W p l e R s m args below meth c H1 locs1 cells slots Q (F0 m (pc + 3) ls (.int r :: rest))) : W p l e R s m args below meth c H locs cells slots Q (F0 m pc ls st) := by
  obtain ⟨hx, hb, hml, hown, hts, hK, hA, hr, hlk⟩ := F
  obtain ⟨hP, hD, hS⟩ := hX
  obtain ⟨q1, q2, q3, q4, q5, hd⟩ := cq
  have hP : va_P D vwCl [(h, .inr (0, fX u)), (h1, .inr (1, fM hs v)), (hs, .inl (dA, 121, .inl szF))] H := hP
  have hD : va_D A [(h, .inr (0, fX u)), (h1, .inr (1, fM hs v)), (hs, .inl (dA, 121, .inl szF))] := hD
  have hPc := hP.sub (ws' := wX h u) [0] rfl
  have hDc := hD.sub (ws' := wX h u) [0] (by decide) rfl
  have hKc := hK.sub (tys' := []) [] rfl
  have hFc := va_free (wc := wX h u) hD hS hA [0] rfl
  refine va_calli (va_runV (As := As) (rest := rest) (C := y.cls) (b := h) ⟨hx, hb, hml, hown, hts⟩ (hM H.size) (cwV n hts (lw_V q1 q2 q3 q4 q5) rfl hrm.1 hrm.2 hd hR) ⟨fun a U g mk q => by obtain ⟨q0, q1, qP, qK, qD⟩ := q; exact ⟨q0, q1, qP, va_K.moved (u := U) (U := U.calling g mk a) (Vm.Alike.refl U.vm) qK, qD⟩, by rw [hy]; exact va_recv hKc hPc (ci := 0) (q0 := 0) (q := (RX0, TX0, 6)) (fs := fX u) rfl rfl, fun U hU hW => ⟨rfl, by rw [hU], by rw [hU]; exact hPc, va_K.moved hW.alike hKc, hDc.weaken (fun _ _ _ _ => trivial)⟩⟩ rfl hn hsz hst (lv_room hW) hdg ⟨hcs.1, hcs.2⟩) hS (fun q _ h => hFc q h) hFc (fun r u' t H1 locs1 ht hvm hpost hB hz1 hk1 hS1 => ?_)
  obtain ⟨hP1, hK1, hD1⟩ := hB
  rw [ht] at hP1
  obtain ⟨hP2, hD2⟩ := va_join (wr := [(h1, .inr (1, fM hs v)), (hs, .inl (dA, 121, .inl szF))]) (w1 := wX h u') hP hD [0] [1, 2] rfl rfl (by decide) (by decide) hk1 hFc hP1 hD1
  exact kk r u' H1 locs1 hpost ⟨hP2.sub [2, 0, 1] rfl, hD2.sub [2, 0, 1] (by decide) rfl, hS1⟩
theorem law_m (F : g_Fx R_law [(dA, .int)] cc nL rt D A p s m args meth c) {u : SX} {v : SM} (hX : g_At (wL h h1 hs dA) D A s (u, v) H locs) {y : MethodName} {bytes : ByteArray} {mL : Nat} {rt' : Option FieldType} {rm : Room} {As : List Value} {post : Int32 → SM → Prop} (hM : g_Met l y bytes mL rt' rm (wM h1 hs dA) [(dA, .int)] D v (.ref h1 :: As) post) {index n : Nat} (cq : g_Cq R_law index y bytes mL rt' n) (hy : y.cls = RX1)
    (hrm : rm.cells = 0 ∧ rm.slots = 0) (hR : rm.frames + 1 ≤ R.frames ∧ 8 + (mL + 11) + rm.locals ≤ R.locals) (hcs : cells ≤ R.cells ∧ slots ≤ R.slots) {st : List Value} (hn : As.length = n) (hsz : ls.size = nL) (hst : st = As.reverse ++ .ref h1 :: rest) (hW : (rest.map fun v => v.category).sum ≤ 8) (hdg : decode cc pc = .ok (.invokevirtual index, 3))
    (kk : ∀ (r : Int32) (v' : SM) (H1 : Heap) (locs1 : List Loc), post r v' → g_At (wL h h1 hs dA) D A s (u, v') H1 locs1 → W p l e R s m args below meth c H1 locs1 cells slots Q (F0 m (pc + 3) ls (.int r :: rest))) : W p l e R s m args below meth c H locs cells slots Q (F0 m pc ls st) := by
  obtain ⟨hx, hb, hml, hown, hts, hK, hA, hr, hlk⟩ := F
  obtain ⟨hP, hD, hS⟩ := hX
  obtain ⟨q1, q2, q3, q4, q5, hd⟩ := cq
  have hP : va_P D vwCl [(h, .inr (0, fX u)), (h1, .inr (1, fM hs v)), (hs, .inl (dA, 121, .inl szF))] H := hP
  have hD : va_D A [(h, .inr (0, fX u)), (h1, .inr (1, fM hs v)), (hs, .inl (dA, 121, .inl szF))] := hD
  have hPc := hP.sub (ws' := wM h1 hs dA v) [1, 2] rfl
  have hDc := hD.sub (ws' := wM h1 hs dA v) [1, 2] (by decide) rfl
  have hFc := va_free (wc := wM h1 hs dA v) hD hS hA [1, 2] rfl
  refine va_calli (va_runV (As := As) (rest := rest) (C := y.cls) (b := h1) ⟨hx, hb, hml, hown, hts⟩ (hM H.size) (cwV n hts (lw_V q1 q2 q3 q4 q5) rfl hrm.1 hrm.2 hd hR) ⟨fun a U g mk q => by obtain ⟨q0, q1, qP, qK, qD⟩ := q; exact ⟨q0, q1, qP, va_K.moved (u := U) (U := U.calling g mk a) (Vm.Alike.refl U.vm) qK, qD⟩, by rw [hy]; exact va_recv hK hPc (ci := 1) (q0 := 0) (q := (RX1, TX1, 4)) (fs := fM hs v) rfl rfl, fun U hU hW => ⟨rfl, by rw [hU], by rw [hU]; exact hPc, va_K.moved hW.alike hK, hDc.weaken (fun _ _ _ _ => trivial)⟩⟩ rfl hn hsz hst (lv_room hW) hdg ⟨hcs.1, hcs.2⟩) hS (fun q _ h => hFc q h) hFc (fun r v' t H1 locs1 ht hvm hpost hB hz1 hk1 hS1 => ?_)
  obtain ⟨hP1, hK1, hD1⟩ := hB
  rw [ht] at hP1
  obtain ⟨hP2, hD2⟩ := va_join (wr := [(h, .inr (0, fX u))]) (w1 := wM h1 hs dA v') hP hD [1, 2] [0] rfl rfl (by decide) (by decide) hk1 hFc hP1 hD1
  exact kk r v' H1 locs1 hpost ⟨hP2, hD2, hS1⟩
end LAWR
theorem law_lt {k L : Nat} (hL : L ≤ 256) (c : ¬ Int32.ofNat L - 4 < nI (4 * k)) (hk : 4 * k ≤ L := by omega) : 4 * k + 4 ≤ L := by
  rw [Int32.lt_iff_toInt_lt, show Int32.ofNat L - 4 = nI L - nI 4 from rfl, pk_sub_toInt (by omega) (by decide), nI_toInt (by omega)] at c
  omega
theorem law_in {k j L : Nat} (h : 4 * k + j < L) (hL : L ≤ 256) : vp_in (nI (4 * k) + nI j) L := by
  rw [nI_add]
  exact vp_in_nI h (by omega)
end
section
set_option maxRecDepth 100000
set_option maxHeartbeats 16000000 in
/-- the law's loop at its head: k calls done; both objects hold the same mode, notes and store -/
theorem law_loop {p : Program} {e : Env} {s : State} {m : MethodId} {below : List Frame} {meth : Method} {c : Code} (l : Launch) {b L : Nat} {xs : Nat → Int32} (hL : L ≤ 256) {D : va_G} {dA : ClassId} {h h1 hs : Nat} (F : g_Fx R_law [(dA, .int)] code 4 ret D (fun q : Nat => s.heap.size ≤ q) p s m #[Value.ref b] meth c) (hXs : va_X b L xs s s.heap) (hbl : b < s.heap.size) : ∀ (n k : Nat) (mo no st sg : Int32) (fr : Int64) (ex : Int32) (H : Heap) (locs : List Loc) (ls : Array Slot), k + n = 66 → 4 * k ≤ L → okM mo → okS st → g_At (wL h h1 hs dA) D (fun q : Nat => s.heap.size ≤ q) s ((mo, no, st, sg, fr, ex), (mo, no, st)) H locs → lv_has ls 4 [(0, .ref b), (1, .ref h), (2, .ref h1), (3, .int (nI (4 * k)))] → W p l e room_1 s m #[Value.ref b] below meth c H locs 3 131 (lw_Z below #[Value.ref b] s) (F0 m 18 ls []) := by
  have hx := F.1
  have hb := F.2.1
  have hr := F.2.2.2.2.2.2.2.1
  have hlk := F.2.2.2.2.2.2.2.2
  have hbA : ¬ (fun q : Nat => s.heap.size ≤ q) b := Nat.not_le.mpr hbl
  intro n
  induction n with
  | zero => intro k mo no st sg fr ex H locs ls h1 h2; exact absurd h2 (by omega)
  | succ n ih =>
    intro k mo no st sg fr ex H locs ls hk hkL hm hs1 hX hl
    refine lv_iload_n hx hb dL_law_18 rfl (lv_at hl 3 rfl) ?_
    refine lv_aload_n hx hb dL_law_19 rfl (lv_at hl 0 rfl) ?_
    refine va_slen hx hb hXs hbl hbA hX.2.2 dL_law_20 ?_
    refine lv_iconst (v := 4) hx hb dL_law_21 (by decide) ?_
    refine lv_isub hx hb dL_law_22 ?_
    refine lv_icmp_gt (tgt := 519) hx hb dL_law_23 (by decide) (fun c_23 => ?_) (fun c_23 => ?_)
    · refine lv_iconst (v := 1) hx hb dL_law_519 (by decide) ?_
      refine va_forget (fun q hq => hX.2.2.2.2 q hq) ?_
      refine W.widen (k := 600000) (n := 7290000) (by decide) (by decide) ?_
      exact lw_ret hx hb hr hlk dL_law_520
    have hlt : 4 * k + 4 ≤ L := law_lt hL c_23
    have KI : ∀ (mo no st sg : Int32) (fr : Int64) (ex : Int32) (H : Heap) (locs : List Loc) (ls : Array Slot), okM mo → okS st → g_At (wL h h1 hs dA) D (fun q : Nat => s.heap.size ≤ q) s ((mo, no, st, sg, fr, ex), (mo, no, st)) H locs → lv_has ls 4 [(0, .ref b), (1, .ref h), (2, .ref h1), (3, .int (nI (4 * k)))] → W p l e room_1 s m #[Value.ref b] below meth c H locs 3 131 (lw_Z below #[Value.ref b] s) (F0 m 513 ls []) := by
      intro mo no st sg fr ex H locs ls hm hs1 hX hl
      refine lv_iinc (v := nI (4 * (k + 1))) (lv' := [(3, .int (nI (4 * (k + 1)))), (0, .ref b), (1, .ref h), (2, .ref h1)]) hx hb dL_law_513 hl (k := 3) rfl (nI_add (4 * k) 4) (by decide) rfl (fun ls hl => ?_)
      refine lv_goto (tgt := 18) hx hb dL_law_516 (by decide) ?_
      exact ih (k + 1) mo no st sg fr ex _ _ _ (by omega) (by omega) hm hs1 hX (lv_sub hl [1, 2, 3, 0] rfl)
    have i0 : vp_in (nI (4 * k)) L := vp_in_nI (by omega) (by omega)
    have i1 : vp_in (nI (4 * k) + 1) L := law_in (j := 1) (by omega) hL
    obtain ⟨a1, ea1⟩ : ∃ y : Int32, xs (nI (4 * k) + 1).toNatClampNeg = y := ⟨_, rfl⟩
    have i2 : vp_in (nI (4 * k) + 2) L := law_in (j := 2) (by omega) hL
    obtain ⟨a2, ea2⟩ : ∃ y : Int32, xs (nI (4 * k) + 2).toNatClampNeg = y := ⟨_, rfl⟩
    have i3 : vp_in (nI (4 * k) + 3) L := law_in (j := 3) (by omega) hL
    obtain ⟨a3, ea3⟩ : ∃ y : Int32, xs (nI (4 * k) + 3).toNatClampNeg = y := ⟨_, rfl⟩
    obtain ⟨a0, ea0⟩ : ∃ y : Int32, xs (nI (4 * k)).toNatClampNeg = y := ⟨_, rfl⟩
    refine lv_aload_n hx hb dL_law_26 rfl (lv_at hl 0 rfl) ?_
    refine lv_iload_n hx hb dL_law_27 rfl (lv_at hl 3 rfl) ?_
    refine va_sld hx hb hXs hbl hbA hX.2.2 i0 dL_law_28 ?_
    rw [ea0]
    refine lv_bipush (v := 15) hx hb dL_law_29 (by decide) ?_
    refine lv_iand hx hb dL_law_31 ?_
    obtain ⟨j, hj, ej⟩ := pk_andE a0 (m := 15) 4 (by decide)
    rw [ej]
    clear ej ea0
    match j, hj with
    | 0, _ =>
      refine lv_tableIn (off := 76) (tgt := 108) hx hb dL_law_32 (by decide) (by decide) (by decide) (by decide) ?_
      refine lv_aload_n hx hb dL_law_108 rfl (lv_at hl 1 rfl) ?_
      refine lv_aload_n hx hb dL_law_109 rfl (lv_at hl 0 rfl) ?_
      refine lv_iload_n hx hb dL_law_110 rfl (lv_at hl 3 rfl) ?_
      refine lv_iconst (v := 1) hx hb dL_law_111 (by decide) ?_
      refine lv_iadd hx hb dL_law_112 ?_
      refine va_sld hx hb hXs hbl hbA hX.2.2 i1 dL_law_113 ?_
      rw [ea1]
      refine law_x (rest := []) F hX (cx_mode l D h mo no st sg fr ex a1) cqL_x_mode rfl ⟨rfl, rfl⟩ (by decide) (by decide) rfl hl.1 rfl (Nat.le_of_ble_eq_true rfl) dL_law_114 (fun r u' H locs hq hX => ?_)
      obtain ⟨sg1, fr1, ex1, hr1, hu1⟩ := hq
      rw [hr1]
      rw [hu1] at hX
      clear hr1 hu1
      refine lv_aload_n hx hb dL_law_117 rfl (lv_at hl 2 rfl) ?_
      refine lv_aload_n hx hb dL_law_118 rfl (lv_at hl 0 rfl) ?_
      refine lv_iload_n hx hb dL_law_119 rfl (lv_at hl 3 rfl) ?_
      refine lv_iconst (v := 1) hx hb dL_law_120 (by decide) ?_
      refine lv_iadd hx hb dL_law_121 ?_
      refine va_sld hx hb hXs hbl hbA hX.2.2 i1 dL_law_122 ?_
      rw [ea1]
      refine law_m (rest := [.int (fx_mode mo no st a1).1]) F hX (cm_mode l D h1 hs dA mo no st a1) cqL_m_mode rfl ⟨rfl, rfl⟩ (by decide) (by decide) rfl hl.1 rfl (Nat.le_of_ble_eq_true rfl) dL_law_123 (fun r u' H locs hq hX => ?_)
      obtain ⟨hr1, hu1⟩ := hq
      rw [hr1]
      rw [hu1] at hX
      clear hr1 hu1
      refine lv_icmp_eq (tgt := 513) hx hb dL_law_126 (by decide) (fun c_126 => ?_) (fun c_126 => ?_)
      · rw [eq_mode mo no st a1] at hX
        exact KI _ _ _ sg1 fr1 ex1 _ _ _ (ok_mode hm hs1 no a1).1 (ok_mode hm hs1 no a1).2 hX hl
      · exact absurd (by rw [eq_mode mo no st a1]) c_126
    | 1, _ =>
      refine lv_tableIn (off := 99) (tgt := 131) hx hb dL_law_32 (by decide) (by decide) (by decide) (by decide) ?_
      refine lv_aload_n hx hb dL_law_131 rfl (lv_at hl 1 rfl) ?_
      refine law_x (rest := []) F hX (cx_notes l D h mo no st sg fr ex ) cqL_x_notes rfl ⟨rfl, rfl⟩ (by decide) (by decide) rfl hl.1 rfl (Nat.le_of_ble_eq_true rfl) dL_law_132 (fun r u' H locs hq hX => ?_)
      obtain ⟨hr1, hu1⟩ := hq
      rw [hr1]
      rw [hu1] at hX
      clear hr1 hu1
      refine lv_aload_n hx hb dL_law_135 rfl (lv_at hl 2 rfl) ?_
      refine law_m (rest := [.int (fx_notes no)]) F hX (cm_notes l D h1 hs dA mo no st ) cqL_m_notes rfl ⟨rfl, rfl⟩ (by decide) (by decide) rfl hl.1 rfl (Nat.le_of_ble_eq_true rfl) dL_law_136 (fun r u' H locs hq hX => ?_)
      obtain ⟨hr1, hu1⟩ := hq
      rw [hr1]
      rw [hu1] at hX
      clear hr1 hu1
      refine lv_icmp_eq (tgt := 513) hx hb dL_law_139 (by decide) (fun c_139 => ?_) (fun c_139 => ?_)
      · exact KI mo no st sg fr ex _ _ _ hm hs1 hX hl
      · exact absurd (by rw [eq_notes no]) c_139
    | 2, _ =>
      refine lv_tableIn (off := 112) (tgt := 144) hx hb dL_law_32 (by decide) (by decide) (by decide) (by decide) ?_
      refine lv_aload_n hx hb dL_law_144 rfl (lv_at hl 1 rfl) ?_
      refine law_x (rest := []) F hX (cx_clear l D h mo no st sg fr ex ) cqL_x_clear rfl ⟨rfl, rfl⟩ (by decide) (by decide) rfl hl.1 rfl (Nat.le_of_ble_eq_true rfl) dL_law_145 (fun r u' H locs hq hX => ?_)
      obtain ⟨sg1, fr1, ex1, hr1, hu1⟩ := hq
      rw [hr1]
      rw [hu1] at hX
      clear hr1 hu1
      refine lv_aload_n hx hb dL_law_148 rfl (lv_at hl 2 rfl) ?_
      refine law_m (rest := [.int (fx_clear mo no st).1]) F hX (cm_clear l D h1 hs dA mo no st ) cqL_m_clear rfl ⟨rfl, rfl⟩ (by decide) (by decide) rfl hl.1 rfl (Nat.le_of_ble_eq_true rfl) dL_law_149 (fun r u' H locs hq hX => ?_)
      obtain ⟨hr1, hu1⟩ := hq
      rw [hr1]
      rw [hu1] at hX
      clear hr1 hu1
      refine lv_icmp_eq (tgt := 513) hx hb dL_law_152 (by decide) (fun c_152 => ?_) (fun c_152 => ?_)
      · rw [eq_clear mo no st] at hX
        exact KI _ _ _ sg1 fr1 ex1 _ _ _ (ok_clear hm hs1 no).1 (ok_clear hm hs1 no).2 hX hl
      · exact absurd (by rw [eq_clear mo no st]) c_152
    | 3, _ =>
      refine lv_tableIn (off := 125) (tgt := 157) hx hb dL_law_32 (by decide) (by decide) (by decide) (by decide) ?_
      refine lv_aload_n hx hb dL_law_157 rfl (lv_at hl 1 rfl) ?_
      refine lv_aload_n hx hb dL_law_158 rfl (lv_at hl 0 rfl) ?_
      refine lv_iload_n hx hb dL_law_159 rfl (lv_at hl 3 rfl) ?_
      refine lv_iconst (v := 1) hx hb dL_law_160 (by decide) ?_
      refine lv_iadd hx hb dL_law_161 ?_
      refine va_sld hx hb hXs hbl hbA hX.2.2 i1 dL_law_162 ?_
      rw [ea1]
      refine lv_aload_n hx hb dL_law_163 rfl (lv_at hl 0 rfl) ?_
      refine lv_iload_n hx hb dL_law_164 rfl (lv_at hl 3 rfl) ?_
      refine lv_iconst (v := 2) hx hb dL_law_165 (by decide) ?_
      refine lv_iadd hx hb dL_law_166 ?_
      refine va_sld hx hb hXs hbl hbA hX.2.2 i2 dL_law_167 ?_
      rw [ea2]
      refine law_x (rest := []) F hX (cx_add l D h mo no st sg fr ex a1 a2) cqL_x_add rfl ⟨rfl, rfl⟩ (by decide) (by decide) rfl hl.1 rfl (Nat.le_of_ble_eq_true rfl) dL_law_168 (fun r u' H locs hq hX => ?_)
      obtain ⟨sg1, fr1, ex1, hr1, hu1⟩ := hq
      rw [hr1]
      rw [hu1] at hX
      clear hr1 hu1
      refine lv_aload_n hx hb dL_law_171 rfl (lv_at hl 2 rfl) ?_
      refine lv_aload_n hx hb dL_law_172 rfl (lv_at hl 0 rfl) ?_
      refine lv_iload_n hx hb dL_law_173 rfl (lv_at hl 3 rfl) ?_
      refine lv_iconst (v := 1) hx hb dL_law_174 (by decide) ?_
      refine lv_iadd hx hb dL_law_175 ?_
      refine va_sld hx hb hXs hbl hbA hX.2.2 i1 dL_law_176 ?_
      rw [ea1]
      refine lv_aload_n hx hb dL_law_177 rfl (lv_at hl 0 rfl) ?_
      refine lv_iload_n hx hb dL_law_178 rfl (lv_at hl 3 rfl) ?_
      refine lv_iconst (v := 2) hx hb dL_law_179 (by decide) ?_
      refine lv_iadd hx hb dL_law_180 ?_
      refine va_sld hx hb hXs hbl hbA hX.2.2 i2 dL_law_181 ?_
      rw [ea2]
      refine law_m (rest := [.int (fx_add mo no a1 a2).1]) F hX (cm_add l D h1 hs dA mo no st a1 a2) cqL_m_add rfl ⟨rfl, rfl⟩ (by decide) (by decide) rfl hl.1 rfl (Nat.le_of_ble_eq_true rfl) dL_law_182 (fun r u' H locs hq hX => ?_)
      obtain ⟨hr1, hu1⟩ := hq
      rw [hr1]
      rw [hu1] at hX
      clear hr1 hu1
      refine lv_icmp_eq (tgt := 513) hx hb dL_law_185 (by decide) (fun c_185 => ?_) (fun c_185 => ?_)
      · rw [eq_add hm no a1 a2] at hX
        exact KI mo _ st sg1 fr1 ex1 _ _ _ hm hs1 hX hl
      · exact absurd (by rw [eq_add hm no a1 a2]) c_185
    | 4, _ =>
      refine lv_tableIn (off := 158) (tgt := 190) hx hb dL_law_32 (by decide) (by decide) (by decide) (by decide) ?_
      refine lv_aload_n hx hb dL_law_190 rfl (lv_at hl 1 rfl) ?_
      refine lv_aload_n hx hb dL_law_191 rfl (lv_at hl 0 rfl) ?_
      refine lv_iload_n hx hb dL_law_192 rfl (lv_at hl 3 rfl) ?_
      refine lv_iconst (v := 1) hx hb dL_law_193 (by decide) ?_
      refine lv_iadd hx hb dL_law_194 ?_
      refine va_sld hx hb hXs hbl hbA hX.2.2 i1 dL_law_195 ?_
      rw [ea1]
      refine lv_aload_n hx hb dL_law_196 rfl (lv_at hl 0 rfl) ?_
      refine lv_iload_n hx hb dL_law_197 rfl (lv_at hl 3 rfl) ?_
      refine lv_iconst (v := 2) hx hb dL_law_198 (by decide) ?_
      refine lv_iadd hx hb dL_law_199 ?_
      refine va_sld hx hb hXs hbl hbA hX.2.2 i2 dL_law_200 ?_
      rw [ea2]
      refine law_x (rest := []) F hX (cx_subtract l D h mo no st sg fr ex a1 a2) cqL_x_subtract rfl ⟨rfl, rfl⟩ (by decide) (by decide) rfl hl.1 rfl (Nat.le_of_ble_eq_true rfl) dL_law_201 (fun r u' H locs hq hX => ?_)
      obtain ⟨sg1, fr1, ex1, hr1, hu1⟩ := hq
      rw [hr1]
      rw [hu1] at hX
      clear hr1 hu1
      refine lv_aload_n hx hb dL_law_204 rfl (lv_at hl 2 rfl) ?_
      refine lv_aload_n hx hb dL_law_205 rfl (lv_at hl 0 rfl) ?_
      refine lv_iload_n hx hb dL_law_206 rfl (lv_at hl 3 rfl) ?_
      refine lv_iconst (v := 1) hx hb dL_law_207 (by decide) ?_
      refine lv_iadd hx hb dL_law_208 ?_
      refine va_sld hx hb hXs hbl hbA hX.2.2 i1 dL_law_209 ?_
      rw [ea1]
      refine lv_aload_n hx hb dL_law_210 rfl (lv_at hl 0 rfl) ?_
      refine lv_iload_n hx hb dL_law_211 rfl (lv_at hl 3 rfl) ?_
      refine lv_iconst (v := 2) hx hb dL_law_212 (by decide) ?_
      refine lv_iadd hx hb dL_law_213 ?_
      refine va_sld hx hb hXs hbl hbA hX.2.2 i2 dL_law_214 ?_
      rw [ea2]
      refine law_m (rest := [.int (fx_subtract mo no a1 a2).1]) F hX (cm_subtract l D h1 hs dA mo no st a1 a2) cqL_m_subtract rfl ⟨rfl, rfl⟩ (by decide) (by decide) rfl hl.1 rfl (Nat.le_of_ble_eq_true rfl) dL_law_215 (fun r u' H locs hq hX => ?_)
      obtain ⟨hr1, hu1⟩ := hq
      rw [hr1]
      rw [hu1] at hX
      clear hr1 hu1
      refine lv_icmp_eq (tgt := 513) hx hb dL_law_218 (by decide) (fun c_218 => ?_) (fun c_218 => ?_)
      · rw [eq_subtract hm no a1 a2] at hX
        exact KI mo _ st sg1 fr1 ex1 _ _ _ hm hs1 hX hl
      · exact absurd (by rw [eq_subtract hm no a1 a2]) c_218
    | 5, _ =>
      refine lv_tableIn (off := 191) (tgt := 223) hx hb dL_law_32 (by decide) (by decide) (by decide) (by decide) ?_
      refine lv_aload_n hx hb dL_law_223 rfl (lv_at hl 1 rfl) ?_
      refine lv_aload_n hx hb dL_law_224 rfl (lv_at hl 0 rfl) ?_
      refine lv_iload_n hx hb dL_law_225 rfl (lv_at hl 3 rfl) ?_
      refine lv_iconst (v := 1) hx hb dL_law_226 (by decide) ?_
      refine lv_iadd hx hb dL_law_227 ?_
      refine va_sld hx hb hXs hbl hbA hX.2.2 i1 dL_law_228 ?_
      rw [ea1]
      refine lv_aload_n hx hb dL_law_229 rfl (lv_at hl 0 rfl) ?_
      refine lv_iload_n hx hb dL_law_230 rfl (lv_at hl 3 rfl) ?_
      refine lv_iconst (v := 2) hx hb dL_law_231 (by decide) ?_
      refine lv_iadd hx hb dL_law_232 ?_
      refine va_sld hx hb hXs hbl hbA hX.2.2 i2 dL_law_233 ?_
      rw [ea2]
      refine law_x (rest := []) F hX (cx_multiply l D h mo no st sg fr ex a1 a2) cqL_x_multiply rfl ⟨rfl, rfl⟩ (by decide) (by decide) rfl hl.1 rfl (Nat.le_of_ble_eq_true rfl) dL_law_234 (fun r u' H locs hq hX => ?_)
      obtain ⟨sg1, fr1, ex1, hr1, hu1⟩ := hq
      rw [hr1]
      rw [hu1] at hX
      clear hr1 hu1
      refine lv_aload_n hx hb dL_law_237 rfl (lv_at hl 2 rfl) ?_
      refine lv_aload_n hx hb dL_law_238 rfl (lv_at hl 0 rfl) ?_
      refine lv_iload_n hx hb dL_law_239 rfl (lv_at hl 3 rfl) ?_
      refine lv_iconst (v := 1) hx hb dL_law_240 (by decide) ?_
      refine lv_iadd hx hb dL_law_241 ?_
      refine va_sld hx hb hXs hbl hbA hX.2.2 i1 dL_law_242 ?_
      rw [ea1]
      refine lv_aload_n hx hb dL_law_243 rfl (lv_at hl 0 rfl) ?_
      refine lv_iload_n hx hb dL_law_244 rfl (lv_at hl 3 rfl) ?_
      refine lv_iconst (v := 2) hx hb dL_law_245 (by decide) ?_
      refine lv_iadd hx hb dL_law_246 ?_
      refine va_sld hx hb hXs hbl hbA hX.2.2 i2 dL_law_247 ?_
      rw [ea2]
      refine law_m (rest := [.int (fx_multiply mo no a1 a2).1]) F hX (cm_multiply l D h1 hs dA mo no st a1 a2) cqL_m_multiply rfl ⟨rfl, rfl⟩ (by decide) (by decide) rfl hl.1 rfl (Nat.le_of_ble_eq_true rfl) dL_law_248 (fun r u' H locs hq hX => ?_)
      obtain ⟨hr1, hu1⟩ := hq
      rw [hr1]
      rw [hu1] at hX
      clear hr1 hu1
      refine lv_icmp_eq (tgt := 513) hx hb dL_law_251 (by decide) (fun c_251 => ?_) (fun c_251 => ?_)
      · rw [eq_multiply hm no a1 a2] at hX
        exact KI mo _ st sg1 fr1 ex1 _ _ _ hm hs1 hX hl
      · exact absurd (by rw [eq_multiply hm no a1 a2]) c_251
    | 6, _ =>
      refine lv_tableIn (off := 224) (tgt := 256) hx hb dL_law_32 (by decide) (by decide) (by decide) (by decide) ?_
      refine lv_aload_n hx hb dL_law_256 rfl (lv_at hl 1 rfl) ?_
      refine lv_aload_n hx hb dL_law_257 rfl (lv_at hl 0 rfl) ?_
      refine lv_iload_n hx hb dL_law_258 rfl (lv_at hl 3 rfl) ?_
      refine lv_iconst (v := 1) hx hb dL_law_259 (by decide) ?_
      refine lv_iadd hx hb dL_law_260 ?_
      refine va_sld hx hb hXs hbl hbA hX.2.2 i1 dL_law_261 ?_
      rw [ea1]
      refine lv_aload_n hx hb dL_law_262 rfl (lv_at hl 0 rfl) ?_
      refine lv_iload_n hx hb dL_law_263 rfl (lv_at hl 3 rfl) ?_
      refine lv_iconst (v := 2) hx hb dL_law_264 (by decide) ?_
      refine lv_iadd hx hb dL_law_265 ?_
      refine va_sld hx hb hXs hbl hbA hX.2.2 i2 dL_law_266 ?_
      rw [ea2]
      refine law_x (rest := []) F hX (cx_divide l D h mo no st sg fr ex a1 a2) cqL_x_divide rfl ⟨rfl, rfl⟩ (by decide) (by decide) rfl hl.1 rfl (Nat.le_of_ble_eq_true rfl) dL_law_267 (fun r u' H locs hq hX => ?_)
      obtain ⟨sg1, fr1, ex1, hr1, hu1⟩ := hq
      rw [hr1]
      rw [hu1] at hX
      clear hr1 hu1
      refine lv_aload_n hx hb dL_law_270 rfl (lv_at hl 2 rfl) ?_
      refine lv_aload_n hx hb dL_law_271 rfl (lv_at hl 0 rfl) ?_
      refine lv_iload_n hx hb dL_law_272 rfl (lv_at hl 3 rfl) ?_
      refine lv_iconst (v := 1) hx hb dL_law_273 (by decide) ?_
      refine lv_iadd hx hb dL_law_274 ?_
      refine va_sld hx hb hXs hbl hbA hX.2.2 i1 dL_law_275 ?_
      rw [ea1]
      refine lv_aload_n hx hb dL_law_276 rfl (lv_at hl 0 rfl) ?_
      refine lv_iload_n hx hb dL_law_277 rfl (lv_at hl 3 rfl) ?_
      refine lv_iconst (v := 2) hx hb dL_law_278 (by decide) ?_
      refine lv_iadd hx hb dL_law_279 ?_
      refine va_sld hx hb hXs hbl hbA hX.2.2 i2 dL_law_280 ?_
      rw [ea2]
      refine law_m (rest := [.int (fx_divide mo no a1 a2).1]) F hX (cm_divide l D h1 hs dA mo no st a1 a2) cqL_m_divide rfl ⟨rfl, rfl⟩ (by decide) (by decide) rfl hl.1 rfl (Nat.le_of_ble_eq_true rfl) dL_law_281 (fun r u' H locs hq hX => ?_)
      obtain ⟨hr1, hu1⟩ := hq
      rw [hr1]
      rw [hu1] at hX
      clear hr1 hu1
      refine lv_icmp_eq (tgt := 513) hx hb dL_law_284 (by decide) (fun c_284 => ?_) (fun c_284 => ?_)
      · rw [eq_divide hm no a1 a2] at hX
        exact KI mo _ st sg1 fr1 ex1 _ _ _ hm hs1 hX hl
      · exact absurd (by rw [eq_divide hm no a1 a2]) c_284
    | 7, _ =>
      refine lv_tableIn (off := 257) (tgt := 289) hx hb dL_law_32 (by decide) (by decide) (by decide) (by decide) ?_
      refine lv_aload_n hx hb dL_law_289 rfl (lv_at hl 1 rfl) ?_
      refine lv_aload_n hx hb dL_law_290 rfl (lv_at hl 0 rfl) ?_
      refine lv_iload_n hx hb dL_law_291 rfl (lv_at hl 3 rfl) ?_
      refine lv_iconst (v := 1) hx hb dL_law_292 (by decide) ?_
      refine lv_iadd hx hb dL_law_293 ?_
      refine va_sld hx hb hXs hbl hbA hX.2.2 i1 dL_law_294 ?_
      rw [ea1]
      refine law_x (rest := []) F hX (cx_root l D h mo no st sg fr ex a1) cqL_x_root rfl ⟨rfl, rfl⟩ (by decide) (by decide) rfl hl.1 rfl (Nat.le_of_ble_eq_true rfl) dL_law_295 (fun r u' H locs hq hX => ?_)
      obtain ⟨sg1, fr1, ex1, hr1, hu1⟩ := hq
      rw [hr1]
      rw [hu1] at hX
      clear hr1 hu1
      refine lv_aload_n hx hb dL_law_298 rfl (lv_at hl 2 rfl) ?_
      refine lv_aload_n hx hb dL_law_299 rfl (lv_at hl 0 rfl) ?_
      refine lv_iload_n hx hb dL_law_300 rfl (lv_at hl 3 rfl) ?_
      refine lv_iconst (v := 1) hx hb dL_law_301 (by decide) ?_
      refine lv_iadd hx hb dL_law_302 ?_
      refine va_sld hx hb hXs hbl hbA hX.2.2 i1 dL_law_303 ?_
      rw [ea1]
      refine law_m (rest := [.int (fx_root mo no a1).1]) F hX (cm_root l D h1 hs dA mo no st a1) cqL_m_root rfl ⟨rfl, rfl⟩ (by decide) (by decide) rfl hl.1 rfl (Nat.le_of_ble_eq_true rfl) dL_law_304 (fun r u' H locs hq hX => ?_)
      obtain ⟨hr1, hu1⟩ := hq
      rw [hr1]
      rw [hu1] at hX
      clear hr1 hu1
      refine lv_icmp_eq (tgt := 513) hx hb dL_law_307 (by decide) (fun c_307 => ?_) (fun c_307 => ?_)
      · rw [eq_root hm no a1] at hX
        exact KI mo _ st sg1 fr1 ex1 _ _ _ hm hs1 hX hl
      · exact absurd (by rw [eq_root hm no a1]) c_307
    | 8, _ =>
      refine lv_tableIn (off := 280) (tgt := 312) hx hb dL_law_32 (by decide) (by decide) (by decide) (by decide) ?_
      refine lv_aload_n hx hb dL_law_312 rfl (lv_at hl 1 rfl) ?_
      refine lv_aload_n hx hb dL_law_313 rfl (lv_at hl 0 rfl) ?_
      refine lv_iload_n hx hb dL_law_314 rfl (lv_at hl 3 rfl) ?_
      refine lv_iconst (v := 1) hx hb dL_law_315 (by decide) ?_
      refine lv_iadd hx hb dL_law_316 ?_
      refine va_sld hx hb hXs hbl hbA hX.2.2 i1 dL_law_317 ?_
      rw [ea1]
      refine lv_aload_n hx hb dL_law_318 rfl (lv_at hl 0 rfl) ?_
      refine lv_iload_n hx hb dL_law_319 rfl (lv_at hl 3 rfl) ?_
      refine lv_iconst (v := 2) hx hb dL_law_320 (by decide) ?_
      refine lv_iadd hx hb dL_law_321 ?_
      refine va_sld hx hb hXs hbl hbA hX.2.2 i2 dL_law_322 ?_
      rw [ea2]
      refine lv_aload_n hx hb dL_law_323 rfl (lv_at hl 0 rfl) ?_
      refine lv_iload_n hx hb dL_law_324 rfl (lv_at hl 3 rfl) ?_
      refine lv_iconst (v := 3) hx hb dL_law_325 (by decide) ?_
      refine lv_iadd hx hb dL_law_326 ?_
      refine va_sld hx hb hXs hbl hbA hX.2.2 i3 dL_law_327 ?_
      rw [ea3]
      refine law_x (rest := []) F hX (cx_together l D h mo no st sg fr ex a1 a2 a3) cqL_x_together rfl ⟨rfl, rfl⟩ (by decide) (by decide) rfl hl.1 rfl (Nat.le_of_ble_eq_true rfl) dL_law_328 (fun r u' H locs hq hX => ?_)
      obtain ⟨sg1, fr1, ex1, hr1, hu1⟩ := hq
      rw [hr1]
      rw [hu1] at hX
      clear hr1 hu1
      refine lv_aload_n hx hb dL_law_331 rfl (lv_at hl 2 rfl) ?_
      refine lv_aload_n hx hb dL_law_332 rfl (lv_at hl 0 rfl) ?_
      refine lv_iload_n hx hb dL_law_333 rfl (lv_at hl 3 rfl) ?_
      refine lv_iconst (v := 1) hx hb dL_law_334 (by decide) ?_
      refine lv_iadd hx hb dL_law_335 ?_
      refine va_sld hx hb hXs hbl hbA hX.2.2 i1 dL_law_336 ?_
      rw [ea1]
      refine lv_aload_n hx hb dL_law_337 rfl (lv_at hl 0 rfl) ?_
      refine lv_iload_n hx hb dL_law_338 rfl (lv_at hl 3 rfl) ?_
      refine lv_iconst (v := 2) hx hb dL_law_339 (by decide) ?_
      refine lv_iadd hx hb dL_law_340 ?_
      refine va_sld hx hb hXs hbl hbA hX.2.2 i2 dL_law_341 ?_
      rw [ea2]
      refine lv_aload_n hx hb dL_law_342 rfl (lv_at hl 0 rfl) ?_
      refine lv_iload_n hx hb dL_law_343 rfl (lv_at hl 3 rfl) ?_
      refine lv_iconst (v := 3) hx hb dL_law_344 (by decide) ?_
      refine lv_iadd hx hb dL_law_345 ?_
      refine va_sld hx hb hXs hbl hbA hX.2.2 i3 dL_law_346 ?_
      rw [ea3]
      refine law_m (rest := [.int (fx_together mo no a1 a2 a3).1]) F hX (cm_together l D h1 hs dA mo no st a1 a2 a3) cqL_m_together rfl ⟨rfl, rfl⟩ (by decide) (by decide) rfl hl.1 rfl (Nat.le_of_ble_eq_true rfl) dL_law_347 (fun r u' H locs hq hX => ?_)
      obtain ⟨hr1, hu1⟩ := hq
      rw [hr1]
      rw [hu1] at hX
      clear hr1 hu1
      refine lv_icmp_eq (tgt := 513) hx hb dL_law_350 (by decide) (fun c_350 => ?_) (fun c_350 => ?_)
      · rw [eq_together hm no a1 a2 a3] at hX
        exact KI mo _ st sg1 fr1 ex1 _ _ _ hm hs1 hX hl
      · exact absurd (by rw [eq_together hm no a1 a2 a3]) c_350
    | 9, _ =>
      refine lv_tableIn (off := 323) (tgt := 355) hx hb dL_law_32 (by decide) (by decide) (by decide) (by decide) ?_
      refine lv_aload_n hx hb dL_law_355 rfl (lv_at hl 1 rfl) ?_
      refine lv_aload_n hx hb dL_law_356 rfl (lv_at hl 0 rfl) ?_
      refine lv_iload_n hx hb dL_law_357 rfl (lv_at hl 3 rfl) ?_
      refine lv_iconst (v := 1) hx hb dL_law_358 (by decide) ?_
      refine lv_iadd hx hb dL_law_359 ?_
      refine va_sld hx hb hXs hbl hbA hX.2.2 i1 dL_law_360 ?_
      rw [ea1]
      refine lv_aload_n hx hb dL_law_361 rfl (lv_at hl 0 rfl) ?_
      refine lv_iload_n hx hb dL_law_362 rfl (lv_at hl 3 rfl) ?_
      refine lv_iconst (v := 2) hx hb dL_law_363 (by decide) ?_
      refine lv_iadd hx hb dL_law_364 ?_
      refine va_sld hx hb hXs hbl hbA hX.2.2 i2 dL_law_365 ?_
      rw [ea2]
      refine law_x (rest := []) F hX (cx_compare l D h mo no st sg fr ex a1 a2) cqL_x_compare rfl ⟨rfl, rfl⟩ (by decide) (by decide) rfl hl.1 rfl (Nat.le_of_ble_eq_true rfl) dL_law_366 (fun r u' H locs hq hX => ?_)
      obtain ⟨hr1, hu1⟩ := hq
      rw [hr1]
      rw [hu1] at hX
      clear hr1 hu1
      refine lv_aload_n hx hb dL_law_369 rfl (lv_at hl 2 rfl) ?_
      refine lv_aload_n hx hb dL_law_370 rfl (lv_at hl 0 rfl) ?_
      refine lv_iload_n hx hb dL_law_371 rfl (lv_at hl 3 rfl) ?_
      refine lv_iconst (v := 1) hx hb dL_law_372 (by decide) ?_
      refine lv_iadd hx hb dL_law_373 ?_
      refine va_sld hx hb hXs hbl hbA hX.2.2 i1 dL_law_374 ?_
      rw [ea1]
      refine lv_aload_n hx hb dL_law_375 rfl (lv_at hl 0 rfl) ?_
      refine lv_iload_n hx hb dL_law_376 rfl (lv_at hl 3 rfl) ?_
      refine lv_iconst (v := 2) hx hb dL_law_377 (by decide) ?_
      refine lv_iadd hx hb dL_law_378 ?_
      refine va_sld hx hb hXs hbl hbA hX.2.2 i2 dL_law_379 ?_
      rw [ea2]
      refine law_m (rest := [.int (fx_compare a1 a2)]) F hX (cm_compare l D h1 hs dA mo no st a1 a2) cqL_m_compare rfl ⟨rfl, rfl⟩ (by decide) (by decide) rfl hl.1 rfl (Nat.le_of_ble_eq_true rfl) dL_law_380 (fun r u' H locs hq hX => ?_)
      obtain ⟨hr1, hu1⟩ := hq
      rw [hr1]
      rw [hu1] at hX
      clear hr1 hu1
      refine lv_icmp_eq (tgt := 513) hx hb dL_law_383 (by decide) (fun c_383 => ?_) (fun c_383 => ?_)
      · exact KI mo no st sg fr ex _ _ _ hm hs1 hX hl
      · exact absurd (by rw [eq_compare a1 a2]) c_383
    | 10, _ =>
      refine lv_tableIn (off := 356) (tgt := 388) hx hb dL_law_32 (by decide) (by decide) (by decide) (by decide) ?_
      refine lv_aload_n hx hb dL_law_388 rfl (lv_at hl 1 rfl) ?_
      refine lv_aload_n hx hb dL_law_389 rfl (lv_at hl 0 rfl) ?_
      refine lv_iload_n hx hb dL_law_390 rfl (lv_at hl 3 rfl) ?_
      refine lv_iconst (v := 1) hx hb dL_law_391 (by decide) ?_
      refine lv_iadd hx hb dL_law_392 ?_
      refine va_sld hx hb hXs hbl hbA hX.2.2 i1 dL_law_393 ?_
      rw [ea1]
      refine law_x (rest := []) F hX (cx_from l D h mo no st sg fr ex a1) cqL_x_from rfl ⟨rfl, rfl⟩ (by decide) (by decide) rfl hl.1 rfl (Nat.le_of_ble_eq_true rfl) dL_law_394 (fun r u' H locs hq hX => ?_)
      obtain ⟨sg1, fr1, ex1, hr1, hu1⟩ := hq
      rw [hr1]
      rw [hu1] at hX
      clear hr1 hu1
      refine lv_aload_n hx hb dL_law_397 rfl (lv_at hl 2 rfl) ?_
      refine lv_aload_n hx hb dL_law_398 rfl (lv_at hl 0 rfl) ?_
      refine lv_iload_n hx hb dL_law_399 rfl (lv_at hl 3 rfl) ?_
      refine lv_iconst (v := 1) hx hb dL_law_400 (by decide) ?_
      refine lv_iadd hx hb dL_law_401 ?_
      refine va_sld hx hb hXs hbl hbA hX.2.2 i1 dL_law_402 ?_
      rw [ea1]
      refine law_m (rest := [.int (fx_from mo no a1).1]) F hX (cm_from l D h1 hs dA mo no st a1) cqL_m_from rfl ⟨rfl, rfl⟩ (by decide) (by decide) rfl hl.1 rfl (Nat.le_of_ble_eq_true rfl) dL_law_403 (fun r u' H locs hq hX => ?_)
      obtain ⟨hr1, hu1⟩ := hq
      rw [hr1]
      rw [hu1] at hX
      clear hr1 hu1
      refine lv_icmp_eq (tgt := 513) hx hb dL_law_406 (by decide) (fun c_406 => ?_) (fun c_406 => ?_)
      · rw [eq_from hm no a1] at hX
        exact KI mo _ st sg1 fr1 ex1 _ _ _ hm hs1 hX hl
      · exact absurd (by rw [eq_from hm no a1]) c_406
    | 11, _ =>
      refine lv_tableIn (off := 379) (tgt := 411) hx hb dL_law_32 (by decide) (by decide) (by decide) (by decide) ?_
      refine lv_aload_n hx hb dL_law_411 rfl (lv_at hl 1 rfl) ?_
      refine lv_aload_n hx hb dL_law_412 rfl (lv_at hl 0 rfl) ?_
      refine lv_iload_n hx hb dL_law_413 rfl (lv_at hl 3 rfl) ?_
      refine lv_iconst (v := 1) hx hb dL_law_414 (by decide) ?_
      refine lv_iadd hx hb dL_law_415 ?_
      refine va_sld hx hb hXs hbl hbA hX.2.2 i1 dL_law_416 ?_
      rw [ea1]
      refine law_x (rest := []) F hX (cx_whole l D h mo no st sg fr ex a1) cqL_x_whole rfl ⟨rfl, rfl⟩ (by decide) (by decide) rfl hl.1 rfl (Nat.le_of_ble_eq_true rfl) dL_law_417 (fun r u' H locs hq hX => ?_)
      obtain ⟨sg1, fr1, ex1, hr1, hu1⟩ := hq
      rw [hr1]
      rw [hu1] at hX
      clear hr1 hu1
      refine lv_aload_n hx hb dL_law_420 rfl (lv_at hl 2 rfl) ?_
      refine lv_aload_n hx hb dL_law_421 rfl (lv_at hl 0 rfl) ?_
      refine lv_iload_n hx hb dL_law_422 rfl (lv_at hl 3 rfl) ?_
      refine lv_iconst (v := 1) hx hb dL_law_423 (by decide) ?_
      refine lv_iadd hx hb dL_law_424 ?_
      refine va_sld hx hb hXs hbl hbA hX.2.2 i1 dL_law_425 ?_
      rw [ea1]
      refine law_m (rest := [.int (fx_whole mo no a1).1]) F hX (cm_whole l D h1 hs dA mo no st a1) cqL_m_whole rfl ⟨rfl, rfl⟩ (by decide) (by decide) rfl hl.1 rfl (Nat.le_of_ble_eq_true rfl) dL_law_426 (fun r u' H locs hq hX => ?_)
      obtain ⟨hr1, hu1⟩ := hq
      rw [hr1]
      rw [hu1] at hX
      clear hr1 hu1
      refine lv_icmp_eq (tgt := 513) hx hb dL_law_429 (by decide) (fun c_429 => ?_) (fun c_429 => ?_)
      · rw [eq_whole hm no a1] at hX
        exact KI mo no st sg1 fr1 ex1 _ _ _ hm hs1 hX hl
      · exact absurd (by rw [eq_whole hm no a1]) c_429
    | 12, _ =>
      refine lv_tableIn (off := 402) (tgt := 434) hx hb dL_law_32 (by decide) (by decide) (by decide) (by decide) ?_
      refine lv_aload_n hx hb dL_law_434 rfl (lv_at hl 1 rfl) ?_
      refine lv_aload_n hx hb dL_law_435 rfl (lv_at hl 0 rfl) ?_
      refine lv_iload_n hx hb dL_law_436 rfl (lv_at hl 3 rfl) ?_
      refine lv_iconst (v := 1) hx hb dL_law_437 (by decide) ?_
      refine lv_iadd hx hb dL_law_438 ?_
      refine va_sld hx hb hXs hbl hbA hX.2.2 i1 dL_law_439 ?_
      rw [ea1]
      refine law_x (rest := []) F hX (cx_pile l D h mo no st sg fr ex a1) cqL_x_pile rfl ⟨rfl, rfl⟩ (by decide) (by decide) rfl hl.1 rfl (Nat.le_of_ble_eq_true rfl) dL_law_440 (fun r u' H locs hq hX => ?_)
      obtain ⟨sg1, fr1, ex1, hr1, hu1⟩ := hq
      rw [hr1]
      rw [hu1] at hX
      clear hr1 hu1
      refine lv_aload_n hx hb dL_law_443 rfl (lv_at hl 2 rfl) ?_
      refine lv_aload_n hx hb dL_law_444 rfl (lv_at hl 0 rfl) ?_
      refine lv_iload_n hx hb dL_law_445 rfl (lv_at hl 3 rfl) ?_
      refine lv_iconst (v := 1) hx hb dL_law_446 (by decide) ?_
      refine lv_iadd hx hb dL_law_447 ?_
      refine va_sld hx hb hXs hbl hbA hX.2.2 i1 dL_law_448 ?_
      rw [ea1]
      refine law_m (rest := [.int (fx_pile mo no st a1).1]) F hX (cm_pile l D h1 hs dA mo no st a1) cqL_m_pile rfl ⟨rfl, rfl⟩ (by decide) (by decide) rfl hl.1 rfl (Nat.le_of_ble_eq_true rfl) dL_law_449 (fun r u' H locs hq hX => ?_)
      obtain ⟨hr1, hu1⟩ := hq
      rw [hr1]
      rw [hu1] at hX
      clear hr1 hu1
      refine lv_icmp_eq (tgt := 513) hx hb dL_law_452 (by decide) (fun c_452 => ?_) (fun c_452 => ?_)
      · rw [eq_pile hm hs1 no a1] at hX
        exact KI _ _ _ sg1 fr1 ex1 _ _ _ (ok_pile hm hs1 no a1).1 (ok_pile hm hs1 no a1).2 hX hl
      · exact absurd (by rw [eq_pile hm hs1 no a1]) c_452
    | 13, _ =>
      refine lv_tableIn (off := 425) (tgt := 457) hx hb dL_law_32 (by decide) (by decide) (by decide) (by decide) ?_
      refine lv_aload_n hx hb dL_law_457 rfl (lv_at hl 1 rfl) ?_
      refine lv_aload_n hx hb dL_law_458 rfl (lv_at hl 0 rfl) ?_
      refine lv_iload_n hx hb dL_law_459 rfl (lv_at hl 3 rfl) ?_
      refine lv_iconst (v := 1) hx hb dL_law_460 (by decide) ?_
      refine lv_iadd hx hb dL_law_461 ?_
      refine va_sld hx hb hXs hbl hbA hX.2.2 i1 dL_law_462 ?_
      rw [ea1]
      refine lv_aload_n hx hb dL_law_463 rfl (lv_at hl 0 rfl) ?_
      refine lv_iload_n hx hb dL_law_464 rfl (lv_at hl 3 rfl) ?_
      refine lv_iconst (v := 2) hx hb dL_law_465 (by decide) ?_
      refine lv_iadd hx hb dL_law_466 ?_
      refine va_sld hx hb hXs hbl hbA hX.2.2 i2 dL_law_467 ?_
      rw [ea2]
      refine law_x (rest := []) F hX (cx_pileProduct l D h mo no st sg fr ex a1 a2) cqL_x_pileProduct rfl ⟨rfl, rfl⟩ (by decide) (by decide) rfl hl.1 rfl (Nat.le_of_ble_eq_true rfl) dL_law_468 (fun r u' H locs hq hX => ?_)
      obtain ⟨sg1, fr1, ex1, hr1, hu1⟩ := hq
      rw [hr1]
      rw [hu1] at hX
      clear hr1 hu1
      refine lv_aload_n hx hb dL_law_471 rfl (lv_at hl 2 rfl) ?_
      refine lv_aload_n hx hb dL_law_472 rfl (lv_at hl 0 rfl) ?_
      refine lv_iload_n hx hb dL_law_473 rfl (lv_at hl 3 rfl) ?_
      refine lv_iconst (v := 1) hx hb dL_law_474 (by decide) ?_
      refine lv_iadd hx hb dL_law_475 ?_
      refine va_sld hx hb hXs hbl hbA hX.2.2 i1 dL_law_476 ?_
      rw [ea1]
      refine lv_aload_n hx hb dL_law_477 rfl (lv_at hl 0 rfl) ?_
      refine lv_iload_n hx hb dL_law_478 rfl (lv_at hl 3 rfl) ?_
      refine lv_iconst (v := 2) hx hb dL_law_479 (by decide) ?_
      refine lv_iadd hx hb dL_law_480 ?_
      refine va_sld hx hb hXs hbl hbA hX.2.2 i2 dL_law_481 ?_
      rw [ea2]
      refine law_m (rest := [.int (fx_pileProduct mo no st a1 a2).1]) F hX (cm_pileProduct l D h1 hs dA mo no st a1 a2) cqL_m_pileProduct rfl ⟨rfl, rfl⟩ (by decide) (by decide) rfl hl.1 rfl (Nat.le_of_ble_eq_true rfl) dL_law_482 (fun r u' H locs hq hX => ?_)
      obtain ⟨hr1, hu1⟩ := hq
      rw [hr1]
      rw [hu1] at hX
      clear hr1 hu1
      refine lv_icmp_eq (tgt := 513) hx hb dL_law_485 (by decide) (fun c_485 => ?_) (fun c_485 => ?_)
      · rw [eq_pileProduct hm hs1 no a1 a2] at hX
        exact KI _ _ _ sg1 fr1 ex1 _ _ _ (ok_pileProduct hm hs1 no a1 a2).1 (ok_pileProduct hm hs1 no a1 a2).2 hX hl
      · exact absurd (by rw [eq_pileProduct hm hs1 no a1 a2]) c_485
    | 14, _ =>
      refine lv_tableIn (off := 458) (tgt := 490) hx hb dL_law_32 (by decide) (by decide) (by decide) (by decide) ?_
      refine lv_aload_n hx hb dL_law_490 rfl (lv_at hl 1 rfl) ?_
      refine lv_aload_n hx hb dL_law_491 rfl (lv_at hl 0 rfl) ?_
      refine lv_iload_n hx hb dL_law_492 rfl (lv_at hl 3 rfl) ?_
      refine lv_iconst (v := 1) hx hb dL_law_493 (by decide) ?_
      refine lv_iadd hx hb dL_law_494 ?_
      refine va_sld hx hb hXs hbl hbA hX.2.2 i1 dL_law_495 ?_
      rw [ea1]
      refine law_x (rest := []) F hX (cx_store l D h mo no st sg fr ex a1) cqL_x_store rfl ⟨rfl, rfl⟩ (by decide) (by decide) rfl hl.1 rfl (Nat.le_of_ble_eq_true rfl) dL_law_496 (fun r u' H locs hq hX => ?_)
      obtain ⟨sg1, fr1, ex1, hr1, hu1⟩ := hq
      rw [hr1]
      rw [hu1] at hX
      clear hr1 hu1
      refine lv_aload_n hx hb dL_law_499 rfl (lv_at hl 2 rfl) ?_
      refine lv_aload_n hx hb dL_law_500 rfl (lv_at hl 0 rfl) ?_
      refine lv_iload_n hx hb dL_law_501 rfl (lv_at hl 3 rfl) ?_
      refine lv_iconst (v := 1) hx hb dL_law_502 (by decide) ?_
      refine lv_iadd hx hb dL_law_503 ?_
      refine va_sld hx hb hXs hbl hbA hX.2.2 i1 dL_law_504 ?_
      rw [ea1]
      refine law_m (rest := [.int (fx_store mo no st a1).1]) F hX (cm_store l D h1 hs dA mo no st a1) cqL_m_store rfl ⟨rfl, rfl⟩ (by decide) (by decide) rfl hl.1 rfl (Nat.le_of_ble_eq_true rfl) dL_law_505 (fun r u' H locs hq hX => ?_)
      obtain ⟨hr1, hu1⟩ := hq
      rw [hr1]
      rw [hu1] at hX
      clear hr1 hu1
      refine lv_icmp_eq (tgt := 513) hx hb dL_law_508 (by decide) (fun c_508 => ?_) (fun c_508 => ?_)
      · rw [eq_store mo no st a1] at hX
        exact KI _ _ _ sg1 fr1 ex1 _ _ _ (ok_store hm hs1 no a1).1 (ok_store hm hs1 no a1).2 hX hl
      · exact absurd (by rw [eq_store mo no st a1]) c_508
    | 15, _ =>
      refine lv_tableOut (tgt := 513) hx hb dL_law_32 (by decide) (by decide) ?_
      exact KI mo no st sg fr ex _ _ _ hm hs1 hX hl
    | j + 16, hj => exact absurd hj (by omega)
end
section
set_option maxRecDepth 100000
set_option maxHeartbeats 16000000 in
/-- from the entry, for every script of at most 256 ints, the law comes to its end with true -/
theorem whole_start {p : Program} {e : Env} {s : State} {m : MethodId} {below : List Frame} {meth : Method} {c : Code} (l : Launch) {b L : Nat} {xs : Nat → Int32} (hL : L ≤ 256) (C0 : lw_At p s m meth c b L xs) : W p l e room_1 s m #[Value.ref b] below meth c s.heap [] 0 0 (lw_Z below #[Value.ref b] s) (entryFrame m ([Value.ref b] : List Value).toArray 4) := by
  obtain ⟨hx, hb, hr, hml, hown, hts0, hX, hbl, hlocks, hgv⟩ := id C0
  have hts : ∀ w ∈ lw_all, w.before #[Value.ref b] s = true := fun w h => hts0 w (lw_all_tbl h)
  have hA : ∀ q : Nat, s.heap.size ≤ q → (fun q : Nat => s.heap.size ≤ q) q := fun _ h => h
  obtain ⟨c0, iS0, hKn0⟩ := u_known (C := RX0) (T := TX0) (N := 6) (n := 6) hts in_X0 (hts _ q33)
  obtain ⟨c1, iS1, hKn1⟩ := u_known (C := RX1) (T := TX1) (N := 4) (n := 4) hts in_X1 (hts _ q185)
  obtain ⟨D, hKc⟩ : ∃ D : va_G, ∀ (k : Nat) (q : vw_C), vwCl[k]? = some q → u_Kn s q.1 q.2.1 q.2.2 (D.1 k) (D.2 k) := by
    refine ⟨(fun k => if k = 0 then c0 else c1, fun k => if k = 0 then iS0 else iS1), ?_⟩
    intro k q hq
    match k, hq with
    | 0, hq => cases hq; exact hKn0
    | 1, hq => cases hq; exact hKn1
    | k + 2, hq => simp [vwCl] at hq
  have hS : va_S (fun q : Nat => s.heap.size ≤ q) s.heap s.heap [] := va_S.rf
  have hK : va_K D vwCl [] s := ⟨hKc, fun k q h => by simp at h⟩
  have hP : va_P D vwCl [] s.heap := fun k q h => by simp at h
  have hD : va_D (fun q : Nat => s.heap.size ≤ q) [] := ⟨fun i j p q h => by simp at h, fun k q h => by simp at h⟩
  have hl := lv_entry ([.ref b]) (n := 4) (Nat.le_of_ble_eq_true rfl)
  rw [lg_entry_eq]
  generalize (lg_sl ([.ref b]) ++ List.replicate (4 - (lg_sl ([.ref b])).length) Slot.unset).toArray = ls at hl ⊢
  have hl : lv_has ls 4 [(0, .ref b)] := hl
  refine va_new (ci := 0) (fs := [.int 0, .int 0, .int 0, .int 0, .long 0, .int 0]) (C := RX0) (T := TX0) (N := 6) hx hb hts in_X0 tyX0 tyX0_ok hown (hts _ q32) (hts _ q33) (hts _ q30) hK hP hD hS hA rfl (fun j hj => by rcases (show j = 0 ∨ j = 1 ∨ j = 2 ∨ j = 3 ∨ j = 4 ∨ j = 5 by omega) with rfl | rfl | rfl | rfl | rfl | rfl <;> rfl) (Nat.le_of_ble_eq_true rfl) (Nat.le_of_ble_eq_true rfl) dL_law_0 (fun h H hP hD hS => ?_)
  have hP : va_P D vwCl (wX h (0, 0, 0, 0, 0, 0)) H := hP
  have hD : va_D (fun q : Nat => s.heap.size ≤ q) (wX h (0, 0, 0, 0, 0, 0)) := hD
  refine W.widen (k := 1) (n := 6) (by omega) (by omega) ?_
  refine lv_dup hx hb dL_law_3 rfl ?_
  have hFc := va_free (wc := wX h (0, 0, 0, 0, 0, 0)) hD hS hA [0] rfl
  refine va_callv (va_runI (As := []) (rest := [.ref h]) ⟨hx, hb, hml, hown, hts⟩ (cx_init l D h (0, 0, 0, 0, 0, 0) H.size) (cwI 0 hts (lw_meth q36) rfl rfl rfl (hts _ q30) (hts _ q34) (hts _ q35) rfl (by decide +kernel) ⟨Nat.le_of_ble_eq_true rfl, Nat.le_of_ble_eq_true rfl⟩) ⟨fun a U g mk q => by obtain ⟨q0, q1, qP, qK, qD⟩ := q; exact ⟨q0, q1, qP, va_K.moved (u := U) (U := U.calling g mk a) (Vm.Alike.refl U.vm) qK, qD⟩, fun U hU hW => ⟨rfl, by rw [hU], by rw [hU]; exact hP, va_K.moved hW.alike hK, hD.weaken (fun _ _ _ _ => trivial)⟩⟩ rfl rfl hl.1 rfl (lv_room (Nat.le_of_ble_eq_true rfl)) dL_law_4 ⟨Nat.le_of_ble_eq_true rfl, Nat.le_of_ble_eq_true rfl⟩) hS (fun q _ h => hFc q h) hFc (fun u t H1 locs ht hvm hw1 hB hz1 hk1 hS => ?_)
  obtain rfl := hw1
  obtain ⟨hP1, hK1, hD1⟩ := hB
  rw [ht] at hP1
  have hD1 := hD1.weaken (B := fun q : Nat => s.heap.size ≤ q) (fun k q _ h => hFc q.1 h)
  clear hP hD hFc
  generalize H1 = H at hP1 hS ⊢
  refine lv_astore_n (lv' := [(1, .ref h), (0, .ref b)]) hx hb dL_law_7 rfl hl (by decide) rfl (fun ls hl => ?_)
  refine va_new (ci := 1) (fs := [.null, .int 0, .int 0, .int 0]) (C := RX1) (T := TX1) (N := 4) hx hb hts in_X1 tyX1 tyX1_ok hown (hts _ q184) (hts _ q185) (hts _ q31) hK hP1 hD1 hS hA rfl (fun j hj => by rcases (show j = 0 ∨ j = 1 ∨ j = 2 ∨ j = 3 by omega) with rfl | rfl | rfl | rfl <;> rfl) (Nat.le_of_ble_eq_true rfl) (Nat.le_of_ble_eq_true rfl) dL_law_8 (fun h1 H hP hD hS => ?_)
  have hP : va_P D vwCl [(h, .inr (0, fX (0, 0, 0, 0, 0, 0))), (h1, .inr (1, [.null, .int 0, .int 0, .int 0]))] H := hP
  have hD : va_D (fun q : Nat => s.heap.size ≤ q) [(h, .inr (0, fX (0, 0, 0, 0, 0, 0))), (h1, .inr (1, [.null, .int 0, .int 0, .int 0]))] := hD
  refine W.widen (k := 2) (n := 10) (by omega) (by omega) ?_
  refine lv_dup hx hb dL_law_11 rfl ?_
  have hPc := hP.sub (ws' := wM0 h1) [1] rfl
  have hDc := hD.sub (ws' := wM0 h1) [1] (by decide) rfl
  have hFc := va_free (wc := wM0 h1) hD hS hA [1] rfl
  refine va_callv (va_runI (As := []) (rest := [.ref h1]) ⟨hx, hb, hml, hown, hts⟩ (cm_init l D h1 H.size) (cwI 0 hts (lw_meth q188) rfl rfl rfl (hts _ q31) (hts _ q186) (hts _ q187) rfl (by decide +kernel) ⟨Nat.le_of_ble_eq_true rfl, Nat.le_of_ble_eq_true rfl⟩) ⟨fun a U g mk q => by obtain ⟨q0, q1, qP, qK, qD⟩ := q; exact ⟨q0, q1, qP, va_K.moved (u := U) (U := U.calling g mk a) (Vm.Alike.refl U.vm) qK, qD⟩, fun U hU hW => ⟨rfl, by rw [hU], by rw [hU]; exact hPc, va_K.moved hW.alike hK, hDc.weaken (fun _ _ _ _ => trivial)⟩⟩ rfl rfl hl.1 rfl (lv_room (Nat.le_of_ble_eq_true rfl)) dL_law_12 ⟨Nat.le_of_ble_eq_true rfl, Nat.le_of_ble_eq_true rfl⟩) hS (fun q _ h => hFc q h) hFc (fun u t H1 locs ht hvm hw1 hB hz1 hk1 hS => ?_)
  obtain ⟨hs, dA⟩ := u
  obtain ⟨hP1, hK1, hD1⟩ := hB
  rw [ht] at hP1
  have hK1 := va_K.moved hvm.symm hK1
  obtain ⟨hP, hD⟩ := va_join (wr := [(h, .inr (0, fX (0, 0, 0, 0, 0, 0)))]) (w1 := wM h1 hs dA (0, 0, 0)) hP hD [1] [0] rfl rfl (by decide) (by decide) hk1 hFc hP1 hD1
  generalize H1 = H at hP hS ⊢
  refine W.widen (k := 3) (n := 131) (by omega) (by omega) ?_
  refine lv_astore_n (lv' := [(2, .ref h1), (1, .ref h), (0, .ref b)]) hx hb dL_law_15 rfl hl (by decide) rfl (fun ls hl => ?_)
  refine lv_iconst (v := 0) hx hb dL_law_16 (by decide) ?_
  refine lv_istore_n (lv' := [(3, .int 0), (2, .ref h1), (1, .ref h), (0, .ref b)]) hx hb dL_law_17 rfl hl (by decide) rfl (fun ls hl => ?_)
  exact law_loop l hL (D := D) (dA := dA) (h := h) (h1 := h1) (hs := hs) ⟨hx, hb, hml, hown, hts, hK1, hA, hr, hlocks⟩ hX hbl 66 0 0 0 0 0 0 0 _ _ _ rfl (Nat.zero_le _) (Or.inl rfl) ⟨0, by decide, rfl⟩ ⟨hP, hD, hS⟩ (lv_sub hl [3, 2, 1, 0] rfl)
set_option maxHeartbeats 4000000 in
theorem lw_walk (l : Launch) (b : Addr) (xs : List Int32) : MetFree l x (headSpec (Jvm.Cond.code x code maxLocals ret :: tables_1) room_1) (lw_P b xs) (fun _ _ _ _ _ => True) lw_Q := by
  refine MetFree.of_bodyS (code := code) (maxLocals := maxLocals) (ret := ret) (by decide) ?_ ?_
  · intro args s m h hn
    obtain ⟨meth, c, h1, h2, h3, h4, h5, h6, -, -⟩ := Cond.code_spec hn (atoms_spec (ws := Jvm.Cond.code x code maxLocals ret :: tables_1) h _ List.mem_cons_self)
    exact ⟨meth, c, h1, h2, h3, h4, h5, h6⟩
  · intro p e s m args below meth c s₁ B hml0 hP _
    obtain ⟨rfl, hx, hbd, hgv⟩ := hP
    obtain ⟨scr, harrAt, hlist, hof, hsmall⟩ := hx
    obtain ⟨hcb, hkn, -, -⟩ := State.arrayAt?_spec harrAt
    have hown : s.vm.findClass R_law = some m.cls := findClass_of_methodNamed B.named
    have hts0 : ∀ c ∈ (Jvm.Cond.code x code maxLocals ret :: tables_1), c.before #[Value.ref b] s = true := atoms_spec (ws := Jvm.Cond.code x code maxLocals ret :: tables_1) B.pre
    have hts : ∀ w ∈ lw_tbl, w.before #[Value.ref b] s = true := k2_hts_sels lw_privs (fun w hw => hts0 w (List.mem_cons_of_mem _ hw)) lw_privs_ok
    have hml : c.maxLocals = 4 := B.maxLocals_eq (hts0 _ List.mem_cons_self)
    have X₀ : Stand p l e room_1 s m #[Value.ref b] below meth c s₁ [] 0 0 := Stand.of_body B
    have hh0 : s₁.heap = s.heap := by rw [B.state]; rfl
    have hsz : scr.slots.size = xs.length := by rw [← Array.length_toList, hlist, List.length_map]
    have hval : ∀ j : Nat, j < xs.length → scr.slots[j]? = some (.int (xs.getD j 0)) := fun j hj => by
      rw [← Array.getElem?_toList, hlist]
      simp [hj]
    have hbl : b < s.heap.size := (Array.getElem?_eq_some_iff.mp hcb).1
    have hX : va_X b xs.length (fun j => xs.getD j 0) s s.heap := ⟨scr, hcb, hof, hkn, hsz, hval⟩
    have K : W p l e room_1 s m #[Value.ref b] below meth c s₁.heap [] 0 0 (lw_Z below #[Value.ref b] s) (entryFrame m ([Value.ref b] : List Value).toArray 4) := by
      rw [hh0]
      exact whole_start l hbd ⟨B.exec, B.bytes, B.returns, hml, hown, hts, hX, hbl, B.notSynchronized, hgv⟩
    obtain ⟨t, a1, o, b1, b2, b3⟩ := K s₁ rfl X₀
    exact ⟨t, o, a1, b1, b2, b3⟩
theorem lw_pre_spec {args : Array Value} {s : State} (h : (Jvm.Cond.and given_1 narrow_1).before args s = true) (hr : rest_1_c.before args s = true) : ∃ (b : Addr) (xs : List Int32), lw_P b xs args s := by
  have hs := flat_of_before _ h
  have hq := flat_of_before _ hr
  have hc : (Cond.count 1).before args s = true := hs _ (by decide +kernel)
  have harr : (Cond.arrayOf (.arg 0) .int).before args s = true := hs _ (by decide +kernel)
  have hle : (Cond.le (.length (.arg 0)) (.int 256)).before args s = true := hs _ (by decide +kernel)
  have hlen : (Cond.isInt (.length (.arg 0))).before args s = true := hq _ (by decide +kernel)
  have hall : (Cond.all (.arg 0) (.isInt (.elem (.arg 0) (.index 0)))).before args s = true := hq _ (by decide +kernel)
  obtain ⟨b, xs, hb, hx⟩ := State.ints_of_pre rfl harr hlen hall
  have hsm : xs.length < 2 ^ 31 := hx.choose_spec.2.2.2
  have hev : (Term.length (.arg 0)).eval args s none [] s = some (.int xs.length.toInt32) := hx.length_eval hb
  have hv := Cond.le_ints hev (show (Term.int 256).eval args s none [] s = some (.int 256) from rfl)
  have hd : xs.length.toInt32 ≤ 256 := by
    simpa [Cond.before, Cond.holds, hv] using hle
  have hN : xs.length ≤ 256 := (Int32.ofNat_le_ofNat hsm (by decide)).mp (show Int32.ofNat xs.length ≤ Int32.ofNat 256 from hd)
  exact ⟨b, xs, Cond.one_arg hc (show args[0]? = some (.ref b) from hb), hx, hN, h⟩
theorem lw_comes (l : Launch) : Comes l x (Jvm.Cond.code x code maxLocals ret :: tables_1) room_1 (fun tb e args s => Calls_1 tb e args s ∧ rest_1 tb e args s ∧ Pre_1 tb e args s)
    (fun _ _ args s o t => lw_Q args s o t) := by
  intro p e ha hc hk s m args below hf hfit hheap happ hpre
  obtain ⟨b, xs, hP⟩ := lw_pre_spec hpre.2.2 hpre.2.1
  obtain ⟨k, o, h1, h2, h3, hQ⟩ := lw_walk l b xs p e ha hc hk s m args below hf ((Spec.applies_iff_loose hf).mp happ).1 hP trivial
  exact ⟨k, o, h1, h2, h3, hQ⟩
theorem lw_frame {s t : State} {o : Outcome} {args : Array Value} (h : Framed s o t [] 600000 7290000) :
    Framed s o t (fieldLocs frame_1_writes args s ++ arrayLocs frame_1_arrays args s ++ staticLocs frame_1_statics s) 600000 7290000 := h
theorem lw_limb (L : Cond) (hL : ∀ (args : Array Value) (s t : State), L.after args s (.returned (some (.int 1))) t = true) :
    ArmFor flags0 classFile x code maxLocals ret World_1 tables_1 room_1 Calls_1 rest_1 Pre_1
      (fun tb e a s o t => postC L tb e a s o t ∧ Framed s o t (fieldLocs frame_1_writes a s ++ arrayLocs frame_1_arrays a s ++ staticLocs frame_1_statics s) 600000 7290000) := by
  intro l _ _ _ p e ha hc hk s m args below hf hfit hheap happ hpre
  obtain ⟨k, o, h1, h2, h3, rfl, hF⟩ := lw_comes l p e ha hc hk s m args below hf hfit hheap happ hpre
  exact ⟨k, _, h1, h2, h3, hL args s _, lw_frame hF⟩
theorem i_vc : Claimed_1_1 ∧ Claimed_1_2 := ⟨lw_limb limb_1_1 (fun args s t => by simp [limb_1_1, Cond.after, Cond.holds, Cond.value]), lw_limb limb_1_2 (fun args s t => Cond.after_iff.mpr (by
  first | (rw [show limb_1_2 = Cond.eq .result (.int 1) from rfl, Cond.eq_ints (x := 1) (y := 1) rfl rfl]; simp; done) | (simp [limb_1_2, Cond.value, Term.eval]; done)))⟩
end
