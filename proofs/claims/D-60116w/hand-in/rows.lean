section
-- ===== PART A: goes FIRST, ahead of the names: the tables' words, and 'selects' of the private methods out of them =====
/-- a private method of a class that the tables say can be made, by its rows of tables_1 -/
def lw_okq (q : MethodName × Nat) : Prop := (q.1.cls ≠ "java/lang/invoke/MethodHandle" ∧ q.1.cls ≠ "java/lang/invoke/VarHandle") ∧ Cond.instantiable q.1.cls q.2 ∈ tables_1 ∧ Cond.privateMethod q.1 ∈ tables_1 ∧ Cond.instanceMethod q.1 ∈ tables_1
set_option maxRecDepth 100000
theorem lw_t1 {w : Cond} (h : w ∈ tables_1_1) : w ∈ tables_1 := List.mem_append_left _ h
theorem lw_t2 {w : Cond} (h : w ∈ tables_1_2) : w ∈ tables_1 := List.mem_append_right _ h
theorem lw_p0 : lw_okq (⟨"CompressedSwap", "badPage", "(I)Z"⟩, 16) := ⟨⟨by decide +kernel, by decide +kernel⟩, lw_t1 (List.mem_of_getElem? (i := 4) rfl), lw_t1 (List.mem_of_getElem? (i := 66) rfl), lw_t1 (List.mem_of_getElem? (i := 67) rfl)⟩
theorem lw_p1 : lw_okq (⟨"CompressedSwap", "badPlace", "(I)Z"⟩, 16) := ⟨⟨by decide +kernel, by decide +kernel⟩, lw_t1 (List.mem_of_getElem? (i := 4) rfl), lw_t1 (List.mem_of_getElem? (i := 70) rfl), lw_t1 (List.mem_of_getElem? (i := 71) rfl)⟩
theorem lw_p2 : lw_okq (⟨"CompressedSwap", "badByte", "(I)Z"⟩, 16) := ⟨⟨by decide +kernel, by decide +kernel⟩, lw_t1 (List.mem_of_getElem? (i := 4) rfl), lw_t1 (List.mem_of_getElem? (i := 74) rfl), lw_t1 (List.mem_of_getElem? (i := 75) rfl)⟩
theorem lw_p3 : lw_okq (⟨"CompressedSwap", "bring", "(I)I"⟩, 16) := ⟨⟨by decide +kernel, by decide +kernel⟩, lw_t1 (List.mem_of_getElem? (i := 4) rfl), lw_t1 (List.mem_of_getElem? (i := 78) rfl), lw_t1 (List.mem_of_getElem? (i := 79) rfl)⟩
theorem lw_p4 : lw_okq (⟨"CompressedSwap", "freeFrame", "()I"⟩, 16) := ⟨⟨by decide +kernel, by decide +kernel⟩, lw_t1 (List.mem_of_getElem? (i := 4) rfl), lw_t1 (List.mem_of_getElem? (i := 82) rfl), lw_t1 (List.mem_of_getElem? (i := 83) rfl)⟩
theorem lw_p5 : lw_okq (⟨"CompressedSwap", "evict", "(I)V"⟩, 16) := ⟨⟨by decide +kernel, by decide +kernel⟩, lw_t1 (List.mem_of_getElem? (i := 4) rfl), lw_t1 (List.mem_of_getElem? (i := 86) rfl), lw_t1 (List.mem_of_getElem? (i := 87) rfl)⟩
theorem lw_p6 : lw_okq (⟨"CompressedSwap", "blankFrame", "(I)Z"⟩, 16) := ⟨⟨by decide +kernel, by decide +kernel⟩, lw_t1 (List.mem_of_getElem? (i := 4) rfl), lw_t1 (List.mem_of_getElem? (i := 90) rfl), lw_t1 (List.mem_of_getElem? (i := 91) rfl)⟩
theorem lw_p7 : lw_okq (⟨"CompressedSwap", "pack", "(I)V"⟩, 16) := ⟨⟨by decide +kernel, by decide +kernel⟩, lw_t1 (List.mem_of_getElem? (i := 4) rfl), lw_t1 (List.mem_of_getElem? (i := 94) rfl), lw_t1 (List.mem_of_getElem? (i := 95) rfl)⟩
theorem lw_p8 : lw_okq (⟨"CompressedSwap", "repeatAt", "(III)I"⟩, 16) := ⟨⟨by decide +kernel, by decide +kernel⟩, lw_t1 (List.mem_of_getElem? (i := 4) rfl), lw_t1 (List.mem_of_getElem? (i := 98) rfl), lw_t1 (List.mem_of_getElem? (i := 99) rfl)⟩
theorem lw_p9 : lw_okq (⟨"CompressedSwap", "append", "(I)V"⟩, 16) := ⟨⟨by decide +kernel, by decide +kernel⟩, lw_t1 (List.mem_of_getElem? (i := 4) rfl), lw_t1 (List.mem_of_getElem? (i := 102) rfl), lw_t1 (List.mem_of_getElem? (i := 103) rfl)⟩
theorem lw_p10 : lw_okq (⟨"CompressedSwap", "freeSlot", "(I)I"⟩, 16) := ⟨⟨by decide +kernel, by decide +kernel⟩, lw_t1 (List.mem_of_getElem? (i := 4) rfl), lw_t1 (List.mem_of_getElem? (i := 106) rfl), lw_t1 (List.mem_of_getElem? (i := 107) rfl)⟩
theorem lw_p11 : lw_okq (⟨"CompressedSwap", "storeSlot", "(II)V"⟩, 16) := ⟨⟨by decide +kernel, by decide +kernel⟩, lw_t1 (List.mem_of_getElem? (i := 4) rfl), lw_t1 (List.mem_of_getElem? (i := 110) rfl), lw_t1 (List.mem_of_getElem? (i := 111) rfl)⟩
theorem lw_p12 : lw_okq (⟨"CompressedSwap", "poolFrame", "(I)I"⟩, 16) := ⟨⟨by decide +kernel, by decide +kernel⟩, lw_t1 (List.mem_of_getElem? (i := 4) rfl), lw_t1 (List.mem_of_getElem? (i := 114) rfl), lw_t1 (List.mem_of_getElem? (i := 115) rfl)⟩
theorem lw_p13 : lw_okq (⟨"CompressedSwap", "held", "(I)I"⟩, 16) := ⟨⟨by decide +kernel, by decide +kernel⟩, lw_t1 (List.mem_of_getElem? (i := 4) rfl), lw_t1 (List.mem_of_getElem? (i := 118) rfl), lw_t1 (List.mem_of_getElem? (i := 119) rfl)⟩
theorem lw_p14 : lw_okq (⟨"CompressedSwap", "roomIn", "(I)I"⟩, 16) := ⟨⟨by decide +kernel, by decide +kernel⟩, lw_t1 (List.mem_of_getElem? (i := 4) rfl), lw_t1 (List.mem_of_getElem? (i := 122) rfl), lw_t1 (List.mem_of_getElem? (i := 123) rfl)⟩
theorem lw_p15 : lw_okq (⟨"CompressedSwap", "oldestPoolFrame", "()I"⟩, 16) := ⟨⟨by decide +kernel, by decide +kernel⟩, lw_t1 (List.mem_of_getElem? (i := 4) rfl), lw_t1 (List.mem_of_getElem? (i := 126) rfl), lw_t1 (List.mem_of_getElem? (i := 127) rfl)⟩
def lw_privs_1 : List (MethodName × Nat) := [(⟨"CompressedSwap", "badPage", "(I)Z"⟩, 16), (⟨"CompressedSwap", "badPlace", "(I)Z"⟩, 16), (⟨"CompressedSwap", "badByte", "(I)Z"⟩, 16), (⟨"CompressedSwap", "bring", "(I)I"⟩, 16), (⟨"CompressedSwap", "freeFrame", "()I"⟩, 16), (⟨"CompressedSwap", "evict", "(I)V"⟩, 16), (⟨"CompressedSwap", "blankFrame", "(I)Z"⟩, 16), (⟨"CompressedSwap", "pack", "(I)V"⟩, 16), (⟨"CompressedSwap", "repeatAt", "(III)I"⟩, 16), (⟨"CompressedSwap", "append", "(I)V"⟩, 16), (⟨"CompressedSwap", "freeSlot", "(I)I"⟩, 16), (⟨"CompressedSwap", "storeSlot", "(II)V"⟩, 16), (⟨"CompressedSwap", "poolFrame", "(I)I"⟩, 16), (⟨"CompressedSwap", "held", "(I)I"⟩, 16), (⟨"CompressedSwap", "roomIn", "(I)I"⟩, 16), (⟨"CompressedSwap", "oldestPoolFrame", "()I"⟩, 16)]
theorem lw_r1 : ∀ q ∈ lw_privs_1, lw_okq q := List.forall_mem_cons.mpr ⟨lw_p0, List.forall_mem_cons.mpr ⟨lw_p1, List.forall_mem_cons.mpr ⟨lw_p2, List.forall_mem_cons.mpr ⟨lw_p3, List.forall_mem_cons.mpr ⟨lw_p4, List.forall_mem_cons.mpr ⟨lw_p5, List.forall_mem_cons.mpr ⟨lw_p6, List.forall_mem_cons.mpr ⟨lw_p7, List.forall_mem_cons.mpr ⟨lw_p8, List.forall_mem_cons.mpr ⟨lw_p9, List.forall_mem_cons.mpr ⟨lw_p10, List.forall_mem_cons.mpr ⟨lw_p11, List.forall_mem_cons.mpr ⟨lw_p12, List.forall_mem_cons.mpr ⟨lw_p13, List.forall_mem_cons.mpr ⟨lw_p14, List.forall_mem_cons.mpr ⟨lw_p15, fun _ h => absurd h List.not_mem_nil⟩⟩⟩⟩⟩⟩⟩⟩⟩⟩⟩⟩⟩⟩⟩⟩
theorem lw_p16 : lw_okq (⟨"CompressedSwap", "writeBack", "(I)V"⟩, 16) := ⟨⟨by decide +kernel, by decide +kernel⟩, lw_t1 (List.mem_of_getElem? (i := 4) rfl), lw_t1 (List.mem_of_getElem? (i := 130) rfl), lw_t1 (List.mem_of_getElem? (i := 131) rfl)⟩
theorem lw_p17 : lw_okq (⟨"CompressedSwap", "unpack", "(I)V"⟩, 16) := ⟨⟨by decide +kernel, by decide +kernel⟩, lw_t1 (List.mem_of_getElem? (i := 4) rfl), lw_t1 (List.mem_of_getElem? (i := 134) rfl), lw_t1 (List.mem_of_getElem? (i := 135) rfl)⟩
theorem lw_p18 : lw_okq (⟨"CompressedSwap", "baseOf", "(I)I"⟩, 16) := ⟨⟨by decide +kernel, by decide +kernel⟩, lw_t1 (List.mem_of_getElem? (i := 4) rfl), lw_t1 (List.mem_of_getElem? (i := 138) rfl), lw_t1 (List.mem_of_getElem? (i := 139) rfl)⟩
theorem lw_p19 : lw_okq (⟨"CompressedSwap", "repeat", "(III)V"⟩, 16) := ⟨⟨by decide +kernel, by decide +kernel⟩, lw_t1 (List.mem_of_getElem? (i := 4) rfl), lw_t1 (List.mem_of_getElem? (i := 142) rfl), lw_t1 (List.mem_of_getElem? (i := 143) rfl)⟩
theorem lw_p20 : lw_okq (⟨"CompressedSwap", "storePacked", "(II)V"⟩, 16) := ⟨⟨by decide +kernel, by decide +kernel⟩, lw_t1 (List.mem_of_getElem? (i := 4) rfl), lw_t1 (List.mem_of_getElem? (i := 146) rfl), lw_t1 (List.mem_of_getElem? (i := 147) rfl)⟩
theorem lw_p21 : lw_okq (⟨"CompressedSwap", "release", "(I)V"⟩, 16) := ⟨⟨by decide +kernel, by decide +kernel⟩, lw_t1 (List.mem_of_getElem? (i := 4) rfl), lw_t1 (List.mem_of_getElem? (i := 150) rfl), lw_t1 (List.mem_of_getElem? (i := 151) rfl)⟩
theorem lw_p22 : lw_okq (⟨"CompressedSwap", "hold", "(I)V"⟩, 16) := ⟨⟨by decide +kernel, by decide +kernel⟩, lw_t1 (List.mem_of_getElem? (i := 4) rfl), lw_t1 (List.mem_of_getElem? (i := 166) rfl), lw_t1 (List.mem_of_getElem? (i := 167) rfl)⟩
theorem lw_p23 : lw_okq (⟨"CompressedSwap", "claim", "(I)V"⟩, 16) := ⟨⟨by decide +kernel, by decide +kernel⟩, lw_t1 (List.mem_of_getElem? (i := 4) rfl), lw_t1 (List.mem_of_getElem? (i := 174) rfl), lw_t1 (List.mem_of_getElem? (i := 175) rfl)⟩
theorem lw_p24 : lw_okq (⟨"CompressedSwap", "firstDifference", "(I)I"⟩, 16) := ⟨⟨by decide +kernel, by decide +kernel⟩, lw_t1 (List.mem_of_getElem? (i := 4) rfl), lw_t1 (List.mem_of_getElem? (i := 198) rfl), lw_t1 (List.mem_of_getElem? (i := 199) rfl)⟩
theorem lw_p25 : lw_okq (⟨"CompressedSwapModel", "isPage", "(I)Z"⟩, 1) := ⟨⟨by decide +kernel, by decide +kernel⟩, lw_t1 (List.mem_of_getElem? (i := 226) rfl), lw_t2 (List.mem_of_getElem? (i := 0) rfl), lw_t2 (List.mem_of_getElem? (i := 1) rfl)⟩
theorem lw_p26 : lw_okq (⟨"CompressedSwapModel", "isPlace", "(I)Z"⟩, 1) := ⟨⟨by decide +kernel, by decide +kernel⟩, lw_t1 (List.mem_of_getElem? (i := 226) rfl), lw_t2 (List.mem_of_getElem? (i := 4) rfl), lw_t2 (List.mem_of_getElem? (i := 5) rfl)⟩
theorem lw_p27 : lw_okq (⟨"CompressedSwapModel", "isByte", "(I)Z"⟩, 1) := ⟨⟨by decide +kernel, by decide +kernel⟩, lw_t1 (List.mem_of_getElem? (i := 226) rfl), lw_t2 (List.mem_of_getElem? (i := 8) rfl), lw_t2 (List.mem_of_getElem? (i := 9) rfl)⟩
def lw_privs_2 : List (MethodName × Nat) := [(⟨"CompressedSwap", "writeBack", "(I)V"⟩, 16), (⟨"CompressedSwap", "unpack", "(I)V"⟩, 16), (⟨"CompressedSwap", "baseOf", "(I)I"⟩, 16), (⟨"CompressedSwap", "repeat", "(III)V"⟩, 16), (⟨"CompressedSwap", "storePacked", "(II)V"⟩, 16), (⟨"CompressedSwap", "release", "(I)V"⟩, 16), (⟨"CompressedSwap", "hold", "(I)V"⟩, 16), (⟨"CompressedSwap", "claim", "(I)V"⟩, 16), (⟨"CompressedSwap", "firstDifference", "(I)I"⟩, 16), (⟨"CompressedSwapModel", "isPage", "(I)Z"⟩, 1), (⟨"CompressedSwapModel", "isPlace", "(I)Z"⟩, 1), (⟨"CompressedSwapModel", "isByte", "(I)Z"⟩, 1)]
theorem lw_r2 : ∀ q ∈ lw_privs_2, lw_okq q := List.forall_mem_cons.mpr ⟨lw_p16, List.forall_mem_cons.mpr ⟨lw_p17, List.forall_mem_cons.mpr ⟨lw_p18, List.forall_mem_cons.mpr ⟨lw_p19, List.forall_mem_cons.mpr ⟨lw_p20, List.forall_mem_cons.mpr ⟨lw_p21, List.forall_mem_cons.mpr ⟨lw_p22, List.forall_mem_cons.mpr ⟨lw_p23, List.forall_mem_cons.mpr ⟨lw_p24, List.forall_mem_cons.mpr ⟨lw_p25, List.forall_mem_cons.mpr ⟨lw_p26, List.forall_mem_cons.mpr ⟨lw_p27, fun _ h => absurd h List.not_mem_nil⟩⟩⟩⟩⟩⟩⟩⟩⟩⟩⟩⟩
def lw_privs : List (MethodName × Nat) := lw_privs_1 ++ (lw_privs_2)
def lw_tbl : List Cond := k2_sels lw_privs ++ tables_1
theorem lw_privs_ok : ∀ q ∈ lw_privs, lw_okq q := by
  show ∀ q ∈ lw_privs_1 ++ (lw_privs_2), lw_okq q
  exact List.forall_mem_append.mpr ⟨lw_r1, lw_r2⟩
-- ===== ONE list of words for every method: the tables' words that hold all through a run =====
def lw_all : List Cond := lw_tbl.filter goodWord
/-- a word of the tables by its place: claim/WORDS.tsv -/
theorem lw_w {w : Cond} (i : Nat) (h : lw_tbl[i]? = some w) (g : goodWord w = true) : w ∈ lw_all := List.mem_filter.mpr ⟨List.mem_of_getElem? h, g⟩
theorem lw_all_tbl {w : Cond} (h : w ∈ lw_all) : w ∈ lw_tbl := (List.mem_filter.mp h).1
theorem lw_self : GoodIn lw_all lw_all := fun w h => ⟨h, good_of_word (List.mem_filter.mp h).2⟩
/-- a class's field words, by their places -/
theorem lw_in (ws : List Cond) (ps : List Nat) (hp : ws = ps.filterMap (fun i => lw_tbl[i]?)) (hg : ws.all goodWord = true) : ∀ w ∈ ws, w ∈ lw_all := by
  intro w h
  have h1 := List.all_eq_true.mp hg w h
  rw [hp] at h
  obtain ⟨i, -, hi⟩ := List.mem_filterMap.mp h
  exact lw_w i hi h1
/-- the words of a contract for the method y with code b, L locals, answer r -/
abbrev ws_ (y : MethodName) (b : ByteArray) (L : Nat) (r : Option FieldType) : List Cond := Cond.code y b L r :: lw_all
theorem lw_meth {y : MethodName} {b : ByteArray} {L : Nat} {r : Option FieldType} (h : Cond.code y b L r ∈ lw_all) : GoodIn lw_all (ws_ y b L r) := by
  intro w hw
  rcases List.mem_cons.mp hw with e | e
  · rw [e]
    exact lw_self _ h
  · exact lw_self _ e
theorem lw_app {a c : List Cond} (ha : ∀ w ∈ a, w ∈ lw_all) (hc : GoodIn lw_all c) : GoodIn lw_all (a ++ c) := by
  intro w hw
  rcases List.mem_append.mp hw with e | e
  · exact lw_self w (ha w e)
  · exact hc w e
/-- what a call through an object asks: cwV n hts (lw_V ..) -/
theorem lw_V {own : String} {idx : Nat} {C : String} {y : MethodName} {b : ByteArray} {L : Nat} {r : Option FieldType} (h1 : Cond.methodLink own idx y ∈ lw_all) (h2 : Cond.instanceMethod y ∈ lw_all) (h3 : Cond.selects C y y ∈ lw_all) (h4 : Cond.initialized C ∈ lw_all) (h5 : Cond.code y b L r ∈ lw_all) : GoodIn lw_all (wsV own idx C y (ws_ y b L r)) := by
  refine lw_app ?_ (lw_meth h5)
  intro w hw
  simp only [List.mem_cons, List.not_mem_nil, or_false] at hw
  rcases hw with e | e | e | e
  · rw [e]; exact h1
  · rw [e]; exact h2
  · rw [e]; exact h3
  · rw [e]; exact h4
/-- what a static call asks: va_cwS n hts (lw_S ..) -/
theorem lw_S {own : String} {idx : Nat} {y : MethodName} {b : ByteArray} {L : Nat} {r : Option FieldType} (h1 : Cond.methodLink own idx y ∈ lw_all) (h2 : Cond.static y ∈ lw_all) (h3 : Cond.initialized y.cls ∈ lw_all) (h4 : Cond.code y b L r ∈ lw_all) : GoodIn lw_all (va_wsS own idx y (ws_ y b L r)) := by
  refine lw_app ?_ (lw_meth h4)
  intro w hw
  simp only [List.mem_cons, List.not_mem_nil, or_false] at hw
  rcases hw with e | e | e
  · rw [e]; exact h1
  · rw [e]; exact h2
  · rw [e]; exact h3
/-- the words of a contract for a method WITH HANDLERS (hh: its table) -/
abbrev wsW_ (y : MethodName) (b : ByteArray) (L : Nat) (r : Option FieldType) (hh : List (Nat × Nat × Nat × Nat)) : List Cond := Cond.codeWith y b L r hh :: lw_all
theorem lw_methW {y : MethodName} {b : ByteArray} {L : Nat} {r : Option FieldType} {hh : List (Nat × Nat × Nat × Nat)} (h : Cond.codeWith y b L r hh ∈ lw_all) : GoodIn lw_all (wsW_ y b L r hh) := by
  intro w hw
  rcases List.mem_cons.mp hw with e | e
  · rw [e]
    exact lw_self _ h
  · exact lw_self _ e
/-- any list of words by their places (lw_in), good -/
theorem lw_good {ws : List Cond} (h : ∀ w ∈ ws, w ∈ lw_all) : GoodIn lw_all ws := fun w hw => lw_self w (h w hw)
/-- what a call of a method with handlers asks: vx_cwVW n hts (lw_VW ..), vx_cwSW n hts (lw_SW ..) -/
theorem lw_VW {own : String} {idx : Nat} {C : String} {y : MethodName} {b : ByteArray} {L : Nat} {r : Option FieldType} {hh : List (Nat × Nat × Nat × Nat)} (h1 : Cond.methodLink own idx y ∈ lw_all) (h2 : Cond.instanceMethod y ∈ lw_all) (h3 : Cond.selects C y y ∈ lw_all) (h4 : Cond.initialized C ∈ lw_all) (h5 : Cond.codeWith y b L r hh ∈ lw_all) : GoodIn lw_all (wsV own idx C y (wsW_ y b L r hh)) := by
  refine lw_app ?_ (lw_methW h5)
  intro w hw
  simp only [List.mem_cons, List.not_mem_nil, or_false] at hw
  rcases hw with e | e | e | e
  · rw [e]; exact h1
  · rw [e]; exact h2
  · rw [e]; exact h3
  · rw [e]; exact h4
theorem lw_SW {own : String} {idx : Nat} {y : MethodName} {b : ByteArray} {L : Nat} {r : Option FieldType} {hh : List (Nat × Nat × Nat × Nat)} (h1 : Cond.methodLink own idx y ∈ lw_all) (h2 : Cond.static y ∈ lw_all) (h3 : Cond.initialized y.cls ∈ lw_all) (h4 : Cond.codeWith y b L r hh ∈ lw_all) : GoodIn lw_all (va_wsS own idx y (wsW_ y b L r hh)) := by
  refine lw_app ?_ (lw_methW h4)
  intro w hw
  simp only [List.mem_cons, List.not_mem_nil, or_false] at hw
  rcases hw with e | e | e
  · rw [e]; exact h1
  · rw [e]; exact h2
  · rw [e]; exact h3
/-- a word by its place in its run of the tables -/
theorem lw_at {r : List Cond} (hr : ∀ w ∈ r, w ∈ lw_tbl) {w : Cond} (i : Nat) (h : r[i]? = some w) : w ∈ lw_tbl := hr w (List.mem_of_getElem? h)
theorem lw_g {w : Cond} (h : w ∈ lw_tbl) (g : goodWord w = true) : w ∈ lw_all := List.mem_filter.mpr ⟨h, g⟩
theorem lw_ms : ∀ w ∈ k2_sels lw_privs, w ∈ lw_tbl := fun w h => show w ∈ k2_sels lw_privs ++ tables_1 from List.mem_append_left _ h
theorem lw_m1 : ∀ w ∈ tables_1_1, w ∈ lw_tbl := fun w h => show w ∈ k2_sels lw_privs ++ tables_1 from List.mem_append_right (k2_sels lw_privs) (show w ∈ tables_1 from List.mem_append_left _ h)
theorem lw_m2 : ∀ w ∈ tables_1_2, w ∈ lw_tbl := fun w h => show w ∈ k2_sels lw_privs ++ tables_1 from List.mem_append_right (k2_sels lw_privs) (show w ∈ tables_1 from List.mem_append_right _ h)
theorem qs0 : (Cond.selects "CompressedSwap" ⟨"CompressedSwap", "badPage", "(I)Z"⟩ ⟨"CompressedSwap", "badPage", "(I)Z"⟩) ∈ lw_all := lw_g (lw_at lw_ms 0 rfl) rfl
theorem qs1 : (Cond.selects "CompressedSwap" ⟨"CompressedSwap", "badPlace", "(I)Z"⟩ ⟨"CompressedSwap", "badPlace", "(I)Z"⟩) ∈ lw_all := lw_g (lw_at lw_ms 1 rfl) rfl
theorem qs2 : (Cond.selects "CompressedSwap" ⟨"CompressedSwap", "badByte", "(I)Z"⟩ ⟨"CompressedSwap", "badByte", "(I)Z"⟩) ∈ lw_all := lw_g (lw_at lw_ms 2 rfl) rfl
theorem qs3 : (Cond.selects "CompressedSwap" ⟨"CompressedSwap", "bring", "(I)I"⟩ ⟨"CompressedSwap", "bring", "(I)I"⟩) ∈ lw_all := lw_g (lw_at lw_ms 3 rfl) rfl
theorem qs4 : (Cond.selects "CompressedSwap" ⟨"CompressedSwap", "freeFrame", "()I"⟩ ⟨"CompressedSwap", "freeFrame", "()I"⟩) ∈ lw_all := lw_g (lw_at lw_ms 4 rfl) rfl
theorem qs5 : (Cond.selects "CompressedSwap" ⟨"CompressedSwap", "evict", "(I)V"⟩ ⟨"CompressedSwap", "evict", "(I)V"⟩) ∈ lw_all := lw_g (lw_at lw_ms 5 rfl) rfl
theorem qs6 : (Cond.selects "CompressedSwap" ⟨"CompressedSwap", "blankFrame", "(I)Z"⟩ ⟨"CompressedSwap", "blankFrame", "(I)Z"⟩) ∈ lw_all := lw_g (lw_at lw_ms 6 rfl) rfl
theorem qs7 : (Cond.selects "CompressedSwap" ⟨"CompressedSwap", "pack", "(I)V"⟩ ⟨"CompressedSwap", "pack", "(I)V"⟩) ∈ lw_all := lw_g (lw_at lw_ms 7 rfl) rfl
theorem qs8 : (Cond.selects "CompressedSwap" ⟨"CompressedSwap", "repeatAt", "(III)I"⟩ ⟨"CompressedSwap", "repeatAt", "(III)I"⟩) ∈ lw_all := lw_g (lw_at lw_ms 8 rfl) rfl
theorem qs9 : (Cond.selects "CompressedSwap" ⟨"CompressedSwap", "append", "(I)V"⟩ ⟨"CompressedSwap", "append", "(I)V"⟩) ∈ lw_all := lw_g (lw_at lw_ms 9 rfl) rfl
theorem qs10 : (Cond.selects "CompressedSwap" ⟨"CompressedSwap", "freeSlot", "(I)I"⟩ ⟨"CompressedSwap", "freeSlot", "(I)I"⟩) ∈ lw_all := lw_g (lw_at lw_ms 10 rfl) rfl
theorem qs11 : (Cond.selects "CompressedSwap" ⟨"CompressedSwap", "storeSlot", "(II)V"⟩ ⟨"CompressedSwap", "storeSlot", "(II)V"⟩) ∈ lw_all := lw_g (lw_at lw_ms 11 rfl) rfl
theorem qs12 : (Cond.selects "CompressedSwap" ⟨"CompressedSwap", "poolFrame", "(I)I"⟩ ⟨"CompressedSwap", "poolFrame", "(I)I"⟩) ∈ lw_all := lw_g (lw_at lw_ms 12 rfl) rfl
theorem qs13 : (Cond.selects "CompressedSwap" ⟨"CompressedSwap", "held", "(I)I"⟩ ⟨"CompressedSwap", "held", "(I)I"⟩) ∈ lw_all := lw_g (lw_at lw_ms 13 rfl) rfl
theorem qs14 : (Cond.selects "CompressedSwap" ⟨"CompressedSwap", "roomIn", "(I)I"⟩ ⟨"CompressedSwap", "roomIn", "(I)I"⟩) ∈ lw_all := lw_g (lw_at lw_ms 14 rfl) rfl
theorem qs15 : (Cond.selects "CompressedSwap" ⟨"CompressedSwap", "oldestPoolFrame", "()I"⟩ ⟨"CompressedSwap", "oldestPoolFrame", "()I"⟩) ∈ lw_all := lw_g (lw_at lw_ms 15 rfl) rfl
theorem qs16 : (Cond.selects "CompressedSwap" ⟨"CompressedSwap", "writeBack", "(I)V"⟩ ⟨"CompressedSwap", "writeBack", "(I)V"⟩) ∈ lw_all := lw_g (lw_at lw_ms 16 rfl) rfl
theorem qs17 : (Cond.selects "CompressedSwap" ⟨"CompressedSwap", "unpack", "(I)V"⟩ ⟨"CompressedSwap", "unpack", "(I)V"⟩) ∈ lw_all := lw_g (lw_at lw_ms 17 rfl) rfl
theorem qs18 : (Cond.selects "CompressedSwap" ⟨"CompressedSwap", "baseOf", "(I)I"⟩ ⟨"CompressedSwap", "baseOf", "(I)I"⟩) ∈ lw_all := lw_g (lw_at lw_ms 18 rfl) rfl
theorem qs19 : (Cond.selects "CompressedSwap" ⟨"CompressedSwap", "repeat", "(III)V"⟩ ⟨"CompressedSwap", "repeat", "(III)V"⟩) ∈ lw_all := lw_g (lw_at lw_ms 19 rfl) rfl
theorem qs20 : (Cond.selects "CompressedSwap" ⟨"CompressedSwap", "storePacked", "(II)V"⟩ ⟨"CompressedSwap", "storePacked", "(II)V"⟩) ∈ lw_all := lw_g (lw_at lw_ms 20 rfl) rfl
theorem qs21 : (Cond.selects "CompressedSwap" ⟨"CompressedSwap", "release", "(I)V"⟩ ⟨"CompressedSwap", "release", "(I)V"⟩) ∈ lw_all := lw_g (lw_at lw_ms 21 rfl) rfl
theorem qs22 : (Cond.selects "CompressedSwap" ⟨"CompressedSwap", "hold", "(I)V"⟩ ⟨"CompressedSwap", "hold", "(I)V"⟩) ∈ lw_all := lw_g (lw_at lw_ms 22 rfl) rfl
theorem qs23 : (Cond.selects "CompressedSwap" ⟨"CompressedSwap", "claim", "(I)V"⟩ ⟨"CompressedSwap", "claim", "(I)V"⟩) ∈ lw_all := lw_g (lw_at lw_ms 23 rfl) rfl
theorem qs24 : (Cond.selects "CompressedSwap" ⟨"CompressedSwap", "firstDifference", "(I)I"⟩ ⟨"CompressedSwap", "firstDifference", "(I)I"⟩) ∈ lw_all := lw_g (lw_at lw_ms 24 rfl) rfl
theorem qs25 : (Cond.selects "CompressedSwapModel" ⟨"CompressedSwapModel", "isPage", "(I)Z"⟩ ⟨"CompressedSwapModel", "isPage", "(I)Z"⟩) ∈ lw_all := lw_g (lw_at lw_ms 25 rfl) rfl
theorem qs26 : (Cond.selects "CompressedSwapModel" ⟨"CompressedSwapModel", "isPlace", "(I)Z"⟩ ⟨"CompressedSwapModel", "isPlace", "(I)Z"⟩) ∈ lw_all := lw_g (lw_at lw_ms 26 rfl) rfl
theorem qs27 : (Cond.selects "CompressedSwapModel" ⟨"CompressedSwapModel", "isByte", "(I)Z"⟩ ⟨"CompressedSwapModel", "isByte", "(I)Z"⟩) ∈ lw_all := lw_g (lw_at lw_ms 27 rfl) rfl
end
section
/-! CompressedSwap -/
set_option maxRecDepth 100000
def RX0 : String := "CompressedSwap"
def TX0 : u_T := fun k => match k with
  | 0 => ("CompressedSwap", "kind", "[I", true)
  | 1 => ("CompressedSwap", "place", "[I", true)
  | 2 => ("CompressedSwap", "clock", "I", false)
  | 3 => ("CompressedSwap", "frame", "[I", true)
  | 4 => ("CompressedSwap", "framePage", "[I", true)
  | 5 => ("CompressedSwap", "frameStamp", "[I", true)
  | 6 => ("CompressedSwap", "pool", "[I", true)
  | 7 => ("CompressedSwap", "poolPage", "[I", true)
  | 8 => ("CompressedSwap", "poolSize", "[I", true)
  | 9 => ("CompressedSwap", "poolStamp", "[I", true)
  | 10 => ("CompressedSwap", "slot", "[I", true)
  | 11 => ("CompressedSwap", "slotPage", "[I", true)
  | 12 => ("CompressedSwap", "packed", "[I", true)
  | 13 => ("CompressedSwap", "packedSize", "I", false)
  | 14 => ("CompressedSwap", "plain", "[I", true)
  | _ => ("CompressedSwap", "held", "[I", true)
def tyX0 : Nat → FieldType := fun k => match k with
  | 0 => .array .int
  | 1 => .array .int
  | 2 => .int
  | 3 => .array .int
  | 4 => .array .int
  | 5 => .array .int
  | 6 => .array .int
  | 7 => .array .int
  | 8 => .array .int
  | 9 => .array .int
  | 10 => .array .int
  | 11 => .array .int
  | 12 => .array .int
  | 13 => .int
  | 14 => .array .int
  | _ => .array .int
abbrev wsX00 : List Cond := u_ws RX0 TX0 16
set_option maxRecDepth 100000 in
theorem nmX0 : ∀ a, a < 16 → ∀ b, b < 16 → a ≠ b → (TX0 a).2.1 ≠ (TX0 b).2.1 := by decide +kernel
set_option maxRecDepth 100000 in
theorem tyX0_ok : ∀ k, k < 16 → parseFieldDescriptor (TX0 k).2.2.1 = some (tyX0 k) := by decide +kernel
abbrev cX0_init : ByteArray := prog_1_method_1_code
def yX0_init : MethodName := ⟨RX0, "<init>", "()V"⟩
abbrev cX0_write : ByteArray := prog_1_method_25_code
def yX0_write : MethodName := ⟨RX0, "write", "(III)I"⟩
abbrev cX0_badPage : ByteArray := prog_1_method_2_code
def yX0_badPage : MethodName := ⟨RX0, "badPage", "(I)Z"⟩
abbrev cX0_badPlace : ByteArray := prog_1_method_3_code
def yX0_badPlace : MethodName := ⟨RX0, "badPlace", "(I)Z"⟩
abbrev cX0_badByte : ByteArray := prog_1_method_4_code
def yX0_badByte : MethodName := ⟨RX0, "badByte", "(I)Z"⟩
abbrev cX0_bring : ByteArray := prog_1_method_23_code
def yX0_bring : MethodName := ⟨RX0, "bring", "(I)I"⟩
abbrev cX0_freeFrame : ByteArray := prog_1_method_21_code
def yX0_freeFrame : MethodName := ⟨RX0, "freeFrame", "()I"⟩
abbrev cX0_evict : ByteArray := prog_1_method_20_code
def yX0_evict : MethodName := ⟨RX0, "evict", "(I)V"⟩
abbrev cX0_blankFrame : ByteArray := prog_1_method_19_code
def yX0_blankFrame : MethodName := ⟨RX0, "blankFrame", "(I)Z"⟩
abbrev cX0_pack : ByteArray := prog_1_method_6_code
def yX0_pack : MethodName := ⟨RX0, "pack", "(I)V"⟩
abbrev cX0_repeatAt : ByteArray := prog_1_method_5_code
def yX0_repeatAt : MethodName := ⟨RX0, "repeatAt", "(III)I"⟩
abbrev cX0_append : ByteArray := prog_1_method_7_code
def yX0_append : MethodName := ⟨RX0, "append", "(I)V"⟩
abbrev cX0_freeSlot : ByteArray := prog_1_method_16_code
def yX0_freeSlot : MethodName := ⟨RX0, "freeSlot", "(I)I"⟩
abbrev cX0_storeSlot : ByteArray := prog_1_method_17_code
def yX0_storeSlot : MethodName := ⟨RX0, "storeSlot", "(II)V"⟩
abbrev cX0_poolFrame : ByteArray := prog_1_method_13_code
def yX0_poolFrame : MethodName := ⟨RX0, "poolFrame", "(I)I"⟩
abbrev cX0_held : ByteArray := prog_1_method_12_code
def yX0_held : MethodName := ⟨RX0, "held", "(I)I"⟩
abbrev cX0_roomIn : ByteArray := prog_1_method_11_code
def yX0_roomIn : MethodName := ⟨RX0, "roomIn", "(I)I"⟩
abbrev cX0_oldestPoolFrame : ByteArray := prog_1_method_14_code
def yX0_oldestPoolFrame : MethodName := ⟨RX0, "oldestPoolFrame", "()I"⟩
abbrev cX0_writeBack : ByteArray := prog_1_method_15_code
def yX0_writeBack : MethodName := ⟨RX0, "writeBack", "(I)V"⟩
abbrev cX0_unpack : ByteArray := prog_1_method_8_code
def yX0_unpack : MethodName := ⟨RX0, "unpack", "(I)V"⟩
abbrev cX0_baseOf : ByteArray := prog_1_method_10_code
def yX0_baseOf : MethodName := ⟨RX0, "baseOf", "(I)I"⟩
abbrev cX0_repeat : ByteArray := prog_1_method_9_code
def yX0_repeat : MethodName := ⟨RX0, "repeat", "(III)V"⟩
abbrev cX0_storePacked : ByteArray := prog_1_method_18_code
def yX0_storePacked : MethodName := ⟨RX0, "storePacked", "(II)V"⟩
abbrev cX0_release : ByteArray := prog_1_method_22_code
def yX0_release : MethodName := ⟨RX0, "release", "(I)V"⟩
abbrev cX0_read : ByteArray := prog_1_method_26_code
def yX0_read : MethodName := ⟨RX0, "read", "(II)I"⟩
abbrev cX0_fill : ByteArray := prog_1_method_27_code
def yX0_fill : MethodName := ⟨RX0, "fill", "(IIII)I"⟩
abbrev cX0_copy : ByteArray := prog_1_method_28_code
def yX0_copy : MethodName := ⟨RX0, "copy", "(II)I"⟩
abbrev cX0_hold : ByteArray := prog_1_method_24_code
def yX0_hold : MethodName := ⟨RX0, "hold", "(I)V"⟩
abbrev cX0_exchange : ByteArray := prog_1_method_30_code
def yX0_exchange : MethodName := ⟨RX0, "exchange", "(II)I"⟩
abbrev cX0_claim : ByteArray := prog_1_method_29_code
def yX0_claim : MethodName := ⟨RX0, "claim", "(I)V"⟩
abbrev cX0_move : ByteArray := prog_1_method_31_code
def yX0_move : MethodName := ⟨RX0, "move", "(IIII)I"⟩
abbrev cX0_mix : ByteArray := prog_1_method_32_code
def yX0_mix : MethodName := ⟨RX0, "mix", "(II)I"⟩
abbrev cX0_drop : ByteArray := prog_1_method_33_code
def yX0_drop : MethodName := ⟨RX0, "drop", "(I)I"⟩
abbrev cX0_sum : ByteArray := prog_1_method_34_code
def yX0_sum : MethodName := ⟨RX0, "sum", "(I)I"⟩
abbrev cX0_differ : ByteArray := prog_1_method_36_code
def yX0_differ : MethodName := ⟨RX0, "differ", "(II)I"⟩
abbrev cX0_firstDifference : ByteArray := prog_1_method_35_code
def yX0_firstDifference : MethodName := ⟨RX0, "firstDifference", "(I)I"⟩
abbrev cX0_find : ByteArray := prog_1_method_37_code
def yX0_find : MethodName := ⟨RX0, "find", "(III)I"⟩
abbrev cX0_blank : ByteArray := prog_1_method_38_code
def yX0_blank : MethodName := ⟨RX0, "blank", "()I"⟩
abbrev cX0_twin : ByteArray := prog_1_method_39_code
def yX0_twin : MethodName := ⟨RX0, "twin", "(I)I"⟩
abbrev cX0_away : ByteArray := prog_1_method_40_code
def yX0_away : MethodName := ⟨RX0, "away", "(I)I"⟩
abbrev cX0_flush : ByteArray := prog_1_method_41_code
def yX0_flush : MethodName := ⟨RX0, "flush", "(I)V"⟩
abbrev cX0_rest : ByteArray := prog_1_method_42_code
def yX0_rest : MethodName := ⟨RX0, "rest", "(I)V"⟩

/-! CompressedSwapModel -/
set_option maxRecDepth 100000
def RX1 : String := "CompressedSwapModel"
def TX1 : u_T := fun k => match k with
  | _ => ("CompressedSwapModel", "bytes", "[I", true)
def tyX1 : Nat → FieldType := fun k => match k with
  | _ => .array .int
abbrev wsX10 : List Cond := u_ws RX1 TX1 1
theorem nmX1 : ∀ a, a < 1 → ∀ b, b < 1 → a ≠ b → (TX1 a).2.1 ≠ (TX1 b).2.1 := by decide +kernel
theorem tyX1_ok : ∀ k, k < 1 → parseFieldDescriptor (TX1 k).2.2.1 = some (tyX1 k) := by decide +kernel
abbrev cX1_init : ByteArray := prog_3_method_1_code
def yX1_init : MethodName := ⟨RX1, "<init>", "()V"⟩
abbrev cX1_write : ByteArray := prog_3_method_5_code
def yX1_write : MethodName := ⟨RX1, "write", "(III)I"⟩
abbrev cX1_isPage : ByteArray := prog_3_method_2_code
def yX1_isPage : MethodName := ⟨RX1, "isPage", "(I)Z"⟩
abbrev cX1_isPlace : ByteArray := prog_3_method_3_code
def yX1_isPlace : MethodName := ⟨RX1, "isPlace", "(I)Z"⟩
abbrev cX1_isByte : ByteArray := prog_3_method_4_code
def yX1_isByte : MethodName := ⟨RX1, "isByte", "(I)Z"⟩
abbrev cX1_read : ByteArray := prog_3_method_6_code
def yX1_read : MethodName := ⟨RX1, "read", "(II)I"⟩
abbrev cX1_fill : ByteArray := prog_3_method_7_code
def yX1_fill : MethodName := ⟨RX1, "fill", "(IIII)I"⟩
abbrev cX1_copy : ByteArray := prog_3_method_8_code
def yX1_copy : MethodName := ⟨RX1, "copy", "(II)I"⟩
abbrev cX1_exchange : ByteArray := prog_3_method_9_code
def yX1_exchange : MethodName := ⟨RX1, "exchange", "(II)I"⟩
abbrev cX1_move : ByteArray := prog_3_method_10_code
def yX1_move : MethodName := ⟨RX1, "move", "(IIII)I"⟩
abbrev cX1_mix : ByteArray := prog_3_method_11_code
def yX1_mix : MethodName := ⟨RX1, "mix", "(II)I"⟩
abbrev cX1_drop : ByteArray := prog_3_method_12_code
def yX1_drop : MethodName := ⟨RX1, "drop", "(I)I"⟩
abbrev cX1_sum : ByteArray := prog_3_method_13_code
def yX1_sum : MethodName := ⟨RX1, "sum", "(I)I"⟩
abbrev cX1_differ : ByteArray := prog_3_method_14_code
def yX1_differ : MethodName := ⟨RX1, "differ", "(II)I"⟩
abbrev cX1_find : ByteArray := prog_3_method_15_code
def yX1_find : MethodName := ⟨RX1, "find", "(III)I"⟩
abbrev cX1_blank : ByteArray := prog_3_method_16_code
def yX1_blank : MethodName := ⟨RX1, "blank", "()I"⟩
abbrev cX1_twin : ByteArray := prog_3_method_17_code
def yX1_twin : MethodName := ⟨RX1, "twin", "(I)I"⟩
abbrev cX1_away : ByteArray := prog_3_method_18_code
def yX1_away : MethodName := ⟨RX1, "away", "(I)I"⟩
abbrev cX1_flush : ByteArray := prog_3_method_19_code
def yX1_flush : MethodName := ⟨RX1, "flush", "(I)V"⟩
abbrev cX1_rest : ByteArray := prog_3_method_20_code
def yX1_rest : MethodName := ⟨RX1, "rest", "(I)V"⟩

/-! java/lang/Object -/
set_option maxRecDepth 100000
def RJ0 : String := "java/lang/Object"
abbrev cJ0_init : ByteArray := object_method_1_code
def yJ0_init : MethodName := ⟨RJ0, "<init>", "()V"⟩

/-! the law's own entry -/
set_option maxRecDepth 100000
abbrev cL_law : ByteArray := code
end
section
set_option maxRecDepth 100000
theorem q29 : (Jvm.Cond.initialized "CompressedSwap") ∈ lw_all := lw_g (lw_at lw_m1 1 rfl) rfl
theorem q32 : (Jvm.Cond.instantiable "CompressedSwap" (16 : Nat)) ∈ lw_all := lw_g (lw_at lw_m1 4 rfl) rfl
theorem q34 : (Jvm.Cond.instanceMethod ({ cls := "CompressedSwap", name := "<init>", desc := "()V" } : Jvm.MethodName)) ∈ lw_all := lw_g (lw_at lw_m1 6 rfl) rfl
theorem q35 : (Jvm.Cond.code ({ cls := "CompressedSwap", name := "<init>", desc := "()V" } : Jvm.MethodName) prog_1_method_1_code (2 : Nat) (Option.none : Option Jvm.ClassFile.FieldType)) ∈ lw_all := lw_g (lw_at lw_m1 7 rfl) rfl
theorem q36 : (Jvm.Cond.methodLink "CompressedSwap" (1 : Nat) ({ cls := "java/lang/Object", name := "<init>", desc := "()V" } : Jvm.MethodName)) ∈ lw_all := lw_g (lw_at lw_m1 8 rfl) rfl
theorem q39 : (Jvm.Cond.fieldLink "CompressedSwap" (7 : Nat) "CompressedSwap" "kind" "[I") ∈ lw_all := lw_g (lw_at lw_m1 11 rfl) rfl
theorem q40 : (Jvm.Cond.fieldLink "CompressedSwap" (13 : Nat) "CompressedSwap" "place" "[I") ∈ lw_all := lw_g (lw_at lw_m1 12 rfl) rfl
theorem q41 : (Jvm.Cond.fieldLink "CompressedSwap" (87 : Nat) "CompressedSwap" "clock" "I") ∈ lw_all := lw_g (lw_at lw_m1 13 rfl) rfl
theorem q42 : (Jvm.Cond.fieldLink "CompressedSwap" (16 : Nat) "CompressedSwap" "frame" "[I") ∈ lw_all := lw_g (lw_at lw_m1 14 rfl) rfl
theorem q43 : (Jvm.Cond.fieldLink "CompressedSwap" (19 : Nat) "CompressedSwap" "framePage" "[I") ∈ lw_all := lw_g (lw_at lw_m1 15 rfl) rfl
theorem q44 : (Jvm.Cond.fieldLink "CompressedSwap" (22 : Nat) "CompressedSwap" "frameStamp" "[I") ∈ lw_all := lw_g (lw_at lw_m1 16 rfl) rfl
theorem q45 : (Jvm.Cond.fieldLink "CompressedSwap" (25 : Nat) "CompressedSwap" "pool" "[I") ∈ lw_all := lw_g (lw_at lw_m1 17 rfl) rfl
theorem q46 : (Jvm.Cond.fieldLink "CompressedSwap" (28 : Nat) "CompressedSwap" "poolPage" "[I") ∈ lw_all := lw_g (lw_at lw_m1 18 rfl) rfl
theorem q47 : (Jvm.Cond.fieldLink "CompressedSwap" (31 : Nat) "CompressedSwap" "poolSize" "[I") ∈ lw_all := lw_g (lw_at lw_m1 19 rfl) rfl
theorem q48 : (Jvm.Cond.fieldLink "CompressedSwap" (34 : Nat) "CompressedSwap" "poolStamp" "[I") ∈ lw_all := lw_g (lw_at lw_m1 20 rfl) rfl
theorem q49 : (Jvm.Cond.fieldLink "CompressedSwap" (37 : Nat) "CompressedSwap" "slot" "[I") ∈ lw_all := lw_g (lw_at lw_m1 21 rfl) rfl
theorem q50 : (Jvm.Cond.fieldLink "CompressedSwap" (40 : Nat) "CompressedSwap" "slotPage" "[I") ∈ lw_all := lw_g (lw_at lw_m1 22 rfl) rfl
theorem q51 : (Jvm.Cond.fieldLink "CompressedSwap" (43 : Nat) "CompressedSwap" "packed" "[I") ∈ lw_all := lw_g (lw_at lw_m1 23 rfl) rfl
theorem q52 : (Jvm.Cond.fieldLink "CompressedSwap" (52 : Nat) "CompressedSwap" "packedSize" "I") ∈ lw_all := lw_g (lw_at lw_m1 24 rfl) rfl
theorem q53 : (Jvm.Cond.fieldLink "CompressedSwap" (46 : Nat) "CompressedSwap" "plain" "[I") ∈ lw_all := lw_g (lw_at lw_m1 25 rfl) rfl
theorem q54 : (Jvm.Cond.fieldLink "CompressedSwap" (49 : Nat) "CompressedSwap" "held" "[I") ∈ lw_all := lw_g (lw_at lw_m1 26 rfl) rfl
theorem q55 : (Jvm.Cond.laysFinal "CompressedSwap" "CompressedSwap" "kind" "[I") ∈ lw_all := lw_g (lw_at lw_m1 27 rfl) rfl
theorem q56 : (Jvm.Cond.soleField "CompressedSwap" "kind") ∈ lw_all := lw_g (lw_at lw_m1 28 rfl) rfl
theorem q57 : (Jvm.Cond.laysFinal "CompressedSwap" "CompressedSwap" "place" "[I") ∈ lw_all := lw_g (lw_at lw_m1 29 rfl) rfl
theorem q58 : (Jvm.Cond.soleField "CompressedSwap" "place") ∈ lw_all := lw_g (lw_at lw_m1 30 rfl) rfl
theorem q59 : (Jvm.Cond.lays "CompressedSwap" "CompressedSwap" "clock" "I") ∈ lw_all := lw_g (lw_at lw_m1 31 rfl) rfl
theorem q60 : (Jvm.Cond.soleField "CompressedSwap" "clock") ∈ lw_all := lw_g (lw_at lw_m1 32 rfl) rfl
theorem q61 : (Jvm.Cond.laysFinal "CompressedSwap" "CompressedSwap" "frame" "[I") ∈ lw_all := lw_g (lw_at lw_m1 33 rfl) rfl
theorem q62 : (Jvm.Cond.soleField "CompressedSwap" "frame") ∈ lw_all := lw_g (lw_at lw_m1 34 rfl) rfl
theorem q63 : (Jvm.Cond.laysFinal "CompressedSwap" "CompressedSwap" "framePage" "[I") ∈ lw_all := lw_g (lw_at lw_m1 35 rfl) rfl
theorem q64 : (Jvm.Cond.soleField "CompressedSwap" "framePage") ∈ lw_all := lw_g (lw_at lw_m1 36 rfl) rfl
theorem q65 : (Jvm.Cond.laysFinal "CompressedSwap" "CompressedSwap" "frameStamp" "[I") ∈ lw_all := lw_g (lw_at lw_m1 37 rfl) rfl
theorem q66 : (Jvm.Cond.soleField "CompressedSwap" "frameStamp") ∈ lw_all := lw_g (lw_at lw_m1 38 rfl) rfl
theorem q67 : (Jvm.Cond.laysFinal "CompressedSwap" "CompressedSwap" "pool" "[I") ∈ lw_all := lw_g (lw_at lw_m1 39 rfl) rfl
theorem q68 : (Jvm.Cond.soleField "CompressedSwap" "pool") ∈ lw_all := lw_g (lw_at lw_m1 40 rfl) rfl
theorem q69 : (Jvm.Cond.laysFinal "CompressedSwap" "CompressedSwap" "poolPage" "[I") ∈ lw_all := lw_g (lw_at lw_m1 41 rfl) rfl
theorem q70 : (Jvm.Cond.soleField "CompressedSwap" "poolPage") ∈ lw_all := lw_g (lw_at lw_m1 42 rfl) rfl
theorem q71 : (Jvm.Cond.laysFinal "CompressedSwap" "CompressedSwap" "poolSize" "[I") ∈ lw_all := lw_g (lw_at lw_m1 43 rfl) rfl
theorem q72 : (Jvm.Cond.soleField "CompressedSwap" "poolSize") ∈ lw_all := lw_g (lw_at lw_m1 44 rfl) rfl
theorem q73 : (Jvm.Cond.laysFinal "CompressedSwap" "CompressedSwap" "poolStamp" "[I") ∈ lw_all := lw_g (lw_at lw_m1 45 rfl) rfl
theorem q74 : (Jvm.Cond.soleField "CompressedSwap" "poolStamp") ∈ lw_all := lw_g (lw_at lw_m1 46 rfl) rfl
theorem q75 : (Jvm.Cond.laysFinal "CompressedSwap" "CompressedSwap" "slot" "[I") ∈ lw_all := lw_g (lw_at lw_m1 47 rfl) rfl
theorem q76 : (Jvm.Cond.soleField "CompressedSwap" "slot") ∈ lw_all := lw_g (lw_at lw_m1 48 rfl) rfl
theorem q77 : (Jvm.Cond.laysFinal "CompressedSwap" "CompressedSwap" "slotPage" "[I") ∈ lw_all := lw_g (lw_at lw_m1 49 rfl) rfl
theorem q78 : (Jvm.Cond.soleField "CompressedSwap" "slotPage") ∈ lw_all := lw_g (lw_at lw_m1 50 rfl) rfl
theorem q79 : (Jvm.Cond.laysFinal "CompressedSwap" "CompressedSwap" "packed" "[I") ∈ lw_all := lw_g (lw_at lw_m1 51 rfl) rfl
theorem q80 : (Jvm.Cond.soleField "CompressedSwap" "packed") ∈ lw_all := lw_g (lw_at lw_m1 52 rfl) rfl
theorem q81 : (Jvm.Cond.lays "CompressedSwap" "CompressedSwap" "packedSize" "I") ∈ lw_all := lw_g (lw_at lw_m1 53 rfl) rfl
theorem q82 : (Jvm.Cond.soleField "CompressedSwap" "packedSize") ∈ lw_all := lw_g (lw_at lw_m1 54 rfl) rfl
theorem q83 : (Jvm.Cond.laysFinal "CompressedSwap" "CompressedSwap" "plain" "[I") ∈ lw_all := lw_g (lw_at lw_m1 55 rfl) rfl
theorem q84 : (Jvm.Cond.soleField "CompressedSwap" "plain") ∈ lw_all := lw_g (lw_at lw_m1 56 rfl) rfl
theorem q85 : (Jvm.Cond.laysFinal "CompressedSwap" "CompressedSwap" "held" "[I") ∈ lw_all := lw_g (lw_at lw_m1 57 rfl) rfl
theorem q86 : (Jvm.Cond.soleField "CompressedSwap" "held") ∈ lw_all := lw_g (lw_at lw_m1 58 rfl) rfl
theorem q87 : (Jvm.Cond.superclass "CompressedSwap" "java/lang/Object") ∈ lw_all := lw_g (lw_at lw_m1 59 rfl) rfl
theorem q90 : (Jvm.Cond.instanceMethod ({ cls := "CompressedSwap", name := "write", desc := "(III)I" } : Jvm.MethodName)) ∈ lw_all := lw_g (lw_at lw_m1 62 rfl) rfl
theorem q91 : (Jvm.Cond.selects "CompressedSwap" ({ cls := "CompressedSwap", name := "write", desc := "(III)I" } : Jvm.MethodName) ({ cls := "CompressedSwap", name := "write", desc := "(III)I" } : Jvm.MethodName)) ∈ lw_all := lw_g (lw_at lw_m1 63 rfl) rfl
theorem q92 : (Jvm.Cond.code ({ cls := "CompressedSwap", name := "write", desc := "(III)I" } : Jvm.MethodName) prog_1_method_25_code (6 : Nat) (Option.some Jvm.ClassFile.FieldType.int)) ∈ lw_all := lw_g (lw_at lw_m1 64 rfl) rfl
theorem q93 : (Jvm.Cond.methodLink "CompressedSwap" (122 : Nat) ({ cls := "CompressedSwap", name := "badPage", desc := "(I)Z" } : Jvm.MethodName)) ∈ lw_all := lw_g (lw_at lw_m1 65 rfl) rfl
theorem q94 : (Jvm.Cond.privateMethod ({ cls := "CompressedSwap", name := "badPage", desc := "(I)Z" } : Jvm.MethodName)) ∈ lw_tbl := lw_at lw_m1 66 rfl
theorem q95 : (Jvm.Cond.instanceMethod ({ cls := "CompressedSwap", name := "badPage", desc := "(I)Z" } : Jvm.MethodName)) ∈ lw_all := lw_g (lw_at lw_m1 67 rfl) rfl
theorem q96 : (Jvm.Cond.code ({ cls := "CompressedSwap", name := "badPage", desc := "(I)Z" } : Jvm.MethodName) prog_1_method_2_code (2 : Nat) (Option.some Jvm.ClassFile.FieldType.boolean)) ∈ lw_all := lw_g (lw_at lw_m1 68 rfl) rfl
theorem q97 : (Jvm.Cond.methodLink "CompressedSwap" (125 : Nat) ({ cls := "CompressedSwap", name := "badPlace", desc := "(I)Z" } : Jvm.MethodName)) ∈ lw_all := lw_g (lw_at lw_m1 69 rfl) rfl
theorem q98 : (Jvm.Cond.privateMethod ({ cls := "CompressedSwap", name := "badPlace", desc := "(I)Z" } : Jvm.MethodName)) ∈ lw_tbl := lw_at lw_m1 70 rfl
theorem q99 : (Jvm.Cond.instanceMethod ({ cls := "CompressedSwap", name := "badPlace", desc := "(I)Z" } : Jvm.MethodName)) ∈ lw_all := lw_g (lw_at lw_m1 71 rfl) rfl
theorem q100 : (Jvm.Cond.code ({ cls := "CompressedSwap", name := "badPlace", desc := "(I)Z" } : Jvm.MethodName) prog_1_method_3_code (2 : Nat) (Option.some Jvm.ClassFile.FieldType.boolean)) ∈ lw_all := lw_g (lw_at lw_m1 72 rfl) rfl
theorem q101 : (Jvm.Cond.methodLink "CompressedSwap" (128 : Nat) ({ cls := "CompressedSwap", name := "badByte", desc := "(I)Z" } : Jvm.MethodName)) ∈ lw_all := lw_g (lw_at lw_m1 73 rfl) rfl
theorem q102 : (Jvm.Cond.privateMethod ({ cls := "CompressedSwap", name := "badByte", desc := "(I)Z" } : Jvm.MethodName)) ∈ lw_tbl := lw_at lw_m1 74 rfl
theorem q103 : (Jvm.Cond.instanceMethod ({ cls := "CompressedSwap", name := "badByte", desc := "(I)Z" } : Jvm.MethodName)) ∈ lw_all := lw_g (lw_at lw_m1 75 rfl) rfl
theorem q104 : (Jvm.Cond.code ({ cls := "CompressedSwap", name := "badByte", desc := "(I)Z" } : Jvm.MethodName) prog_1_method_4_code (2 : Nat) (Option.some Jvm.ClassFile.FieldType.boolean)) ∈ lw_all := lw_g (lw_at lw_m1 76 rfl) rfl
theorem q105 : (Jvm.Cond.methodLink "CompressedSwap" (119 : Nat) ({ cls := "CompressedSwap", name := "bring", desc := "(I)I" } : Jvm.MethodName)) ∈ lw_all := lw_g (lw_at lw_m1 77 rfl) rfl
theorem q106 : (Jvm.Cond.privateMethod ({ cls := "CompressedSwap", name := "bring", desc := "(I)I" } : Jvm.MethodName)) ∈ lw_tbl := lw_at lw_m1 78 rfl
theorem q107 : (Jvm.Cond.instanceMethod ({ cls := "CompressedSwap", name := "bring", desc := "(I)I" } : Jvm.MethodName)) ∈ lw_all := lw_g (lw_at lw_m1 79 rfl) rfl
theorem q108 : (Jvm.Cond.code ({ cls := "CompressedSwap", name := "bring", desc := "(I)I" } : Jvm.MethodName) prog_1_method_23_code (4 : Nat) (Option.some Jvm.ClassFile.FieldType.int)) ∈ lw_all := lw_g (lw_at lw_m1 80 rfl) rfl
theorem q109 : (Jvm.Cond.methodLink "CompressedSwap" (113 : Nat) ({ cls := "CompressedSwap", name := "freeFrame", desc := "()I" } : Jvm.MethodName)) ∈ lw_all := lw_g (lw_at lw_m1 81 rfl) rfl
theorem q110 : (Jvm.Cond.privateMethod ({ cls := "CompressedSwap", name := "freeFrame", desc := "()I" } : Jvm.MethodName)) ∈ lw_tbl := lw_at lw_m1 82 rfl
theorem q111 : (Jvm.Cond.instanceMethod ({ cls := "CompressedSwap", name := "freeFrame", desc := "()I" } : Jvm.MethodName)) ∈ lw_all := lw_g (lw_at lw_m1 83 rfl) rfl
theorem q112 : (Jvm.Cond.code ({ cls := "CompressedSwap", name := "freeFrame", desc := "()I" } : Jvm.MethodName) prog_1_method_21_code (3 : Nat) (Option.some Jvm.ClassFile.FieldType.int)) ∈ lw_all := lw_g (lw_at lw_m1 84 rfl) rfl
theorem q113 : (Jvm.Cond.methodLink "CompressedSwap" (110 : Nat) ({ cls := "CompressedSwap", name := "evict", desc := "(I)V" } : Jvm.MethodName)) ∈ lw_all := lw_g (lw_at lw_m1 85 rfl) rfl
theorem q114 : (Jvm.Cond.privateMethod ({ cls := "CompressedSwap", name := "evict", desc := "(I)V" } : Jvm.MethodName)) ∈ lw_tbl := lw_at lw_m1 86 rfl
theorem q115 : (Jvm.Cond.instanceMethod ({ cls := "CompressedSwap", name := "evict", desc := "(I)V" } : Jvm.MethodName)) ∈ lw_all := lw_g (lw_at lw_m1 87 rfl) rfl
theorem q116 : (Jvm.Cond.code ({ cls := "CompressedSwap", name := "evict", desc := "(I)V" } : Jvm.MethodName) prog_1_method_20_code (5 : Nat) (Option.none : Option Jvm.ClassFile.FieldType)) ∈ lw_all := lw_g (lw_at lw_m1 88 rfl) rfl
theorem q117 : (Jvm.Cond.methodLink "CompressedSwap" (90 : Nat) ({ cls := "CompressedSwap", name := "blankFrame", desc := "(I)Z" } : Jvm.MethodName)) ∈ lw_all := lw_g (lw_at lw_m1 89 rfl) rfl
theorem q118 : (Jvm.Cond.privateMethod ({ cls := "CompressedSwap", name := "blankFrame", desc := "(I)Z" } : Jvm.MethodName)) ∈ lw_tbl := lw_at lw_m1 90 rfl
theorem q119 : (Jvm.Cond.instanceMethod ({ cls := "CompressedSwap", name := "blankFrame", desc := "(I)Z" } : Jvm.MethodName)) ∈ lw_all := lw_g (lw_at lw_m1 91 rfl) rfl
theorem q120 : (Jvm.Cond.code ({ cls := "CompressedSwap", name := "blankFrame", desc := "(I)Z" } : Jvm.MethodName) prog_1_method_19_code (4 : Nat) (Option.some Jvm.ClassFile.FieldType.boolean)) ∈ lw_all := lw_g (lw_at lw_m1 92 rfl) rfl
theorem q121 : (Jvm.Cond.methodLink "CompressedSwap" (94 : Nat) ({ cls := "CompressedSwap", name := "pack", desc := "(I)V" } : Jvm.MethodName)) ∈ lw_all := lw_g (lw_at lw_m1 93 rfl) rfl
theorem q122 : (Jvm.Cond.privateMethod ({ cls := "CompressedSwap", name := "pack", desc := "(I)V" } : Jvm.MethodName)) ∈ lw_tbl := lw_at lw_m1 94 rfl
theorem q123 : (Jvm.Cond.instanceMethod ({ cls := "CompressedSwap", name := "pack", desc := "(I)V" } : Jvm.MethodName)) ∈ lw_all := lw_g (lw_at lw_m1 95 rfl) rfl
theorem q124 : (Jvm.Cond.code ({ cls := "CompressedSwap", name := "pack", desc := "(I)V" } : Jvm.MethodName) prog_1_method_6_code (10 : Nat) (Option.none : Option Jvm.ClassFile.FieldType)) ∈ lw_all := lw_g (lw_at lw_m1 96 rfl) rfl
theorem q125 : (Jvm.Cond.methodLink "CompressedSwap" (56 : Nat) ({ cls := "CompressedSwap", name := "repeatAt", desc := "(III)I" } : Jvm.MethodName)) ∈ lw_all := lw_g (lw_at lw_m1 97 rfl) rfl
theorem q126 : (Jvm.Cond.privateMethod ({ cls := "CompressedSwap", name := "repeatAt", desc := "(III)I" } : Jvm.MethodName)) ∈ lw_tbl := lw_at lw_m1 98 rfl
theorem q127 : (Jvm.Cond.instanceMethod ({ cls := "CompressedSwap", name := "repeatAt", desc := "(III)I" } : Jvm.MethodName)) ∈ lw_all := lw_g (lw_at lw_m1 99 rfl) rfl
theorem q128 : (Jvm.Cond.code ({ cls := "CompressedSwap", name := "repeatAt", desc := "(III)I" } : Jvm.MethodName) prog_1_method_5_code (6 : Nat) (Option.some Jvm.ClassFile.FieldType.int)) ∈ lw_all := lw_g (lw_at lw_m1 100 rfl) rfl
theorem q129 : (Jvm.Cond.methodLink "CompressedSwap" (60 : Nat) ({ cls := "CompressedSwap", name := "append", desc := "(I)V" } : Jvm.MethodName)) ∈ lw_all := lw_g (lw_at lw_m1 101 rfl) rfl
theorem q130 : (Jvm.Cond.privateMethod ({ cls := "CompressedSwap", name := "append", desc := "(I)V" } : Jvm.MethodName)) ∈ lw_tbl := lw_at lw_m1 102 rfl
theorem q131 : (Jvm.Cond.instanceMethod ({ cls := "CompressedSwap", name := "append", desc := "(I)V" } : Jvm.MethodName)) ∈ lw_all := lw_g (lw_at lw_m1 103 rfl) rfl
theorem q132 : (Jvm.Cond.code ({ cls := "CompressedSwap", name := "append", desc := "(I)V" } : Jvm.MethodName) prog_1_method_7_code (2 : Nat) (Option.none : Option Jvm.ClassFile.FieldType)) ∈ lw_all := lw_g (lw_at lw_m1 104 rfl) rfl
theorem q133 : (Jvm.Cond.methodLink "CompressedSwap" (80 : Nat) ({ cls := "CompressedSwap", name := "freeSlot", desc := "(I)I" } : Jvm.MethodName)) ∈ lw_all := lw_g (lw_at lw_m1 105 rfl) rfl
theorem q134 : (Jvm.Cond.privateMethod ({ cls := "CompressedSwap", name := "freeSlot", desc := "(I)I" } : Jvm.MethodName)) ∈ lw_tbl := lw_at lw_m1 106 rfl
theorem q135 : (Jvm.Cond.instanceMethod ({ cls := "CompressedSwap", name := "freeSlot", desc := "(I)I" } : Jvm.MethodName)) ∈ lw_all := lw_g (lw_at lw_m1 107 rfl) rfl
theorem q136 : (Jvm.Cond.code ({ cls := "CompressedSwap", name := "freeSlot", desc := "(I)I" } : Jvm.MethodName) prog_1_method_16_code (5 : Nat) (Option.some Jvm.ClassFile.FieldType.int)) ∈ lw_all := lw_g (lw_at lw_m1 108 rfl) rfl
theorem q137 : (Jvm.Cond.methodLink "CompressedSwap" (83 : Nat) ({ cls := "CompressedSwap", name := "storeSlot", desc := "(II)V" } : Jvm.MethodName)) ∈ lw_all := lw_g (lw_at lw_m1 109 rfl) rfl
theorem q138 : (Jvm.Cond.privateMethod ({ cls := "CompressedSwap", name := "storeSlot", desc := "(II)V" } : Jvm.MethodName)) ∈ lw_tbl := lw_at lw_m1 110 rfl
theorem q139 : (Jvm.Cond.instanceMethod ({ cls := "CompressedSwap", name := "storeSlot", desc := "(II)V" } : Jvm.MethodName)) ∈ lw_all := lw_g (lw_at lw_m1 111 rfl) rfl
theorem q140 : (Jvm.Cond.code ({ cls := "CompressedSwap", name := "storeSlot", desc := "(II)V" } : Jvm.MethodName) prog_1_method_17_code (4 : Nat) (Option.none : Option Jvm.ClassFile.FieldType)) ∈ lw_all := lw_g (lw_at lw_m1 112 rfl) rfl
theorem q141 : (Jvm.Cond.methodLink "CompressedSwap" (97 : Nat) ({ cls := "CompressedSwap", name := "poolFrame", desc := "(I)I" } : Jvm.MethodName)) ∈ lw_all := lw_g (lw_at lw_m1 113 rfl) rfl
theorem q142 : (Jvm.Cond.privateMethod ({ cls := "CompressedSwap", name := "poolFrame", desc := "(I)I" } : Jvm.MethodName)) ∈ lw_tbl := lw_at lw_m1 114 rfl
theorem q143 : (Jvm.Cond.instanceMethod ({ cls := "CompressedSwap", name := "poolFrame", desc := "(I)I" } : Jvm.MethodName)) ∈ lw_all := lw_g (lw_at lw_m1 115 rfl) rfl
theorem q144 : (Jvm.Cond.code ({ cls := "CompressedSwap", name := "poolFrame", desc := "(I)I" } : Jvm.MethodName) prog_1_method_13_code (7 : Nat) (Option.some Jvm.ClassFile.FieldType.int)) ∈ lw_all := lw_g (lw_at lw_m1 116 rfl) rfl
theorem q145 : (Jvm.Cond.methodLink "CompressedSwap" (72 : Nat) ({ cls := "CompressedSwap", name := "held", desc := "(I)I" } : Jvm.MethodName)) ∈ lw_all := lw_g (lw_at lw_m1 117 rfl) rfl
theorem q146 : (Jvm.Cond.privateMethod ({ cls := "CompressedSwap", name := "held", desc := "(I)I" } : Jvm.MethodName)) ∈ lw_tbl := lw_at lw_m1 118 rfl
theorem q147 : (Jvm.Cond.instanceMethod ({ cls := "CompressedSwap", name := "held", desc := "(I)I" } : Jvm.MethodName)) ∈ lw_all := lw_g (lw_at lw_m1 119 rfl) rfl
theorem q148 : (Jvm.Cond.code ({ cls := "CompressedSwap", name := "held", desc := "(I)I" } : Jvm.MethodName) prog_1_method_12_code (3 : Nat) (Option.some Jvm.ClassFile.FieldType.int)) ∈ lw_all := lw_g (lw_at lw_m1 120 rfl) rfl
theorem q149 : (Jvm.Cond.methodLink "CompressedSwap" (74 : Nat) ({ cls := "CompressedSwap", name := "roomIn", desc := "(I)I" } : Jvm.MethodName)) ∈ lw_all := lw_g (lw_at lw_m1 121 rfl) rfl
theorem q150 : (Jvm.Cond.privateMethod ({ cls := "CompressedSwap", name := "roomIn", desc := "(I)I" } : Jvm.MethodName)) ∈ lw_tbl := lw_at lw_m1 122 rfl
theorem q151 : (Jvm.Cond.instanceMethod ({ cls := "CompressedSwap", name := "roomIn", desc := "(I)I" } : Jvm.MethodName)) ∈ lw_all := lw_g (lw_at lw_m1 123 rfl) rfl
theorem q152 : (Jvm.Cond.code ({ cls := "CompressedSwap", name := "roomIn", desc := "(I)I" } : Jvm.MethodName) prog_1_method_11_code (3 : Nat) (Option.some Jvm.ClassFile.FieldType.int)) ∈ lw_all := lw_g (lw_at lw_m1 124 rfl) rfl
theorem q153 : (Jvm.Cond.methodLink "CompressedSwap" (100 : Nat) ({ cls := "CompressedSwap", name := "oldestPoolFrame", desc := "()I" } : Jvm.MethodName)) ∈ lw_all := lw_g (lw_at lw_m1 125 rfl) rfl
theorem q154 : (Jvm.Cond.privateMethod ({ cls := "CompressedSwap", name := "oldestPoolFrame", desc := "()I" } : Jvm.MethodName)) ∈ lw_tbl := lw_at lw_m1 126 rfl
theorem q155 : (Jvm.Cond.instanceMethod ({ cls := "CompressedSwap", name := "oldestPoolFrame", desc := "()I" } : Jvm.MethodName)) ∈ lw_all := lw_g (lw_at lw_m1 127 rfl) rfl
theorem q156 : (Jvm.Cond.code ({ cls := "CompressedSwap", name := "oldestPoolFrame", desc := "()I" } : Jvm.MethodName) prog_1_method_14_code (4 : Nat) (Option.some Jvm.ClassFile.FieldType.int)) ∈ lw_all := lw_g (lw_at lw_m1 128 rfl) rfl
theorem q157 : (Jvm.Cond.methodLink "CompressedSwap" (104 : Nat) ({ cls := "CompressedSwap", name := "writeBack", desc := "(I)V" } : Jvm.MethodName)) ∈ lw_all := lw_g (lw_at lw_m1 129 rfl) rfl
theorem q158 : (Jvm.Cond.privateMethod ({ cls := "CompressedSwap", name := "writeBack", desc := "(I)V" } : Jvm.MethodName)) ∈ lw_tbl := lw_at lw_m1 130 rfl
theorem q159 : (Jvm.Cond.instanceMethod ({ cls := "CompressedSwap", name := "writeBack", desc := "(I)V" } : Jvm.MethodName)) ∈ lw_all := lw_g (lw_at lw_m1 131 rfl) rfl
theorem q160 : (Jvm.Cond.code ({ cls := "CompressedSwap", name := "writeBack", desc := "(I)V" } : Jvm.MethodName) prog_1_method_15_code (5 : Nat) (Option.none : Option Jvm.ClassFile.FieldType)) ∈ lw_all := lw_g (lw_at lw_m1 132 rfl) rfl
theorem q161 : (Jvm.Cond.methodLink "CompressedSwap" (77 : Nat) ({ cls := "CompressedSwap", name := "unpack", desc := "(I)V" } : Jvm.MethodName)) ∈ lw_all := lw_g (lw_at lw_m1 133 rfl) rfl
theorem q162 : (Jvm.Cond.privateMethod ({ cls := "CompressedSwap", name := "unpack", desc := "(I)V" } : Jvm.MethodName)) ∈ lw_tbl := lw_at lw_m1 134 rfl
theorem q163 : (Jvm.Cond.instanceMethod ({ cls := "CompressedSwap", name := "unpack", desc := "(I)V" } : Jvm.MethodName)) ∈ lw_all := lw_g (lw_at lw_m1 135 rfl) rfl
theorem q164 : (Jvm.Cond.code ({ cls := "CompressedSwap", name := "unpack", desc := "(I)V" } : Jvm.MethodName) prog_1_method_8_code (9 : Nat) (Option.none : Option Jvm.ClassFile.FieldType)) ∈ lw_all := lw_g (lw_at lw_m1 136 rfl) rfl
theorem q165 : (Jvm.Cond.methodLink "CompressedSwap" (64 : Nat) ({ cls := "CompressedSwap", name := "baseOf", desc := "(I)I" } : Jvm.MethodName)) ∈ lw_all := lw_g (lw_at lw_m1 137 rfl) rfl
theorem q166 : (Jvm.Cond.privateMethod ({ cls := "CompressedSwap", name := "baseOf", desc := "(I)I" } : Jvm.MethodName)) ∈ lw_tbl := lw_at lw_m1 138 rfl
theorem q167 : (Jvm.Cond.instanceMethod ({ cls := "CompressedSwap", name := "baseOf", desc := "(I)I" } : Jvm.MethodName)) ∈ lw_all := lw_g (lw_at lw_m1 139 rfl) rfl
theorem q168 : (Jvm.Cond.code ({ cls := "CompressedSwap", name := "baseOf", desc := "(I)I" } : Jvm.MethodName) prog_1_method_10_code (3 : Nat) (Option.some Jvm.ClassFile.FieldType.int)) ∈ lw_all := lw_g (lw_at lw_m1 140 rfl) rfl
theorem q169 : (Jvm.Cond.methodLink "CompressedSwap" (68 : Nat) ({ cls := "CompressedSwap", name := "repeat", desc := "(III)V" } : Jvm.MethodName)) ∈ lw_all := lw_g (lw_at lw_m1 141 rfl) rfl
theorem q170 : (Jvm.Cond.privateMethod ({ cls := "CompressedSwap", name := "repeat", desc := "(III)V" } : Jvm.MethodName)) ∈ lw_tbl := lw_at lw_m1 142 rfl
theorem q171 : (Jvm.Cond.instanceMethod ({ cls := "CompressedSwap", name := "repeat", desc := "(III)V" } : Jvm.MethodName)) ∈ lw_all := lw_g (lw_at lw_m1 143 rfl) rfl
theorem q172 : (Jvm.Cond.code ({ cls := "CompressedSwap", name := "repeat", desc := "(III)V" } : Jvm.MethodName) prog_1_method_9_code (5 : Nat) (Option.none : Option Jvm.ClassFile.FieldType)) ∈ lw_all := lw_g (lw_at lw_m1 144 rfl) rfl
theorem q173 : (Jvm.Cond.methodLink "CompressedSwap" (107 : Nat) ({ cls := "CompressedSwap", name := "storePacked", desc := "(II)V" } : Jvm.MethodName)) ∈ lw_all := lw_g (lw_at lw_m1 145 rfl) rfl
theorem q174 : (Jvm.Cond.privateMethod ({ cls := "CompressedSwap", name := "storePacked", desc := "(II)V" } : Jvm.MethodName)) ∈ lw_tbl := lw_at lw_m1 146 rfl
theorem q175 : (Jvm.Cond.instanceMethod ({ cls := "CompressedSwap", name := "storePacked", desc := "(II)V" } : Jvm.MethodName)) ∈ lw_all := lw_g (lw_at lw_m1 147 rfl) rfl
theorem q176 : (Jvm.Cond.code ({ cls := "CompressedSwap", name := "storePacked", desc := "(II)V" } : Jvm.MethodName) prog_1_method_18_code (6 : Nat) (Option.none : Option Jvm.ClassFile.FieldType)) ∈ lw_all := lw_g (lw_at lw_m1 148 rfl) rfl
theorem q177 : (Jvm.Cond.methodLink "CompressedSwap" (116 : Nat) ({ cls := "CompressedSwap", name := "release", desc := "(I)V" } : Jvm.MethodName)) ∈ lw_all := lw_g (lw_at lw_m1 149 rfl) rfl
theorem q178 : (Jvm.Cond.privateMethod ({ cls := "CompressedSwap", name := "release", desc := "(I)V" } : Jvm.MethodName)) ∈ lw_tbl := lw_at lw_m1 150 rfl
theorem q179 : (Jvm.Cond.instanceMethod ({ cls := "CompressedSwap", name := "release", desc := "(I)V" } : Jvm.MethodName)) ∈ lw_all := lw_g (lw_at lw_m1 151 rfl) rfl
theorem q180 : (Jvm.Cond.code ({ cls := "CompressedSwap", name := "release", desc := "(I)V" } : Jvm.MethodName) prog_1_method_22_code (2 : Nat) (Option.none : Option Jvm.ClassFile.FieldType)) ∈ lw_all := lw_g (lw_at lw_m1 152 rfl) rfl
theorem q182 : (Jvm.Cond.instanceMethod ({ cls := "CompressedSwap", name := "read", desc := "(II)I" } : Jvm.MethodName)) ∈ lw_all := lw_g (lw_at lw_m1 154 rfl) rfl
theorem q183 : (Jvm.Cond.selects "CompressedSwap" ({ cls := "CompressedSwap", name := "read", desc := "(II)I" } : Jvm.MethodName) ({ cls := "CompressedSwap", name := "read", desc := "(II)I" } : Jvm.MethodName)) ∈ lw_all := lw_g (lw_at lw_m1 155 rfl) rfl
theorem q184 : (Jvm.Cond.code ({ cls := "CompressedSwap", name := "read", desc := "(II)I" } : Jvm.MethodName) prog_1_method_26_code (4 : Nat) (Option.some Jvm.ClassFile.FieldType.int)) ∈ lw_all := lw_g (lw_at lw_m1 156 rfl) rfl
theorem q186 : (Jvm.Cond.instanceMethod ({ cls := "CompressedSwap", name := "fill", desc := "(IIII)I" } : Jvm.MethodName)) ∈ lw_all := lw_g (lw_at lw_m1 158 rfl) rfl
theorem q187 : (Jvm.Cond.selects "CompressedSwap" ({ cls := "CompressedSwap", name := "fill", desc := "(IIII)I" } : Jvm.MethodName) ({ cls := "CompressedSwap", name := "fill", desc := "(IIII)I" } : Jvm.MethodName)) ∈ lw_all := lw_g (lw_at lw_m1 159 rfl) rfl
theorem q188 : (Jvm.Cond.code ({ cls := "CompressedSwap", name := "fill", desc := "(IIII)I" } : Jvm.MethodName) prog_1_method_27_code (7 : Nat) (Option.some Jvm.ClassFile.FieldType.int)) ∈ lw_all := lw_g (lw_at lw_m1 160 rfl) rfl
theorem q190 : (Jvm.Cond.instanceMethod ({ cls := "CompressedSwap", name := "copy", desc := "(II)I" } : Jvm.MethodName)) ∈ lw_all := lw_g (lw_at lw_m1 162 rfl) rfl
theorem q191 : (Jvm.Cond.selects "CompressedSwap" ({ cls := "CompressedSwap", name := "copy", desc := "(II)I" } : Jvm.MethodName) ({ cls := "CompressedSwap", name := "copy", desc := "(II)I" } : Jvm.MethodName)) ∈ lw_all := lw_g (lw_at lw_m1 163 rfl) rfl
theorem q192 : (Jvm.Cond.code ({ cls := "CompressedSwap", name := "copy", desc := "(II)I" } : Jvm.MethodName) prog_1_method_28_code (6 : Nat) (Option.some Jvm.ClassFile.FieldType.int)) ∈ lw_all := lw_g (lw_at lw_m1 164 rfl) rfl
theorem q193 : (Jvm.Cond.methodLink "CompressedSwap" (131 : Nat) ({ cls := "CompressedSwap", name := "hold", desc := "(I)V" } : Jvm.MethodName)) ∈ lw_all := lw_g (lw_at lw_m1 165 rfl) rfl
theorem q194 : (Jvm.Cond.privateMethod ({ cls := "CompressedSwap", name := "hold", desc := "(I)V" } : Jvm.MethodName)) ∈ lw_tbl := lw_at lw_m1 166 rfl
theorem q195 : (Jvm.Cond.instanceMethod ({ cls := "CompressedSwap", name := "hold", desc := "(I)V" } : Jvm.MethodName)) ∈ lw_all := lw_g (lw_at lw_m1 167 rfl) rfl
theorem q196 : (Jvm.Cond.code ({ cls := "CompressedSwap", name := "hold", desc := "(I)V" } : Jvm.MethodName) prog_1_method_24_code (4 : Nat) (Option.none : Option Jvm.ClassFile.FieldType)) ∈ lw_all := lw_g (lw_at lw_m1 168 rfl) rfl
theorem q198 : (Jvm.Cond.instanceMethod ({ cls := "CompressedSwap", name := "exchange", desc := "(II)I" } : Jvm.MethodName)) ∈ lw_all := lw_g (lw_at lw_m1 170 rfl) rfl
theorem q199 : (Jvm.Cond.selects "CompressedSwap" ({ cls := "CompressedSwap", name := "exchange", desc := "(II)I" } : Jvm.MethodName) ({ cls := "CompressedSwap", name := "exchange", desc := "(II)I" } : Jvm.MethodName)) ∈ lw_all := lw_g (lw_at lw_m1 171 rfl) rfl
theorem q200 : (Jvm.Cond.code ({ cls := "CompressedSwap", name := "exchange", desc := "(II)I" } : Jvm.MethodName) prog_1_method_30_code (5 : Nat) (Option.some Jvm.ClassFile.FieldType.int)) ∈ lw_all := lw_g (lw_at lw_m1 172 rfl) rfl
theorem q201 : (Jvm.Cond.methodLink "CompressedSwap" (134 : Nat) ({ cls := "CompressedSwap", name := "claim", desc := "(I)V" } : Jvm.MethodName)) ∈ lw_all := lw_g (lw_at lw_m1 173 rfl) rfl
theorem q202 : (Jvm.Cond.privateMethod ({ cls := "CompressedSwap", name := "claim", desc := "(I)V" } : Jvm.MethodName)) ∈ lw_tbl := lw_at lw_m1 174 rfl
theorem q203 : (Jvm.Cond.instanceMethod ({ cls := "CompressedSwap", name := "claim", desc := "(I)V" } : Jvm.MethodName)) ∈ lw_all := lw_g (lw_at lw_m1 175 rfl) rfl
theorem q204 : (Jvm.Cond.code ({ cls := "CompressedSwap", name := "claim", desc := "(I)V" } : Jvm.MethodName) prog_1_method_29_code (2 : Nat) (Option.none : Option Jvm.ClassFile.FieldType)) ∈ lw_all := lw_g (lw_at lw_m1 176 rfl) rfl
theorem q206 : (Jvm.Cond.instanceMethod ({ cls := "CompressedSwap", name := "move", desc := "(IIII)I" } : Jvm.MethodName)) ∈ lw_all := lw_g (lw_at lw_m1 178 rfl) rfl
theorem q207 : (Jvm.Cond.selects "CompressedSwap" ({ cls := "CompressedSwap", name := "move", desc := "(IIII)I" } : Jvm.MethodName) ({ cls := "CompressedSwap", name := "move", desc := "(IIII)I" } : Jvm.MethodName)) ∈ lw_all := lw_g (lw_at lw_m1 179 rfl) rfl
theorem q208 : (Jvm.Cond.code ({ cls := "CompressedSwap", name := "move", desc := "(IIII)I" } : Jvm.MethodName) prog_1_method_31_code (7 : Nat) (Option.some Jvm.ClassFile.FieldType.int)) ∈ lw_all := lw_g (lw_at lw_m1 180 rfl) rfl
theorem q210 : (Jvm.Cond.instanceMethod ({ cls := "CompressedSwap", name := "mix", desc := "(II)I" } : Jvm.MethodName)) ∈ lw_all := lw_g (lw_at lw_m1 182 rfl) rfl
theorem q211 : (Jvm.Cond.selects "CompressedSwap" ({ cls := "CompressedSwap", name := "mix", desc := "(II)I" } : Jvm.MethodName) ({ cls := "CompressedSwap", name := "mix", desc := "(II)I" } : Jvm.MethodName)) ∈ lw_all := lw_g (lw_at lw_m1 183 rfl) rfl
theorem q212 : (Jvm.Cond.code ({ cls := "CompressedSwap", name := "mix", desc := "(II)I" } : Jvm.MethodName) prog_1_method_32_code (5 : Nat) (Option.some Jvm.ClassFile.FieldType.int)) ∈ lw_all := lw_g (lw_at lw_m1 184 rfl) rfl
theorem q214 : (Jvm.Cond.instanceMethod ({ cls := "CompressedSwap", name := "drop", desc := "(I)I" } : Jvm.MethodName)) ∈ lw_all := lw_g (lw_at lw_m1 186 rfl) rfl
theorem q215 : (Jvm.Cond.selects "CompressedSwap" ({ cls := "CompressedSwap", name := "drop", desc := "(I)I" } : Jvm.MethodName) ({ cls := "CompressedSwap", name := "drop", desc := "(I)I" } : Jvm.MethodName)) ∈ lw_all := lw_g (lw_at lw_m1 187 rfl) rfl
theorem q216 : (Jvm.Cond.code ({ cls := "CompressedSwap", name := "drop", desc := "(I)I" } : Jvm.MethodName) prog_1_method_33_code (2 : Nat) (Option.some Jvm.ClassFile.FieldType.int)) ∈ lw_all := lw_g (lw_at lw_m1 188 rfl) rfl
theorem q218 : (Jvm.Cond.instanceMethod ({ cls := "CompressedSwap", name := "sum", desc := "(I)I" } : Jvm.MethodName)) ∈ lw_all := lw_g (lw_at lw_m1 190 rfl) rfl
theorem q219 : (Jvm.Cond.selects "CompressedSwap" ({ cls := "CompressedSwap", name := "sum", desc := "(I)I" } : Jvm.MethodName) ({ cls := "CompressedSwap", name := "sum", desc := "(I)I" } : Jvm.MethodName)) ∈ lw_all := lw_g (lw_at lw_m1 191 rfl) rfl
theorem q220 : (Jvm.Cond.code ({ cls := "CompressedSwap", name := "sum", desc := "(I)I" } : Jvm.MethodName) prog_1_method_34_code (5 : Nat) (Option.some Jvm.ClassFile.FieldType.int)) ∈ lw_all := lw_g (lw_at lw_m1 192 rfl) rfl
theorem q222 : (Jvm.Cond.instanceMethod ({ cls := "CompressedSwap", name := "differ", desc := "(II)I" } : Jvm.MethodName)) ∈ lw_all := lw_g (lw_at lw_m1 194 rfl) rfl
theorem q223 : (Jvm.Cond.selects "CompressedSwap" ({ cls := "CompressedSwap", name := "differ", desc := "(II)I" } : Jvm.MethodName) ({ cls := "CompressedSwap", name := "differ", desc := "(II)I" } : Jvm.MethodName)) ∈ lw_all := lw_g (lw_at lw_m1 195 rfl) rfl
theorem q224 : (Jvm.Cond.code ({ cls := "CompressedSwap", name := "differ", desc := "(II)I" } : Jvm.MethodName) prog_1_method_36_code (3 : Nat) (Option.some Jvm.ClassFile.FieldType.int)) ∈ lw_all := lw_g (lw_at lw_m1 196 rfl) rfl
theorem q225 : (Jvm.Cond.methodLink "CompressedSwap" (137 : Nat) ({ cls := "CompressedSwap", name := "firstDifference", desc := "(I)I" } : Jvm.MethodName)) ∈ lw_all := lw_g (lw_at lw_m1 197 rfl) rfl
theorem q226 : (Jvm.Cond.privateMethod ({ cls := "CompressedSwap", name := "firstDifference", desc := "(I)I" } : Jvm.MethodName)) ∈ lw_tbl := lw_at lw_m1 198 rfl
theorem q227 : (Jvm.Cond.instanceMethod ({ cls := "CompressedSwap", name := "firstDifference", desc := "(I)I" } : Jvm.MethodName)) ∈ lw_all := lw_g (lw_at lw_m1 199 rfl) rfl
theorem q228 : (Jvm.Cond.code ({ cls := "CompressedSwap", name := "firstDifference", desc := "(I)I" } : Jvm.MethodName) prog_1_method_35_code (4 : Nat) (Option.some Jvm.ClassFile.FieldType.int)) ∈ lw_all := lw_g (lw_at lw_m1 200 rfl) rfl
theorem q230 : (Jvm.Cond.instanceMethod ({ cls := "CompressedSwap", name := "find", desc := "(III)I" } : Jvm.MethodName)) ∈ lw_all := lw_g (lw_at lw_m1 202 rfl) rfl
theorem q231 : (Jvm.Cond.selects "CompressedSwap" ({ cls := "CompressedSwap", name := "find", desc := "(III)I" } : Jvm.MethodName) ({ cls := "CompressedSwap", name := "find", desc := "(III)I" } : Jvm.MethodName)) ∈ lw_all := lw_g (lw_at lw_m1 203 rfl) rfl
theorem q232 : (Jvm.Cond.code ({ cls := "CompressedSwap", name := "find", desc := "(III)I" } : Jvm.MethodName) prog_1_method_37_code (6 : Nat) (Option.some Jvm.ClassFile.FieldType.int)) ∈ lw_all := lw_g (lw_at lw_m1 204 rfl) rfl
theorem q234 : (Jvm.Cond.instanceMethod ({ cls := "CompressedSwap", name := "blank", desc := "()I" } : Jvm.MethodName)) ∈ lw_all := lw_g (lw_at lw_m1 206 rfl) rfl
theorem q235 : (Jvm.Cond.selects "CompressedSwap" ({ cls := "CompressedSwap", name := "blank", desc := "()I" } : Jvm.MethodName) ({ cls := "CompressedSwap", name := "blank", desc := "()I" } : Jvm.MethodName)) ∈ lw_all := lw_g (lw_at lw_m1 207 rfl) rfl
theorem q236 : (Jvm.Cond.code ({ cls := "CompressedSwap", name := "blank", desc := "()I" } : Jvm.MethodName) prog_1_method_38_code (4 : Nat) (Option.some Jvm.ClassFile.FieldType.int)) ∈ lw_all := lw_g (lw_at lw_m1 208 rfl) rfl
theorem q238 : (Jvm.Cond.instanceMethod ({ cls := "CompressedSwap", name := "twin", desc := "(I)I" } : Jvm.MethodName)) ∈ lw_all := lw_g (lw_at lw_m1 210 rfl) rfl
theorem q239 : (Jvm.Cond.selects "CompressedSwap" ({ cls := "CompressedSwap", name := "twin", desc := "(I)I" } : Jvm.MethodName) ({ cls := "CompressedSwap", name := "twin", desc := "(I)I" } : Jvm.MethodName)) ∈ lw_all := lw_g (lw_at lw_m1 211 rfl) rfl
theorem q240 : (Jvm.Cond.code ({ cls := "CompressedSwap", name := "twin", desc := "(I)I" } : Jvm.MethodName) prog_1_method_39_code (4 : Nat) (Option.some Jvm.ClassFile.FieldType.int)) ∈ lw_all := lw_g (lw_at lw_m1 212 rfl) rfl
theorem q242 : (Jvm.Cond.instanceMethod ({ cls := "CompressedSwap", name := "away", desc := "(I)I" } : Jvm.MethodName)) ∈ lw_all := lw_g (lw_at lw_m1 214 rfl) rfl
theorem q243 : (Jvm.Cond.selects "CompressedSwap" ({ cls := "CompressedSwap", name := "away", desc := "(I)I" } : Jvm.MethodName) ({ cls := "CompressedSwap", name := "away", desc := "(I)I" } : Jvm.MethodName)) ∈ lw_all := lw_g (lw_at lw_m1 215 rfl) rfl
theorem q244 : (Jvm.Cond.code ({ cls := "CompressedSwap", name := "away", desc := "(I)I" } : Jvm.MethodName) prog_1_method_40_code (2 : Nat) (Option.some Jvm.ClassFile.FieldType.int)) ∈ lw_all := lw_g (lw_at lw_m1 216 rfl) rfl
theorem q246 : (Jvm.Cond.instanceMethod ({ cls := "CompressedSwap", name := "flush", desc := "(I)V" } : Jvm.MethodName)) ∈ lw_all := lw_g (lw_at lw_m1 218 rfl) rfl
theorem q247 : (Jvm.Cond.selects "CompressedSwap" ({ cls := "CompressedSwap", name := "flush", desc := "(I)V" } : Jvm.MethodName) ({ cls := "CompressedSwap", name := "flush", desc := "(I)V" } : Jvm.MethodName)) ∈ lw_all := lw_g (lw_at lw_m1 219 rfl) rfl
theorem q248 : (Jvm.Cond.code ({ cls := "CompressedSwap", name := "flush", desc := "(I)V" } : Jvm.MethodName) prog_1_method_41_code (4 : Nat) (Option.none : Option Jvm.ClassFile.FieldType)) ∈ lw_all := lw_g (lw_at lw_m1 220 rfl) rfl
theorem q250 : (Jvm.Cond.instanceMethod ({ cls := "CompressedSwap", name := "rest", desc := "(I)V" } : Jvm.MethodName)) ∈ lw_all := lw_g (lw_at lw_m1 222 rfl) rfl
theorem q251 : (Jvm.Cond.selects "CompressedSwap" ({ cls := "CompressedSwap", name := "rest", desc := "(I)V" } : Jvm.MethodName) ({ cls := "CompressedSwap", name := "rest", desc := "(I)V" } : Jvm.MethodName)) ∈ lw_all := lw_g (lw_at lw_m1 223 rfl) rfl
theorem q252 : (Jvm.Cond.code ({ cls := "CompressedSwap", name := "rest", desc := "(I)V" } : Jvm.MethodName) prog_1_method_42_code (3 : Nat) (Option.none : Option Jvm.ClassFile.FieldType)) ∈ lw_all := lw_g (lw_at lw_m1 224 rfl) rfl
theorem in_X0 : ∀ w ∈ wsX00, w ∈ lw_all := lw_in wsX00 [55, 57, 59, 61, 63, 65, 67, 69, 71, 73, 75, 77, 79, 81, 83, 85] (by decide +kernel) (by decide +kernel)
theorem q30 : (Jvm.Cond.initialized "CompressedSwapModel") ∈ lw_all := lw_g (lw_at lw_m1 2 rfl) rfl
theorem q254 : (Jvm.Cond.instantiable "CompressedSwapModel" (1 : Nat)) ∈ lw_all := lw_g (lw_at lw_m1 226 rfl) rfl
theorem q256 : (Jvm.Cond.instanceMethod ({ cls := "CompressedSwapModel", name := "<init>", desc := "()V" } : Jvm.MethodName)) ∈ lw_all := lw_g (lw_at lw_m1 228 rfl) rfl
theorem q257 : (Jvm.Cond.code ({ cls := "CompressedSwapModel", name := "<init>", desc := "()V" } : Jvm.MethodName) prog_3_method_1_code (1 : Nat) (Option.none : Option Jvm.ClassFile.FieldType)) ∈ lw_all := lw_g (lw_at lw_m1 229 rfl) rfl
theorem q258 : (Jvm.Cond.methodLink "CompressedSwapModel" (1 : Nat) ({ cls := "java/lang/Object", name := "<init>", desc := "()V" } : Jvm.MethodName)) ∈ lw_all := lw_g (lw_at lw_m1 230 rfl) rfl
theorem q259 : (Jvm.Cond.fieldLink "CompressedSwapModel" (7 : Nat) "CompressedSwapModel" "bytes" "[I") ∈ lw_all := lw_g (lw_at lw_m1 231 rfl) rfl
theorem q260 : (Jvm.Cond.laysFinal "CompressedSwapModel" "CompressedSwapModel" "bytes" "[I") ∈ lw_all := lw_g (lw_at lw_m1 232 rfl) rfl
theorem q261 : (Jvm.Cond.soleField "CompressedSwapModel" "bytes") ∈ lw_all := lw_g (lw_at lw_m1 233 rfl) rfl
theorem q262 : (Jvm.Cond.superclass "CompressedSwapModel" "java/lang/Object") ∈ lw_all := lw_g (lw_at lw_m1 234 rfl) rfl
theorem q264 : (Jvm.Cond.instanceMethod ({ cls := "CompressedSwapModel", name := "write", desc := "(III)I" } : Jvm.MethodName)) ∈ lw_all := lw_g (lw_at lw_m1 236 rfl) rfl
theorem q265 : (Jvm.Cond.selects "CompressedSwapModel" ({ cls := "CompressedSwapModel", name := "write", desc := "(III)I" } : Jvm.MethodName) ({ cls := "CompressedSwapModel", name := "write", desc := "(III)I" } : Jvm.MethodName)) ∈ lw_all := lw_g (lw_at lw_m1 237 rfl) rfl
theorem q266 : (Jvm.Cond.code ({ cls := "CompressedSwapModel", name := "write", desc := "(III)I" } : Jvm.MethodName) prog_3_method_5_code (5 : Nat) (Option.some Jvm.ClassFile.FieldType.int)) ∈ lw_all := lw_g (lw_at lw_m1 238 rfl) rfl
theorem q267 : (Jvm.Cond.methodLink "CompressedSwapModel" (13 : Nat) ({ cls := "CompressedSwapModel", name := "isPage", desc := "(I)Z" } : Jvm.MethodName)) ∈ lw_all := lw_g (lw_at lw_m1 239 rfl) rfl
theorem q268 : (Jvm.Cond.privateMethod ({ cls := "CompressedSwapModel", name := "isPage", desc := "(I)Z" } : Jvm.MethodName)) ∈ lw_tbl := lw_at lw_m2 0 rfl
theorem q269 : (Jvm.Cond.instanceMethod ({ cls := "CompressedSwapModel", name := "isPage", desc := "(I)Z" } : Jvm.MethodName)) ∈ lw_all := lw_g (lw_at lw_m2 1 rfl) rfl
theorem q270 : (Jvm.Cond.code ({ cls := "CompressedSwapModel", name := "isPage", desc := "(I)Z" } : Jvm.MethodName) prog_3_method_2_code (2 : Nat) (Option.some Jvm.ClassFile.FieldType.boolean)) ∈ lw_all := lw_g (lw_at lw_m2 2 rfl) rfl
theorem q271 : (Jvm.Cond.methodLink "CompressedSwapModel" (17 : Nat) ({ cls := "CompressedSwapModel", name := "isPlace", desc := "(I)Z" } : Jvm.MethodName)) ∈ lw_all := lw_g (lw_at lw_m2 3 rfl) rfl
theorem q272 : (Jvm.Cond.privateMethod ({ cls := "CompressedSwapModel", name := "isPlace", desc := "(I)Z" } : Jvm.MethodName)) ∈ lw_tbl := lw_at lw_m2 4 rfl
theorem q273 : (Jvm.Cond.instanceMethod ({ cls := "CompressedSwapModel", name := "isPlace", desc := "(I)Z" } : Jvm.MethodName)) ∈ lw_all := lw_g (lw_at lw_m2 5 rfl) rfl
theorem q274 : (Jvm.Cond.code ({ cls := "CompressedSwapModel", name := "isPlace", desc := "(I)Z" } : Jvm.MethodName) prog_3_method_3_code (2 : Nat) (Option.some Jvm.ClassFile.FieldType.boolean)) ∈ lw_all := lw_g (lw_at lw_m2 6 rfl) rfl
theorem q275 : (Jvm.Cond.methodLink "CompressedSwapModel" (20 : Nat) ({ cls := "CompressedSwapModel", name := "isByte", desc := "(I)Z" } : Jvm.MethodName)) ∈ lw_all := lw_g (lw_at lw_m2 7 rfl) rfl
theorem q276 : (Jvm.Cond.privateMethod ({ cls := "CompressedSwapModel", name := "isByte", desc := "(I)Z" } : Jvm.MethodName)) ∈ lw_tbl := lw_at lw_m2 8 rfl
theorem q277 : (Jvm.Cond.instanceMethod ({ cls := "CompressedSwapModel", name := "isByte", desc := "(I)Z" } : Jvm.MethodName)) ∈ lw_all := lw_g (lw_at lw_m2 9 rfl) rfl
theorem q278 : (Jvm.Cond.code ({ cls := "CompressedSwapModel", name := "isByte", desc := "(I)Z" } : Jvm.MethodName) prog_3_method_4_code (2 : Nat) (Option.some Jvm.ClassFile.FieldType.boolean)) ∈ lw_all := lw_g (lw_at lw_m2 10 rfl) rfl
theorem q280 : (Jvm.Cond.instanceMethod ({ cls := "CompressedSwapModel", name := "read", desc := "(II)I" } : Jvm.MethodName)) ∈ lw_all := lw_g (lw_at lw_m2 12 rfl) rfl
theorem q281 : (Jvm.Cond.selects "CompressedSwapModel" ({ cls := "CompressedSwapModel", name := "read", desc := "(II)I" } : Jvm.MethodName) ({ cls := "CompressedSwapModel", name := "read", desc := "(II)I" } : Jvm.MethodName)) ∈ lw_all := lw_g (lw_at lw_m2 13 rfl) rfl
theorem q282 : (Jvm.Cond.code ({ cls := "CompressedSwapModel", name := "read", desc := "(II)I" } : Jvm.MethodName) prog_3_method_6_code (3 : Nat) (Option.some Jvm.ClassFile.FieldType.int)) ∈ lw_all := lw_g (lw_at lw_m2 14 rfl) rfl
theorem q284 : (Jvm.Cond.instanceMethod ({ cls := "CompressedSwapModel", name := "fill", desc := "(IIII)I" } : Jvm.MethodName)) ∈ lw_all := lw_g (lw_at lw_m2 16 rfl) rfl
theorem q285 : (Jvm.Cond.selects "CompressedSwapModel" ({ cls := "CompressedSwapModel", name := "fill", desc := "(IIII)I" } : Jvm.MethodName) ({ cls := "CompressedSwapModel", name := "fill", desc := "(IIII)I" } : Jvm.MethodName)) ∈ lw_all := lw_g (lw_at lw_m2 17 rfl) rfl
theorem q286 : (Jvm.Cond.code ({ cls := "CompressedSwapModel", name := "fill", desc := "(IIII)I" } : Jvm.MethodName) prog_3_method_7_code (7 : Nat) (Option.some Jvm.ClassFile.FieldType.int)) ∈ lw_all := lw_g (lw_at lw_m2 18 rfl) rfl
theorem q288 : (Jvm.Cond.instanceMethod ({ cls := "CompressedSwapModel", name := "copy", desc := "(II)I" } : Jvm.MethodName)) ∈ lw_all := lw_g (lw_at lw_m2 20 rfl) rfl
theorem q289 : (Jvm.Cond.selects "CompressedSwapModel" ({ cls := "CompressedSwapModel", name := "copy", desc := "(II)I" } : Jvm.MethodName) ({ cls := "CompressedSwapModel", name := "copy", desc := "(II)I" } : Jvm.MethodName)) ∈ lw_all := lw_g (lw_at lw_m2 21 rfl) rfl
theorem q290 : (Jvm.Cond.code ({ cls := "CompressedSwapModel", name := "copy", desc := "(II)I" } : Jvm.MethodName) prog_3_method_8_code (5 : Nat) (Option.some Jvm.ClassFile.FieldType.int)) ∈ lw_all := lw_g (lw_at lw_m2 22 rfl) rfl
theorem q292 : (Jvm.Cond.instanceMethod ({ cls := "CompressedSwapModel", name := "exchange", desc := "(II)I" } : Jvm.MethodName)) ∈ lw_all := lw_g (lw_at lw_m2 24 rfl) rfl
theorem q293 : (Jvm.Cond.selects "CompressedSwapModel" ({ cls := "CompressedSwapModel", name := "exchange", desc := "(II)I" } : Jvm.MethodName) ({ cls := "CompressedSwapModel", name := "exchange", desc := "(II)I" } : Jvm.MethodName)) ∈ lw_all := lw_g (lw_at lw_m2 25 rfl) rfl
theorem q294 : (Jvm.Cond.code ({ cls := "CompressedSwapModel", name := "exchange", desc := "(II)I" } : Jvm.MethodName) prog_3_method_9_code (5 : Nat) (Option.some Jvm.ClassFile.FieldType.int)) ∈ lw_all := lw_g (lw_at lw_m2 26 rfl) rfl
theorem q296 : (Jvm.Cond.instanceMethod ({ cls := "CompressedSwapModel", name := "move", desc := "(IIII)I" } : Jvm.MethodName)) ∈ lw_all := lw_g (lw_at lw_m2 28 rfl) rfl
theorem q297 : (Jvm.Cond.selects "CompressedSwapModel" ({ cls := "CompressedSwapModel", name := "move", desc := "(IIII)I" } : Jvm.MethodName) ({ cls := "CompressedSwapModel", name := "move", desc := "(IIII)I" } : Jvm.MethodName)) ∈ lw_all := lw_g (lw_at lw_m2 29 rfl) rfl
theorem q298 : (Jvm.Cond.code ({ cls := "CompressedSwapModel", name := "move", desc := "(IIII)I" } : Jvm.MethodName) prog_3_method_10_code (6 : Nat) (Option.some Jvm.ClassFile.FieldType.int)) ∈ lw_all := lw_g (lw_at lw_m2 30 rfl) rfl
theorem q300 : (Jvm.Cond.instanceMethod ({ cls := "CompressedSwapModel", name := "mix", desc := "(II)I" } : Jvm.MethodName)) ∈ lw_all := lw_g (lw_at lw_m2 32 rfl) rfl
theorem q301 : (Jvm.Cond.selects "CompressedSwapModel" ({ cls := "CompressedSwapModel", name := "mix", desc := "(II)I" } : Jvm.MethodName) ({ cls := "CompressedSwapModel", name := "mix", desc := "(II)I" } : Jvm.MethodName)) ∈ lw_all := lw_g (lw_at lw_m2 33 rfl) rfl
theorem q302 : (Jvm.Cond.code ({ cls := "CompressedSwapModel", name := "mix", desc := "(II)I" } : Jvm.MethodName) prog_3_method_11_code (4 : Nat) (Option.some Jvm.ClassFile.FieldType.int)) ∈ lw_all := lw_g (lw_at lw_m2 34 rfl) rfl
theorem q304 : (Jvm.Cond.instanceMethod ({ cls := "CompressedSwapModel", name := "drop", desc := "(I)I" } : Jvm.MethodName)) ∈ lw_all := lw_g (lw_at lw_m2 36 rfl) rfl
theorem q305 : (Jvm.Cond.selects "CompressedSwapModel" ({ cls := "CompressedSwapModel", name := "drop", desc := "(I)I" } : Jvm.MethodName) ({ cls := "CompressedSwapModel", name := "drop", desc := "(I)I" } : Jvm.MethodName)) ∈ lw_all := lw_g (lw_at lw_m2 37 rfl) rfl
theorem q306 : (Jvm.Cond.code ({ cls := "CompressedSwapModel", name := "drop", desc := "(I)I" } : Jvm.MethodName) prog_3_method_12_code (3 : Nat) (Option.some Jvm.ClassFile.FieldType.int)) ∈ lw_all := lw_g (lw_at lw_m2 38 rfl) rfl
theorem q308 : (Jvm.Cond.instanceMethod ({ cls := "CompressedSwapModel", name := "sum", desc := "(I)I" } : Jvm.MethodName)) ∈ lw_all := lw_g (lw_at lw_m2 40 rfl) rfl
theorem q309 : (Jvm.Cond.selects "CompressedSwapModel" ({ cls := "CompressedSwapModel", name := "sum", desc := "(I)I" } : Jvm.MethodName) ({ cls := "CompressedSwapModel", name := "sum", desc := "(I)I" } : Jvm.MethodName)) ∈ lw_all := lw_g (lw_at lw_m2 41 rfl) rfl
theorem q310 : (Jvm.Cond.code ({ cls := "CompressedSwapModel", name := "sum", desc := "(I)I" } : Jvm.MethodName) prog_3_method_13_code (4 : Nat) (Option.some Jvm.ClassFile.FieldType.int)) ∈ lw_all := lw_g (lw_at lw_m2 42 rfl) rfl
theorem q312 : (Jvm.Cond.instanceMethod ({ cls := "CompressedSwapModel", name := "differ", desc := "(II)I" } : Jvm.MethodName)) ∈ lw_all := lw_g (lw_at lw_m2 44 rfl) rfl
theorem q313 : (Jvm.Cond.selects "CompressedSwapModel" ({ cls := "CompressedSwapModel", name := "differ", desc := "(II)I" } : Jvm.MethodName) ({ cls := "CompressedSwapModel", name := "differ", desc := "(II)I" } : Jvm.MethodName)) ∈ lw_all := lw_g (lw_at lw_m2 45 rfl) rfl
theorem q314 : (Jvm.Cond.code ({ cls := "CompressedSwapModel", name := "differ", desc := "(II)I" } : Jvm.MethodName) prog_3_method_14_code (4 : Nat) (Option.some Jvm.ClassFile.FieldType.int)) ∈ lw_all := lw_g (lw_at lw_m2 46 rfl) rfl
theorem q316 : (Jvm.Cond.instanceMethod ({ cls := "CompressedSwapModel", name := "find", desc := "(III)I" } : Jvm.MethodName)) ∈ lw_all := lw_g (lw_at lw_m2 48 rfl) rfl
theorem q317 : (Jvm.Cond.selects "CompressedSwapModel" ({ cls := "CompressedSwapModel", name := "find", desc := "(III)I" } : Jvm.MethodName) ({ cls := "CompressedSwapModel", name := "find", desc := "(III)I" } : Jvm.MethodName)) ∈ lw_all := lw_g (lw_at lw_m2 49 rfl) rfl
theorem q318 : (Jvm.Cond.code ({ cls := "CompressedSwapModel", name := "find", desc := "(III)I" } : Jvm.MethodName) prog_3_method_15_code (5 : Nat) (Option.some Jvm.ClassFile.FieldType.int)) ∈ lw_all := lw_g (lw_at lw_m2 50 rfl) rfl
theorem q320 : (Jvm.Cond.instanceMethod ({ cls := "CompressedSwapModel", name := "blank", desc := "()I" } : Jvm.MethodName)) ∈ lw_all := lw_g (lw_at lw_m2 52 rfl) rfl
theorem q321 : (Jvm.Cond.selects "CompressedSwapModel" ({ cls := "CompressedSwapModel", name := "blank", desc := "()I" } : Jvm.MethodName) ({ cls := "CompressedSwapModel", name := "blank", desc := "()I" } : Jvm.MethodName)) ∈ lw_all := lw_g (lw_at lw_m2 53 rfl) rfl
theorem q322 : (Jvm.Cond.code ({ cls := "CompressedSwapModel", name := "blank", desc := "()I" } : Jvm.MethodName) prog_3_method_16_code (3 : Nat) (Option.some Jvm.ClassFile.FieldType.int)) ∈ lw_all := lw_g (lw_at lw_m2 54 rfl) rfl
theorem q323 : (Jvm.Cond.methodLink "CompressedSwapModel" (23 : Nat) ({ cls := "CompressedSwapModel", name := "sum", desc := "(I)I" } : Jvm.MethodName)) ∈ lw_all := lw_g (lw_at lw_m2 55 rfl) rfl
theorem q325 : (Jvm.Cond.instanceMethod ({ cls := "CompressedSwapModel", name := "twin", desc := "(I)I" } : Jvm.MethodName)) ∈ lw_all := lw_g (lw_at lw_m2 57 rfl) rfl
theorem q326 : (Jvm.Cond.selects "CompressedSwapModel" ({ cls := "CompressedSwapModel", name := "twin", desc := "(I)I" } : Jvm.MethodName) ({ cls := "CompressedSwapModel", name := "twin", desc := "(I)I" } : Jvm.MethodName)) ∈ lw_all := lw_g (lw_at lw_m2 58 rfl) rfl
theorem q327 : (Jvm.Cond.code ({ cls := "CompressedSwapModel", name := "twin", desc := "(I)I" } : Jvm.MethodName) prog_3_method_17_code (3 : Nat) (Option.some Jvm.ClassFile.FieldType.int)) ∈ lw_all := lw_g (lw_at lw_m2 59 rfl) rfl
theorem q328 : (Jvm.Cond.methodLink "CompressedSwapModel" (27 : Nat) ({ cls := "CompressedSwapModel", name := "differ", desc := "(II)I" } : Jvm.MethodName)) ∈ lw_all := lw_g (lw_at lw_m2 60 rfl) rfl
theorem q330 : (Jvm.Cond.instanceMethod ({ cls := "CompressedSwapModel", name := "away", desc := "(I)I" } : Jvm.MethodName)) ∈ lw_all := lw_g (lw_at lw_m2 62 rfl) rfl
theorem q331 : (Jvm.Cond.selects "CompressedSwapModel" ({ cls := "CompressedSwapModel", name := "away", desc := "(I)I" } : Jvm.MethodName) ({ cls := "CompressedSwapModel", name := "away", desc := "(I)I" } : Jvm.MethodName)) ∈ lw_all := lw_g (lw_at lw_m2 63 rfl) rfl
theorem q332 : (Jvm.Cond.code ({ cls := "CompressedSwapModel", name := "away", desc := "(I)I" } : Jvm.MethodName) prog_3_method_18_code (2 : Nat) (Option.some Jvm.ClassFile.FieldType.int)) ∈ lw_all := lw_g (lw_at lw_m2 64 rfl) rfl
theorem q334 : (Jvm.Cond.instanceMethod ({ cls := "CompressedSwapModel", name := "flush", desc := "(I)V" } : Jvm.MethodName)) ∈ lw_all := lw_g (lw_at lw_m2 66 rfl) rfl
theorem q335 : (Jvm.Cond.selects "CompressedSwapModel" ({ cls := "CompressedSwapModel", name := "flush", desc := "(I)V" } : Jvm.MethodName) ({ cls := "CompressedSwapModel", name := "flush", desc := "(I)V" } : Jvm.MethodName)) ∈ lw_all := lw_g (lw_at lw_m2 67 rfl) rfl
theorem q336 : (Jvm.Cond.code ({ cls := "CompressedSwapModel", name := "flush", desc := "(I)V" } : Jvm.MethodName) prog_3_method_19_code (2 : Nat) (Option.none : Option Jvm.ClassFile.FieldType)) ∈ lw_all := lw_g (lw_at lw_m2 68 rfl) rfl
theorem q338 : (Jvm.Cond.instanceMethod ({ cls := "CompressedSwapModel", name := "rest", desc := "(I)V" } : Jvm.MethodName)) ∈ lw_all := lw_g (lw_at lw_m2 70 rfl) rfl
theorem q339 : (Jvm.Cond.selects "CompressedSwapModel" ({ cls := "CompressedSwapModel", name := "rest", desc := "(I)V" } : Jvm.MethodName) ({ cls := "CompressedSwapModel", name := "rest", desc := "(I)V" } : Jvm.MethodName)) ∈ lw_all := lw_g (lw_at lw_m2 71 rfl) rfl
theorem q340 : (Jvm.Cond.code ({ cls := "CompressedSwapModel", name := "rest", desc := "(I)V" } : Jvm.MethodName) prog_3_method_20_code (2 : Nat) (Option.none : Option Jvm.ClassFile.FieldType)) ∈ lw_all := lw_g (lw_at lw_m2 72 rfl) rfl
theorem in_X1 : ∀ w ∈ wsX10, w ∈ lw_all := lw_in wsX10 [260] (by decide +kernel) (by decide +kernel)
theorem q37 : (Jvm.Cond.instanceMethod ({ cls := "java/lang/Object", name := "<init>", desc := "()V" } : Jvm.MethodName)) ∈ lw_all := lw_g (lw_at lw_m1 9 rfl) rfl
theorem q38 : (Jvm.Cond.code ({ cls := "java/lang/Object", name := "<init>", desc := "()V" } : Jvm.MethodName) object_method_1_code (1 : Nat) (Option.none : Option Jvm.ClassFile.FieldType)) ∈ lw_all := lw_g (lw_at lw_m1 10 rfl) rfl
theorem q28 : (Jvm.Cond.initialized "CompressedSwapLaw") ∈ lw_all := lw_g (lw_at lw_m1 0 rfl) rfl
theorem q31 : (Jvm.Cond.classLink "CompressedSwapLaw" (7 : Nat) "CompressedSwap") ∈ lw_all := lw_g (lw_at lw_m1 3 rfl) rfl
theorem q33 : (Jvm.Cond.methodLink "CompressedSwapLaw" (9 : Nat) ({ cls := "CompressedSwap", name := "<init>", desc := "()V" } : Jvm.MethodName)) ∈ lw_all := lw_g (lw_at lw_m1 5 rfl) rfl
theorem q89 : (Jvm.Cond.methodLink "CompressedSwapLaw" (13 : Nat) ({ cls := "CompressedSwap", name := "write", desc := "(III)I" } : Jvm.MethodName)) ∈ lw_all := lw_g (lw_at lw_m1 61 rfl) rfl
theorem q181 : (Jvm.Cond.methodLink "CompressedSwapLaw" (18 : Nat) ({ cls := "CompressedSwap", name := "read", desc := "(II)I" } : Jvm.MethodName)) ∈ lw_all := lw_g (lw_at lw_m1 153 rfl) rfl
theorem q185 : (Jvm.Cond.methodLink "CompressedSwapLaw" (23 : Nat) ({ cls := "CompressedSwap", name := "fill", desc := "(IIII)I" } : Jvm.MethodName)) ∈ lw_all := lw_g (lw_at lw_m1 157 rfl) rfl
theorem q189 : (Jvm.Cond.methodLink "CompressedSwapLaw" (28 : Nat) ({ cls := "CompressedSwap", name := "copy", desc := "(II)I" } : Jvm.MethodName)) ∈ lw_all := lw_g (lw_at lw_m1 161 rfl) rfl
theorem q197 : (Jvm.Cond.methodLink "CompressedSwapLaw" (32 : Nat) ({ cls := "CompressedSwap", name := "exchange", desc := "(II)I" } : Jvm.MethodName)) ∈ lw_all := lw_g (lw_at lw_m1 169 rfl) rfl
theorem q205 : (Jvm.Cond.methodLink "CompressedSwapLaw" (36 : Nat) ({ cls := "CompressedSwap", name := "move", desc := "(IIII)I" } : Jvm.MethodName)) ∈ lw_all := lw_g (lw_at lw_m1 177 rfl) rfl
theorem q209 : (Jvm.Cond.methodLink "CompressedSwapLaw" (40 : Nat) ({ cls := "CompressedSwap", name := "mix", desc := "(II)I" } : Jvm.MethodName)) ∈ lw_all := lw_g (lw_at lw_m1 181 rfl) rfl
theorem q213 : (Jvm.Cond.methodLink "CompressedSwapLaw" (44 : Nat) ({ cls := "CompressedSwap", name := "drop", desc := "(I)I" } : Jvm.MethodName)) ∈ lw_all := lw_g (lw_at lw_m1 185 rfl) rfl
theorem q217 : (Jvm.Cond.methodLink "CompressedSwapLaw" (49 : Nat) ({ cls := "CompressedSwap", name := "sum", desc := "(I)I" } : Jvm.MethodName)) ∈ lw_all := lw_g (lw_at lw_m1 189 rfl) rfl
theorem q221 : (Jvm.Cond.methodLink "CompressedSwapLaw" (53 : Nat) ({ cls := "CompressedSwap", name := "differ", desc := "(II)I" } : Jvm.MethodName)) ∈ lw_all := lw_g (lw_at lw_m1 193 rfl) rfl
theorem q229 : (Jvm.Cond.methodLink "CompressedSwapLaw" (57 : Nat) ({ cls := "CompressedSwap", name := "find", desc := "(III)I" } : Jvm.MethodName)) ∈ lw_all := lw_g (lw_at lw_m1 201 rfl) rfl
theorem q233 : (Jvm.Cond.methodLink "CompressedSwapLaw" (61 : Nat) ({ cls := "CompressedSwap", name := "blank", desc := "()I" } : Jvm.MethodName)) ∈ lw_all := lw_g (lw_at lw_m1 205 rfl) rfl
theorem q237 : (Jvm.Cond.methodLink "CompressedSwapLaw" (66 : Nat) ({ cls := "CompressedSwap", name := "twin", desc := "(I)I" } : Jvm.MethodName)) ∈ lw_all := lw_g (lw_at lw_m1 209 rfl) rfl
theorem q241 : (Jvm.Cond.methodLink "CompressedSwapLaw" (70 : Nat) ({ cls := "CompressedSwap", name := "away", desc := "(I)I" } : Jvm.MethodName)) ∈ lw_all := lw_g (lw_at lw_m1 213 rfl) rfl
theorem q245 : (Jvm.Cond.methodLink "CompressedSwapLaw" (74 : Nat) ({ cls := "CompressedSwap", name := "flush", desc := "(I)V" } : Jvm.MethodName)) ∈ lw_all := lw_g (lw_at lw_m1 217 rfl) rfl
theorem q249 : (Jvm.Cond.methodLink "CompressedSwapLaw" (79 : Nat) ({ cls := "CompressedSwap", name := "rest", desc := "(I)V" } : Jvm.MethodName)) ∈ lw_all := lw_g (lw_at lw_m1 221 rfl) rfl
theorem q253 : (Jvm.Cond.classLink "CompressedSwapLaw" (10 : Nat) "CompressedSwapModel") ∈ lw_all := lw_g (lw_at lw_m1 225 rfl) rfl
theorem q255 : (Jvm.Cond.methodLink "CompressedSwapLaw" (12 : Nat) ({ cls := "CompressedSwapModel", name := "<init>", desc := "()V" } : Jvm.MethodName)) ∈ lw_all := lw_g (lw_at lw_m1 227 rfl) rfl
theorem q263 : (Jvm.Cond.methodLink "CompressedSwapLaw" (17 : Nat) ({ cls := "CompressedSwapModel", name := "write", desc := "(III)I" } : Jvm.MethodName)) ∈ lw_all := lw_g (lw_at lw_m1 235 rfl) rfl
theorem q279 : (Jvm.Cond.methodLink "CompressedSwapLaw" (22 : Nat) ({ cls := "CompressedSwapModel", name := "read", desc := "(II)I" } : Jvm.MethodName)) ∈ lw_all := lw_g (lw_at lw_m2 11 rfl) rfl
theorem q283 : (Jvm.Cond.methodLink "CompressedSwapLaw" (27 : Nat) ({ cls := "CompressedSwapModel", name := "fill", desc := "(IIII)I" } : Jvm.MethodName)) ∈ lw_all := lw_g (lw_at lw_m2 15 rfl) rfl
theorem q287 : (Jvm.Cond.methodLink "CompressedSwapLaw" (31 : Nat) ({ cls := "CompressedSwapModel", name := "copy", desc := "(II)I" } : Jvm.MethodName)) ∈ lw_all := lw_g (lw_at lw_m2 19 rfl) rfl
theorem q291 : (Jvm.Cond.methodLink "CompressedSwapLaw" (35 : Nat) ({ cls := "CompressedSwapModel", name := "exchange", desc := "(II)I" } : Jvm.MethodName)) ∈ lw_all := lw_g (lw_at lw_m2 23 rfl) rfl
theorem q295 : (Jvm.Cond.methodLink "CompressedSwapLaw" (39 : Nat) ({ cls := "CompressedSwapModel", name := "move", desc := "(IIII)I" } : Jvm.MethodName)) ∈ lw_all := lw_g (lw_at lw_m2 27 rfl) rfl
theorem q299 : (Jvm.Cond.methodLink "CompressedSwapLaw" (43 : Nat) ({ cls := "CompressedSwapModel", name := "mix", desc := "(II)I" } : Jvm.MethodName)) ∈ lw_all := lw_g (lw_at lw_m2 31 rfl) rfl
theorem q303 : (Jvm.Cond.methodLink "CompressedSwapLaw" (48 : Nat) ({ cls := "CompressedSwapModel", name := "drop", desc := "(I)I" } : Jvm.MethodName)) ∈ lw_all := lw_g (lw_at lw_m2 35 rfl) rfl
theorem q307 : (Jvm.Cond.methodLink "CompressedSwapLaw" (52 : Nat) ({ cls := "CompressedSwapModel", name := "sum", desc := "(I)I" } : Jvm.MethodName)) ∈ lw_all := lw_g (lw_at lw_m2 39 rfl) rfl
theorem q311 : (Jvm.Cond.methodLink "CompressedSwapLaw" (56 : Nat) ({ cls := "CompressedSwapModel", name := "differ", desc := "(II)I" } : Jvm.MethodName)) ∈ lw_all := lw_g (lw_at lw_m2 43 rfl) rfl
theorem q315 : (Jvm.Cond.methodLink "CompressedSwapLaw" (60 : Nat) ({ cls := "CompressedSwapModel", name := "find", desc := "(III)I" } : Jvm.MethodName)) ∈ lw_all := lw_g (lw_at lw_m2 47 rfl) rfl
theorem q319 : (Jvm.Cond.methodLink "CompressedSwapLaw" (65 : Nat) ({ cls := "CompressedSwapModel", name := "blank", desc := "()I" } : Jvm.MethodName)) ∈ lw_all := lw_g (lw_at lw_m2 51 rfl) rfl
theorem q324 : (Jvm.Cond.methodLink "CompressedSwapLaw" (69 : Nat) ({ cls := "CompressedSwapModel", name := "twin", desc := "(I)I" } : Jvm.MethodName)) ∈ lw_all := lw_g (lw_at lw_m2 56 rfl) rfl
theorem q329 : (Jvm.Cond.methodLink "CompressedSwapLaw" (73 : Nat) ({ cls := "CompressedSwapModel", name := "away", desc := "(I)I" } : Jvm.MethodName)) ∈ lw_all := lw_g (lw_at lw_m2 61 rfl) rfl
theorem q333 : (Jvm.Cond.methodLink "CompressedSwapLaw" (78 : Nat) ({ cls := "CompressedSwapModel", name := "flush", desc := "(I)V" } : Jvm.MethodName)) ∈ lw_all := lw_g (lw_at lw_m2 65 rfl) rfl
theorem q337 : (Jvm.Cond.methodLink "CompressedSwapLaw" (82 : Nat) ({ cls := "CompressedSwapModel", name := "rest", desc := "(I)V" } : Jvm.MethodName)) ∈ lw_all := lw_g (lw_at lw_m2 69 rfl) rfl
theorem q88 : (Jvm.Cond.arrayClass Jvm.ClassFile.FieldType.int) ∈ lw_all := lw_g (lw_at lw_m1 60 rfl) rfl
end
section
set_option maxRecDepth 100000
theorem dX0_init_0 : decode cX0_init 0 = .ok (.aload_n 0, 1) := by decide +kernel
theorem dX0_init_1 : decode cX0_init 1 = .ok (.invokespecial 1, 3) := by decide +kernel
theorem dX0_init_4 : decode cX0_init 4 = .ok (.aload_n 0, 1) := by decide +kernel
theorem dX0_init_5 : decode cX0_init 5 = .ok (.bipush 12, 2) := by decide +kernel
theorem dX0_init_7 : decode cX0_init 7 = .ok (.newarray .int, 2) := by decide +kernel
theorem dX0_init_9 : decode cX0_init 9 = .ok (.putfield 7, 3) := by decide +kernel
theorem dX0_init_12 : decode cX0_init 12 = .ok (.aload_n 0, 1) := by decide +kernel
theorem dX0_init_13 : decode cX0_init 13 = .ok (.bipush 12, 2) := by decide +kernel
theorem dX0_init_15 : decode cX0_init 15 = .ok (.newarray .int, 2) := by decide +kernel
theorem dX0_init_17 : decode cX0_init 17 = .ok (.putfield 13, 3) := by decide +kernel
theorem dX0_init_20 : decode cX0_init 20 = .ok (.aload_n 0, 1) := by decide +kernel
theorem dX0_init_21 : decode cX0_init 21 = .ok (.bipush 48, 2) := by decide +kernel
theorem dX0_init_23 : decode cX0_init 23 = .ok (.newarray .int, 2) := by decide +kernel
theorem dX0_init_25 : decode cX0_init 25 = .ok (.putfield 16, 3) := by decide +kernel
theorem dX0_init_28 : decode cX0_init 28 = .ok (.aload_n 0, 1) := by decide +kernel
theorem dX0_init_29 : decode cX0_init 29 = .ok (.iconst 3, 1) := by decide +kernel
theorem dX0_init_30 : decode cX0_init 30 = .ok (.newarray .int, 2) := by decide +kernel
theorem dX0_init_32 : decode cX0_init 32 = .ok (.putfield 19, 3) := by decide +kernel
theorem dX0_init_35 : decode cX0_init 35 = .ok (.aload_n 0, 1) := by decide +kernel
theorem dX0_init_36 : decode cX0_init 36 = .ok (.iconst 3, 1) := by decide +kernel
theorem dX0_init_37 : decode cX0_init 37 = .ok (.newarray .int, 2) := by decide +kernel
theorem dX0_init_39 : decode cX0_init 39 = .ok (.putfield 22, 3) := by decide +kernel
theorem dX0_init_42 : decode cX0_init 42 = .ok (.aload_n 0, 1) := by decide +kernel
theorem dX0_init_43 : decode cX0_init 43 = .ok (.bipush 64, 2) := by decide +kernel
theorem dX0_init_45 : decode cX0_init 45 = .ok (.newarray .int, 2) := by decide +kernel
theorem dX0_init_47 : decode cX0_init 47 = .ok (.putfield 25, 3) := by decide +kernel
theorem dX0_init_50 : decode cX0_init 50 = .ok (.aload_n 0, 1) := by decide +kernel
theorem dX0_init_51 : decode cX0_init 51 = .ok (.bipush 8, 2) := by decide +kernel
theorem dX0_init_53 : decode cX0_init 53 = .ok (.newarray .int, 2) := by decide +kernel
theorem dX0_init_55 : decode cX0_init 55 = .ok (.putfield 28, 3) := by decide +kernel
theorem dX0_init_58 : decode cX0_init 58 = .ok (.aload_n 0, 1) := by decide +kernel
theorem dX0_init_59 : decode cX0_init 59 = .ok (.bipush 8, 2) := by decide +kernel
theorem dX0_init_61 : decode cX0_init 61 = .ok (.newarray .int, 2) := by decide +kernel
theorem dX0_init_63 : decode cX0_init 63 = .ok (.putfield 31, 3) := by decide +kernel
theorem dX0_init_66 : decode cX0_init 66 = .ok (.aload_n 0, 1) := by decide +kernel
theorem dX0_init_67 : decode cX0_init 67 = .ok (.iconst 4, 1) := by decide +kernel
theorem dX0_init_68 : decode cX0_init 68 = .ok (.newarray .int, 2) := by decide +kernel
theorem dX0_init_70 : decode cX0_init 70 = .ok (.putfield 34, 3) := by decide +kernel
theorem dX0_init_73 : decode cX0_init 73 = .ok (.aload_n 0, 1) := by decide +kernel
theorem dX0_init_74 : decode cX0_init 74 = .ok (.sipush 192, 3) := by decide +kernel
theorem dX0_init_77 : decode cX0_init 77 = .ok (.newarray .int, 2) := by decide +kernel
theorem dX0_init_79 : decode cX0_init 79 = .ok (.putfield 37, 3) := by decide +kernel
theorem dX0_init_82 : decode cX0_init 82 = .ok (.aload_n 0, 1) := by decide +kernel
theorem dX0_init_83 : decode cX0_init 83 = .ok (.bipush 12, 2) := by decide +kernel
theorem dX0_init_85 : decode cX0_init 85 = .ok (.newarray .int, 2) := by decide +kernel
theorem dX0_init_87 : decode cX0_init 87 = .ok (.putfield 40, 3) := by decide +kernel
theorem dX0_init_90 : decode cX0_init 90 = .ok (.aload_n 0, 1) := by decide +kernel
theorem dX0_init_91 : decode cX0_init 91 = .ok (.bipush 24, 2) := by decide +kernel
theorem dX0_init_93 : decode cX0_init 93 = .ok (.newarray .int, 2) := by decide +kernel
theorem dX0_init_95 : decode cX0_init 95 = .ok (.putfield 43, 3) := by decide +kernel
theorem dX0_init_98 : decode cX0_init 98 = .ok (.aload_n 0, 1) := by decide +kernel
theorem dX0_init_99 : decode cX0_init 99 = .ok (.bipush 16, 2) := by decide +kernel
theorem dX0_init_101 : decode cX0_init 101 = .ok (.newarray .int, 2) := by decide +kernel
theorem dX0_init_103 : decode cX0_init 103 = .ok (.putfield 46, 3) := by decide +kernel
theorem dX0_init_106 : decode cX0_init 106 = .ok (.aload_n 0, 1) := by decide +kernel
theorem dX0_init_107 : decode cX0_init 107 = .ok (.bipush 16, 2) := by decide +kernel
theorem dX0_init_109 : decode cX0_init 109 = .ok (.newarray .int, 2) := by decide +kernel
theorem dX0_init_111 : decode cX0_init 111 = .ok (.putfield 49, 3) := by decide +kernel
theorem dX0_init_114 : decode cX0_init 114 = .ok (.iconst 0, 1) := by decide +kernel
theorem dX0_init_115 : decode cX0_init 115 = .ok (.istore_n 1, 1) := by decide +kernel
theorem dX0_init_116 : decode cX0_init 116 = .ok (.iload_n 1, 1) := by decide +kernel
theorem dX0_init_117 : decode cX0_init 117 = .ok (.iconst 3, 1) := by decide +kernel
theorem dX0_init_118 : decode cX0_init 118 = .ok (.if_icmp .ge 16, 3) := by decide +kernel
theorem dX0_init_121 : decode cX0_init 121 = .ok (.aload_n 0, 1) := by decide +kernel
theorem dX0_init_122 : decode cX0_init 122 = .ok (.getfield 19, 3) := by decide +kernel
theorem dX0_init_125 : decode cX0_init 125 = .ok (.iload_n 1, 1) := by decide +kernel
theorem dX0_init_126 : decode cX0_init 126 = .ok (.iconst (-1), 1) := by decide +kernel
theorem dX0_init_127 : decode cX0_init 127 = .ok (.iastore, 1) := by decide +kernel
theorem dX0_init_128 : decode cX0_init 128 = .ok (.iinc 1 1, 3) := by decide +kernel
theorem dX0_init_131 : decode cX0_init 131 = .ok (.goto (-15), 3) := by decide +kernel
theorem dX0_init_134 : decode cX0_init 134 = .ok (.iconst 0, 1) := by decide +kernel
theorem dX0_init_135 : decode cX0_init 135 = .ok (.istore_n 1, 1) := by decide +kernel
theorem dX0_init_136 : decode cX0_init 136 = .ok (.iload_n 1, 1) := by decide +kernel
theorem dX0_init_137 : decode cX0_init 137 = .ok (.bipush 8, 2) := by decide +kernel
theorem dX0_init_139 : decode cX0_init 139 = .ok (.if_icmp .ge 16, 3) := by decide +kernel
theorem dX0_init_142 : decode cX0_init 142 = .ok (.aload_n 0, 1) := by decide +kernel
theorem dX0_init_143 : decode cX0_init 143 = .ok (.getfield 28, 3) := by decide +kernel
theorem dX0_init_146 : decode cX0_init 146 = .ok (.iload_n 1, 1) := by decide +kernel
theorem dX0_init_147 : decode cX0_init 147 = .ok (.iconst (-1), 1) := by decide +kernel
theorem dX0_init_148 : decode cX0_init 148 = .ok (.iastore, 1) := by decide +kernel
theorem dX0_init_149 : decode cX0_init 149 = .ok (.iinc 1 1, 3) := by decide +kernel
theorem dX0_init_152 : decode cX0_init 152 = .ok (.goto (-16), 3) := by decide +kernel
theorem dX0_init_155 : decode cX0_init 155 = .ok (.iconst 0, 1) := by decide +kernel
theorem dX0_init_156 : decode cX0_init 156 = .ok (.istore_n 1, 1) := by decide +kernel
theorem dX0_init_157 : decode cX0_init 157 = .ok (.iload_n 1, 1) := by decide +kernel
theorem dX0_init_158 : decode cX0_init 158 = .ok (.bipush 12, 2) := by decide +kernel
theorem dX0_init_160 : decode cX0_init 160 = .ok (.if_icmp .ge 16, 3) := by decide +kernel
theorem dX0_init_163 : decode cX0_init 163 = .ok (.aload_n 0, 1) := by decide +kernel
theorem dX0_init_164 : decode cX0_init 164 = .ok (.getfield 40, 3) := by decide +kernel
theorem dX0_init_167 : decode cX0_init 167 = .ok (.iload_n 1, 1) := by decide +kernel
theorem dX0_init_168 : decode cX0_init 168 = .ok (.iconst (-1), 1) := by decide +kernel
theorem dX0_init_169 : decode cX0_init 169 = .ok (.iastore, 1) := by decide +kernel
theorem dX0_init_170 : decode cX0_init 170 = .ok (.iinc 1 1, 3) := by decide +kernel
theorem dX0_init_173 : decode cX0_init 173 = .ok (.goto (-16), 3) := by decide +kernel
theorem dX0_init_176 : decode cX0_init 176 = .ok (.return_, 1) := by decide +kernel
theorem dX0_write_0 : decode cX0_write 0 = .ok (.aload_n 0, 1) := by decide +kernel
theorem dX0_write_1 : decode cX0_write 1 = .ok (.iload_n 1, 1) := by decide +kernel
theorem dX0_write_2 : decode cX0_write 2 = .ok (.invokevirtual 122, 3) := by decide +kernel
theorem dX0_write_5 : decode cX0_write 5 = .ok (.ifCond .ne 19, 3) := by decide +kernel
theorem dX0_write_8 : decode cX0_write 8 = .ok (.aload_n 0, 1) := by decide +kernel
theorem dX0_write_9 : decode cX0_write 9 = .ok (.iload_n 2, 1) := by decide +kernel
theorem dX0_write_10 : decode cX0_write 10 = .ok (.invokevirtual 125, 3) := by decide +kernel
theorem dX0_write_13 : decode cX0_write 13 = .ok (.ifCond .ne 11, 3) := by decide +kernel
theorem dX0_write_16 : decode cX0_write 16 = .ok (.aload_n 0, 1) := by decide +kernel
theorem dX0_write_17 : decode cX0_write 17 = .ok (.iload_n 3, 1) := by decide +kernel
theorem dX0_write_18 : decode cX0_write 18 = .ok (.invokevirtual 128, 3) := by decide +kernel
theorem dX0_write_21 : decode cX0_write 21 = .ok (.ifCond .eq 5, 3) := by decide +kernel
theorem dX0_write_24 : decode cX0_write 24 = .ok (.iconst (-1), 1) := by decide +kernel
theorem dX0_write_25 : decode cX0_write 25 = .ok (.ireturn, 1) := by decide +kernel
theorem dX0_write_26 : decode cX0_write 26 = .ok (.aload_n 0, 1) := by decide +kernel
theorem dX0_write_27 : decode cX0_write 27 = .ok (.iload_n 1, 1) := by decide +kernel
theorem dX0_write_28 : decode cX0_write 28 = .ok (.invokevirtual 119, 3) := by decide +kernel
theorem dX0_write_31 : decode cX0_write 31 = .ok (.istore 4, 2) := by decide +kernel
theorem dX0_write_33 : decode cX0_write 33 = .ok (.aload_n 0, 1) := by decide +kernel
theorem dX0_write_34 : decode cX0_write 34 = .ok (.getfield 16, 3) := by decide +kernel
theorem dX0_write_37 : decode cX0_write 37 = .ok (.iload 4, 2) := by decide +kernel
theorem dX0_write_39 : decode cX0_write 39 = .ok (.iload_n 2, 1) := by decide +kernel
theorem dX0_write_40 : decode cX0_write 40 = .ok (.iadd, 1) := by decide +kernel
theorem dX0_write_41 : decode cX0_write 41 = .ok (.iaload, 1) := by decide +kernel
theorem dX0_write_42 : decode cX0_write 42 = .ok (.istore 5, 2) := by decide +kernel
theorem dX0_write_44 : decode cX0_write 44 = .ok (.aload_n 0, 1) := by decide +kernel
theorem dX0_write_45 : decode cX0_write 45 = .ok (.getfield 16, 3) := by decide +kernel
theorem dX0_write_48 : decode cX0_write 48 = .ok (.iload 4, 2) := by decide +kernel
theorem dX0_write_50 : decode cX0_write 50 = .ok (.iload_n 2, 1) := by decide +kernel
theorem dX0_write_51 : decode cX0_write 51 = .ok (.iadd, 1) := by decide +kernel
theorem dX0_write_52 : decode cX0_write 52 = .ok (.iload_n 3, 1) := by decide +kernel
theorem dX0_write_53 : decode cX0_write 53 = .ok (.iastore, 1) := by decide +kernel
theorem dX0_write_54 : decode cX0_write 54 = .ok (.iload 5, 2) := by decide +kernel
theorem dX0_write_56 : decode cX0_write 56 = .ok (.ireturn, 1) := by decide +kernel
theorem dX0_badPage_0 : decode cX0_badPage 0 = .ok (.iload_n 1, 1) := by decide +kernel
theorem dX0_badPage_1 : decode cX0_badPage 1 = .ok (.ifCond .lt 9, 3) := by decide +kernel
theorem dX0_badPage_4 : decode cX0_badPage 4 = .ok (.iload_n 1, 1) := by decide +kernel
theorem dX0_badPage_5 : decode cX0_badPage 5 = .ok (.bipush 12, 2) := by decide +kernel
theorem dX0_badPage_7 : decode cX0_badPage 7 = .ok (.if_icmp .lt 7, 3) := by decide +kernel
theorem dX0_badPage_10 : decode cX0_badPage 10 = .ok (.iconst 1, 1) := by decide +kernel
theorem dX0_badPage_11 : decode cX0_badPage 11 = .ok (.goto 4, 3) := by decide +kernel
theorem dX0_badPage_14 : decode cX0_badPage 14 = .ok (.iconst 0, 1) := by decide +kernel
theorem dX0_badPage_15 : decode cX0_badPage 15 = .ok (.ireturn, 1) := by decide +kernel
theorem dX0_badPlace_0 : decode cX0_badPlace 0 = .ok (.iload_n 1, 1) := by decide +kernel
theorem dX0_badPlace_1 : decode cX0_badPlace 1 = .ok (.ifCond .lt 9, 3) := by decide +kernel
theorem dX0_badPlace_4 : decode cX0_badPlace 4 = .ok (.iload_n 1, 1) := by decide +kernel
theorem dX0_badPlace_5 : decode cX0_badPlace 5 = .ok (.bipush 16, 2) := by decide +kernel
theorem dX0_badPlace_7 : decode cX0_badPlace 7 = .ok (.if_icmp .lt 7, 3) := by decide +kernel
theorem dX0_badPlace_10 : decode cX0_badPlace 10 = .ok (.iconst 1, 1) := by decide +kernel
theorem dX0_badPlace_11 : decode cX0_badPlace 11 = .ok (.goto 4, 3) := by decide +kernel
theorem dX0_badPlace_14 : decode cX0_badPlace 14 = .ok (.iconst 0, 1) := by decide +kernel
theorem dX0_badPlace_15 : decode cX0_badPlace 15 = .ok (.ireturn, 1) := by decide +kernel
theorem dX0_badByte_0 : decode cX0_badByte 0 = .ok (.iload_n 1, 1) := by decide +kernel
theorem dX0_badByte_1 : decode cX0_badByte 1 = .ok (.ifCond .lt 10, 3) := by decide +kernel
theorem dX0_badByte_4 : decode cX0_badByte 4 = .ok (.iload_n 1, 1) := by decide +kernel
theorem dX0_badByte_5 : decode cX0_badByte 5 = .ok (.sipush 255, 3) := by decide +kernel
theorem dX0_badByte_8 : decode cX0_badByte 8 = .ok (.if_icmp .le 7, 3) := by decide +kernel
theorem dX0_badByte_11 : decode cX0_badByte 11 = .ok (.iconst 1, 1) := by decide +kernel
theorem dX0_badByte_12 : decode cX0_badByte 12 = .ok (.goto 4, 3) := by decide +kernel
theorem dX0_badByte_15 : decode cX0_badByte 15 = .ok (.iconst 0, 1) := by decide +kernel
theorem dX0_badByte_16 : decode cX0_badByte 16 = .ok (.ireturn, 1) := by decide +kernel
theorem dX0_bring_0 : decode cX0_bring 0 = .ok (.aload_n 0, 1) := by decide +kernel
theorem dX0_bring_1 : decode cX0_bring 1 = .ok (.dup, 1) := by decide +kernel
theorem dX0_bring_2 : decode cX0_bring 2 = .ok (.getfield 87, 3) := by decide +kernel
theorem dX0_bring_5 : decode cX0_bring 5 = .ok (.iconst 1, 1) := by decide +kernel
theorem dX0_bring_6 : decode cX0_bring 6 = .ok (.iadd, 1) := by decide +kernel
theorem dX0_bring_7 : decode cX0_bring 7 = .ok (.putfield 87, 3) := by decide +kernel
theorem dX0_bring_10 : decode cX0_bring 10 = .ok (.aload_n 0, 1) := by decide +kernel
theorem dX0_bring_11 : decode cX0_bring 11 = .ok (.getfield 7, 3) := by decide +kernel
theorem dX0_bring_14 : decode cX0_bring 14 = .ok (.iload_n 1, 1) := by decide +kernel
theorem dX0_bring_15 : decode cX0_bring 15 = .ok (.iaload, 1) := by decide +kernel
theorem dX0_bring_16 : decode cX0_bring 16 = .ok (.iconst 1, 1) := by decide +kernel
theorem dX0_bring_17 : decode cX0_bring 17 = .ok (.if_icmp .ne 28, 3) := by decide +kernel
theorem dX0_bring_20 : decode cX0_bring 20 = .ok (.aload_n 0, 1) := by decide +kernel
theorem dX0_bring_21 : decode cX0_bring 21 = .ok (.getfield 22, 3) := by decide +kernel
theorem dX0_bring_24 : decode cX0_bring 24 = .ok (.aload_n 0, 1) := by decide +kernel
theorem dX0_bring_25 : decode cX0_bring 25 = .ok (.getfield 13, 3) := by decide +kernel
theorem dX0_bring_28 : decode cX0_bring 28 = .ok (.iload_n 1, 1) := by decide +kernel
theorem dX0_bring_29 : decode cX0_bring 29 = .ok (.iaload, 1) := by decide +kernel
theorem dX0_bring_30 : decode cX0_bring 30 = .ok (.aload_n 0, 1) := by decide +kernel
theorem dX0_bring_31 : decode cX0_bring 31 = .ok (.getfield 87, 3) := by decide +kernel
theorem dX0_bring_34 : decode cX0_bring 34 = .ok (.iastore, 1) := by decide +kernel
theorem dX0_bring_35 : decode cX0_bring 35 = .ok (.aload_n 0, 1) := by decide +kernel
theorem dX0_bring_36 : decode cX0_bring 36 = .ok (.getfield 13, 3) := by decide +kernel
theorem dX0_bring_39 : decode cX0_bring 39 = .ok (.iload_n 1, 1) := by decide +kernel
theorem dX0_bring_40 : decode cX0_bring 40 = .ok (.iaload, 1) := by decide +kernel
theorem dX0_bring_41 : decode cX0_bring 41 = .ok (.bipush 16, 2) := by decide +kernel
theorem dX0_bring_43 : decode cX0_bring 43 = .ok (.imul, 1) := by decide +kernel
theorem dX0_bring_44 : decode cX0_bring 44 = .ok (.ireturn, 1) := by decide +kernel
theorem dX0_bring_45 : decode cX0_bring 45 = .ok (.aload_n 0, 1) := by decide +kernel
theorem dX0_bring_46 : decode cX0_bring 46 = .ok (.invokevirtual 113, 3) := by decide +kernel
theorem dX0_bring_49 : decode cX0_bring 49 = .ok (.istore_n 2, 1) := by decide +kernel
theorem dX0_bring_50 : decode cX0_bring 50 = .ok (.iconst 0, 1) := by decide +kernel
theorem dX0_bring_51 : decode cX0_bring 51 = .ok (.istore_n 3, 1) := by decide +kernel
theorem dX0_bring_52 : decode cX0_bring 52 = .ok (.iload_n 3, 1) := by decide +kernel
theorem dX0_bring_53 : decode cX0_bring 53 = .ok (.bipush 16, 2) := by decide +kernel
theorem dX0_bring_55 : decode cX0_bring 55 = .ok (.if_icmp .ge 16, 3) := by decide +kernel
theorem dX0_bring_58 : decode cX0_bring 58 = .ok (.aload_n 0, 1) := by decide +kernel
theorem dX0_bring_59 : decode cX0_bring 59 = .ok (.getfield 46, 3) := by decide +kernel
theorem dX0_bring_62 : decode cX0_bring 62 = .ok (.iload_n 3, 1) := by decide +kernel
theorem dX0_bring_63 : decode cX0_bring 63 = .ok (.iconst 0, 1) := by decide +kernel
theorem dX0_bring_64 : decode cX0_bring 64 = .ok (.iastore, 1) := by decide +kernel
theorem dX0_bring_65 : decode cX0_bring 65 = .ok (.iinc 3 1, 3) := by decide +kernel
theorem dX0_bring_68 : decode cX0_bring 68 = .ok (.goto (-16), 3) := by decide +kernel
theorem dX0_bring_71 : decode cX0_bring 71 = .ok (.aload_n 0, 1) := by decide +kernel
theorem dX0_bring_72 : decode cX0_bring 72 = .ok (.getfield 7, 3) := by decide +kernel
theorem dX0_bring_75 : decode cX0_bring 75 = .ok (.iload_n 1, 1) := by decide +kernel
theorem dX0_bring_76 : decode cX0_bring 76 = .ok (.iaload, 1) := by decide +kernel
theorem dX0_bring_77 : decode cX0_bring 77 = .ok (.iconst 2, 1) := by decide +kernel
theorem dX0_bring_78 : decode cX0_bring 78 = .ok (.if_icmp .ne 16, 3) := by decide +kernel
theorem dX0_bring_81 : decode cX0_bring 81 = .ok (.aload_n 0, 1) := by decide +kernel
theorem dX0_bring_82 : decode cX0_bring 82 = .ok (.aload_n 0, 1) := by decide +kernel
theorem dX0_bring_83 : decode cX0_bring 83 = .ok (.getfield 13, 3) := by decide +kernel
theorem dX0_bring_86 : decode cX0_bring 86 = .ok (.iload_n 1, 1) := by decide +kernel
theorem dX0_bring_87 : decode cX0_bring 87 = .ok (.iaload, 1) := by decide +kernel
theorem dX0_bring_88 : decode cX0_bring 88 = .ok (.invokevirtual 77, 3) := by decide +kernel
theorem dX0_bring_91 : decode cX0_bring 91 = .ok (.goto 49, 3) := by decide +kernel
theorem dX0_bring_94 : decode cX0_bring 94 = .ok (.aload_n 0, 1) := by decide +kernel
theorem dX0_bring_95 : decode cX0_bring 95 = .ok (.getfield 7, 3) := by decide +kernel
theorem dX0_bring_98 : decode cX0_bring 98 = .ok (.iload_n 1, 1) := by decide +kernel
theorem dX0_bring_99 : decode cX0_bring 99 = .ok (.iaload, 1) := by decide +kernel
theorem dX0_bring_100 : decode cX0_bring 100 = .ok (.iconst 3, 1) := by decide +kernel
theorem dX0_bring_101 : decode cX0_bring 101 = .ok (.if_icmp .ne 39, 3) := by decide +kernel
theorem dX0_bring_104 : decode cX0_bring 104 = .ok (.iconst 0, 1) := by decide +kernel
theorem dX0_bring_105 : decode cX0_bring 105 = .ok (.istore_n 3, 1) := by decide +kernel
theorem dX0_bring_106 : decode cX0_bring 106 = .ok (.iload_n 3, 1) := by decide +kernel
theorem dX0_bring_107 : decode cX0_bring 107 = .ok (.bipush 16, 2) := by decide +kernel
theorem dX0_bring_109 : decode cX0_bring 109 = .ok (.if_icmp .ge 31, 3) := by decide +kernel
theorem dX0_bring_112 : decode cX0_bring 112 = .ok (.aload_n 0, 1) := by decide +kernel
theorem dX0_bring_113 : decode cX0_bring 113 = .ok (.getfield 46, 3) := by decide +kernel
theorem dX0_bring_116 : decode cX0_bring 116 = .ok (.iload_n 3, 1) := by decide +kernel
theorem dX0_bring_117 : decode cX0_bring 117 = .ok (.aload_n 0, 1) := by decide +kernel
theorem dX0_bring_118 : decode cX0_bring 118 = .ok (.getfield 37, 3) := by decide +kernel
theorem dX0_bring_121 : decode cX0_bring 121 = .ok (.aload_n 0, 1) := by decide +kernel
theorem dX0_bring_122 : decode cX0_bring 122 = .ok (.getfield 13, 3) := by decide +kernel
theorem dX0_bring_125 : decode cX0_bring 125 = .ok (.iload_n 1, 1) := by decide +kernel
theorem dX0_bring_126 : decode cX0_bring 126 = .ok (.iaload, 1) := by decide +kernel
theorem dX0_bring_127 : decode cX0_bring 127 = .ok (.bipush 16, 2) := by decide +kernel
theorem dX0_bring_129 : decode cX0_bring 129 = .ok (.imul, 1) := by decide +kernel
theorem dX0_bring_130 : decode cX0_bring 130 = .ok (.iload_n 3, 1) := by decide +kernel
theorem dX0_bring_131 : decode cX0_bring 131 = .ok (.iadd, 1) := by decide +kernel
theorem dX0_bring_132 : decode cX0_bring 132 = .ok (.iaload, 1) := by decide +kernel
theorem dX0_bring_133 : decode cX0_bring 133 = .ok (.iastore, 1) := by decide +kernel
theorem dX0_bring_134 : decode cX0_bring 134 = .ok (.iinc 3 1, 3) := by decide +kernel
theorem dX0_bring_137 : decode cX0_bring 137 = .ok (.goto (-31), 3) := by decide +kernel
theorem dX0_bring_140 : decode cX0_bring 140 = .ok (.aload_n 0, 1) := by decide +kernel
theorem dX0_bring_141 : decode cX0_bring 141 = .ok (.iload_n 1, 1) := by decide +kernel
theorem dX0_bring_142 : decode cX0_bring 142 = .ok (.invokevirtual 116, 3) := by decide +kernel
theorem dX0_bring_145 : decode cX0_bring 145 = .ok (.iconst 0, 1) := by decide +kernel
theorem dX0_bring_146 : decode cX0_bring 146 = .ok (.istore_n 3, 1) := by decide +kernel
theorem dX0_bring_147 : decode cX0_bring 147 = .ok (.iload_n 3, 1) := by decide +kernel
theorem dX0_bring_148 : decode cX0_bring 148 = .ok (.bipush 16, 2) := by decide +kernel
theorem dX0_bring_150 : decode cX0_bring 150 = .ok (.if_icmp .ge 26, 3) := by decide +kernel
theorem dX0_bring_153 : decode cX0_bring 153 = .ok (.aload_n 0, 1) := by decide +kernel
theorem dX0_bring_154 : decode cX0_bring 154 = .ok (.getfield 16, 3) := by decide +kernel
theorem dX0_bring_157 : decode cX0_bring 157 = .ok (.iload_n 2, 1) := by decide +kernel
theorem dX0_bring_158 : decode cX0_bring 158 = .ok (.bipush 16, 2) := by decide +kernel
theorem dX0_bring_160 : decode cX0_bring 160 = .ok (.imul, 1) := by decide +kernel
theorem dX0_bring_161 : decode cX0_bring 161 = .ok (.iload_n 3, 1) := by decide +kernel
theorem dX0_bring_162 : decode cX0_bring 162 = .ok (.iadd, 1) := by decide +kernel
theorem dX0_bring_163 : decode cX0_bring 163 = .ok (.aload_n 0, 1) := by decide +kernel
theorem dX0_bring_164 : decode cX0_bring 164 = .ok (.getfield 46, 3) := by decide +kernel
theorem dX0_bring_167 : decode cX0_bring 167 = .ok (.iload_n 3, 1) := by decide +kernel
theorem dX0_bring_168 : decode cX0_bring 168 = .ok (.iaload, 1) := by decide +kernel
theorem dX0_bring_169 : decode cX0_bring 169 = .ok (.iastore, 1) := by decide +kernel
theorem dX0_bring_170 : decode cX0_bring 170 = .ok (.iinc 3 1, 3) := by decide +kernel
theorem dX0_bring_173 : decode cX0_bring 173 = .ok (.goto (-26), 3) := by decide +kernel
theorem dX0_bring_176 : decode cX0_bring 176 = .ok (.aload_n 0, 1) := by decide +kernel
theorem dX0_bring_177 : decode cX0_bring 177 = .ok (.getfield 19, 3) := by decide +kernel
theorem dX0_bring_180 : decode cX0_bring 180 = .ok (.iload_n 2, 1) := by decide +kernel
theorem dX0_bring_181 : decode cX0_bring 181 = .ok (.iload_n 1, 1) := by decide +kernel
theorem dX0_bring_182 : decode cX0_bring 182 = .ok (.iastore, 1) := by decide +kernel
theorem dX0_bring_183 : decode cX0_bring 183 = .ok (.aload_n 0, 1) := by decide +kernel
theorem dX0_bring_184 : decode cX0_bring 184 = .ok (.dup, 1) := by decide +kernel
theorem dX0_bring_185 : decode cX0_bring 185 = .ok (.getfield 87, 3) := by decide +kernel
theorem dX0_bring_188 : decode cX0_bring 188 = .ok (.iconst 1, 1) := by decide +kernel
theorem dX0_bring_189 : decode cX0_bring 189 = .ok (.iadd, 1) := by decide +kernel
theorem dX0_bring_190 : decode cX0_bring 190 = .ok (.putfield 87, 3) := by decide +kernel
theorem dX0_bring_193 : decode cX0_bring 193 = .ok (.aload_n 0, 1) := by decide +kernel
theorem dX0_bring_194 : decode cX0_bring 194 = .ok (.getfield 22, 3) := by decide +kernel
theorem dX0_bring_197 : decode cX0_bring 197 = .ok (.iload_n 2, 1) := by decide +kernel
theorem dX0_bring_198 : decode cX0_bring 198 = .ok (.aload_n 0, 1) := by decide +kernel
theorem dX0_bring_199 : decode cX0_bring 199 = .ok (.getfield 87, 3) := by decide +kernel
theorem dX0_bring_202 : decode cX0_bring 202 = .ok (.iastore, 1) := by decide +kernel
theorem dX0_bring_203 : decode cX0_bring 203 = .ok (.aload_n 0, 1) := by decide +kernel
theorem dX0_bring_204 : decode cX0_bring 204 = .ok (.getfield 7, 3) := by decide +kernel
theorem dX0_bring_207 : decode cX0_bring 207 = .ok (.iload_n 1, 1) := by decide +kernel
theorem dX0_bring_208 : decode cX0_bring 208 = .ok (.iconst 1, 1) := by decide +kernel
theorem dX0_bring_209 : decode cX0_bring 209 = .ok (.iastore, 1) := by decide +kernel
theorem dX0_bring_210 : decode cX0_bring 210 = .ok (.aload_n 0, 1) := by decide +kernel
theorem dX0_bring_211 : decode cX0_bring 211 = .ok (.getfield 13, 3) := by decide +kernel
theorem dX0_bring_214 : decode cX0_bring 214 = .ok (.iload_n 1, 1) := by decide +kernel
theorem dX0_bring_215 : decode cX0_bring 215 = .ok (.iload_n 2, 1) := by decide +kernel
theorem dX0_bring_216 : decode cX0_bring 216 = .ok (.iastore, 1) := by decide +kernel
theorem dX0_bring_217 : decode cX0_bring 217 = .ok (.iload_n 2, 1) := by decide +kernel
theorem dX0_bring_218 : decode cX0_bring 218 = .ok (.bipush 16, 2) := by decide +kernel
theorem dX0_bring_220 : decode cX0_bring 220 = .ok (.imul, 1) := by decide +kernel
theorem dX0_bring_221 : decode cX0_bring 221 = .ok (.ireturn, 1) := by decide +kernel
theorem dX0_freeFrame_0 : decode cX0_freeFrame 0 = .ok (.iconst 0, 1) := by decide +kernel
theorem dX0_freeFrame_1 : decode cX0_freeFrame 1 = .ok (.istore_n 1, 1) := by decide +kernel
theorem dX0_freeFrame_2 : decode cX0_freeFrame 2 = .ok (.iconst 0, 1) := by decide +kernel
theorem dX0_freeFrame_3 : decode cX0_freeFrame 3 = .ok (.istore_n 2, 1) := by decide +kernel
theorem dX0_freeFrame_4 : decode cX0_freeFrame 4 = .ok (.iload_n 2, 1) := by decide +kernel
theorem dX0_freeFrame_5 : decode cX0_freeFrame 5 = .ok (.iconst 3, 1) := by decide +kernel
theorem dX0_freeFrame_6 : decode cX0_freeFrame 6 = .ok (.if_icmp .ge 37, 3) := by decide +kernel
theorem dX0_freeFrame_9 : decode cX0_freeFrame 9 = .ok (.aload_n 0, 1) := by decide +kernel
theorem dX0_freeFrame_10 : decode cX0_freeFrame 10 = .ok (.getfield 19, 3) := by decide +kernel
theorem dX0_freeFrame_13 : decode cX0_freeFrame 13 = .ok (.iload_n 2, 1) := by decide +kernel
theorem dX0_freeFrame_14 : decode cX0_freeFrame 14 = .ok (.iaload, 1) := by decide +kernel
theorem dX0_freeFrame_15 : decode cX0_freeFrame 15 = .ok (.ifCond .ge 5, 3) := by decide +kernel
theorem dX0_freeFrame_18 : decode cX0_freeFrame 18 = .ok (.iload_n 2, 1) := by decide +kernel
theorem dX0_freeFrame_19 : decode cX0_freeFrame 19 = .ok (.ireturn, 1) := by decide +kernel
theorem dX0_freeFrame_20 : decode cX0_freeFrame 20 = .ok (.aload_n 0, 1) := by decide +kernel
theorem dX0_freeFrame_21 : decode cX0_freeFrame 21 = .ok (.getfield 22, 3) := by decide +kernel
theorem dX0_freeFrame_24 : decode cX0_freeFrame 24 = .ok (.iload_n 2, 1) := by decide +kernel
theorem dX0_freeFrame_25 : decode cX0_freeFrame 25 = .ok (.iaload, 1) := by decide +kernel
theorem dX0_freeFrame_26 : decode cX0_freeFrame 26 = .ok (.aload_n 0, 1) := by decide +kernel
theorem dX0_freeFrame_27 : decode cX0_freeFrame 27 = .ok (.getfield 22, 3) := by decide +kernel
theorem dX0_freeFrame_30 : decode cX0_freeFrame 30 = .ok (.iload_n 1, 1) := by decide +kernel
theorem dX0_freeFrame_31 : decode cX0_freeFrame 31 = .ok (.iaload, 1) := by decide +kernel
theorem dX0_freeFrame_32 : decode cX0_freeFrame 32 = .ok (.if_icmp .ge 5, 3) := by decide +kernel
theorem dX0_freeFrame_35 : decode cX0_freeFrame 35 = .ok (.iload_n 2, 1) := by decide +kernel
theorem dX0_freeFrame_36 : decode cX0_freeFrame 36 = .ok (.istore_n 1, 1) := by decide +kernel
theorem dX0_freeFrame_37 : decode cX0_freeFrame 37 = .ok (.iinc 2 1, 3) := by decide +kernel
theorem dX0_freeFrame_40 : decode cX0_freeFrame 40 = .ok (.goto (-36), 3) := by decide +kernel
theorem dX0_freeFrame_43 : decode cX0_freeFrame 43 = .ok (.aload_n 0, 1) := by decide +kernel
theorem dX0_freeFrame_44 : decode cX0_freeFrame 44 = .ok (.iload_n 1, 1) := by decide +kernel
theorem dX0_freeFrame_45 : decode cX0_freeFrame 45 = .ok (.invokevirtual 110, 3) := by decide +kernel
theorem dX0_freeFrame_48 : decode cX0_freeFrame 48 = .ok (.iload_n 1, 1) := by decide +kernel
theorem dX0_freeFrame_49 : decode cX0_freeFrame 49 = .ok (.ireturn, 1) := by decide +kernel
theorem dX0_evict_0 : decode cX0_evict 0 = .ok (.aload_n 0, 1) := by decide +kernel
theorem dX0_evict_1 : decode cX0_evict 1 = .ok (.getfield 19, 3) := by decide +kernel
theorem dX0_evict_4 : decode cX0_evict 4 = .ok (.iload_n 1, 1) := by decide +kernel
theorem dX0_evict_5 : decode cX0_evict 5 = .ok (.iaload, 1) := by decide +kernel
theorem dX0_evict_6 : decode cX0_evict 6 = .ok (.istore_n 2, 1) := by decide +kernel
theorem dX0_evict_7 : decode cX0_evict 7 = .ok (.aload_n 0, 1) := by decide +kernel
theorem dX0_evict_8 : decode cX0_evict 8 = .ok (.getfield 19, 3) := by decide +kernel
theorem dX0_evict_11 : decode cX0_evict 11 = .ok (.iload_n 1, 1) := by decide +kernel
theorem dX0_evict_12 : decode cX0_evict 12 = .ok (.iconst (-1), 1) := by decide +kernel
theorem dX0_evict_13 : decode cX0_evict 13 = .ok (.iastore, 1) := by decide +kernel
theorem dX0_evict_14 : decode cX0_evict 14 = .ok (.aload_n 0, 1) := by decide +kernel
theorem dX0_evict_15 : decode cX0_evict 15 = .ok (.iload_n 1, 1) := by decide +kernel
theorem dX0_evict_16 : decode cX0_evict 16 = .ok (.invokevirtual 90, 3) := by decide +kernel
theorem dX0_evict_19 : decode cX0_evict 19 = .ok (.istore_n 3, 1) := by decide +kernel
theorem dX0_evict_20 : decode cX0_evict 20 = .ok (.iload_n 3, 1) := by decide +kernel
theorem dX0_evict_21 : decode cX0_evict 21 = .ok (.ifCond .eq 11, 3) := by decide +kernel
theorem dX0_evict_24 : decode cX0_evict 24 = .ok (.aload_n 0, 1) := by decide +kernel
theorem dX0_evict_25 : decode cX0_evict 25 = .ok (.getfield 7, 3) := by decide +kernel
theorem dX0_evict_28 : decode cX0_evict 28 = .ok (.iload_n 2, 1) := by decide +kernel
theorem dX0_evict_29 : decode cX0_evict 29 = .ok (.iconst 0, 1) := by decide +kernel
theorem dX0_evict_30 : decode cX0_evict 30 = .ok (.iastore, 1) := by decide +kernel
theorem dX0_evict_31 : decode cX0_evict 31 = .ok (.return_, 1) := by decide +kernel
theorem dX0_evict_32 : decode cX0_evict 32 = .ok (.aload_n 0, 1) := by decide +kernel
theorem dX0_evict_33 : decode cX0_evict 33 = .ok (.iload_n 1, 1) := by decide +kernel
theorem dX0_evict_34 : decode cX0_evict 34 = .ok (.invokevirtual 94, 3) := by decide +kernel
theorem dX0_evict_37 : decode cX0_evict 37 = .ok (.aload_n 0, 1) := by decide +kernel
theorem dX0_evict_38 : decode cX0_evict 38 = .ok (.getfield 52, 3) := by decide +kernel
theorem dX0_evict_41 : decode cX0_evict 41 = .ok (.bipush 16, 2) := by decide +kernel
theorem dX0_evict_43 : decode cX0_evict 43 = .ok (.if_icmp .lt 60, 3) := by decide +kernel
theorem dX0_evict_46 : decode cX0_evict 46 = .ok (.iconst 0, 1) := by decide +kernel
theorem dX0_evict_47 : decode cX0_evict 47 = .ok (.istore 4, 2) := by decide +kernel
theorem dX0_evict_49 : decode cX0_evict 49 = .ok (.iload 4, 2) := by decide +kernel
theorem dX0_evict_51 : decode cX0_evict 51 = .ok (.bipush 16, 2) := by decide +kernel
theorem dX0_evict_53 : decode cX0_evict 53 = .ok (.if_icmp .ge 28, 3) := by decide +kernel
theorem dX0_evict_56 : decode cX0_evict 56 = .ok (.aload_n 0, 1) := by decide +kernel
theorem dX0_evict_57 : decode cX0_evict 57 = .ok (.getfield 46, 3) := by decide +kernel
theorem dX0_evict_60 : decode cX0_evict 60 = .ok (.iload 4, 2) := by decide +kernel
theorem dX0_evict_62 : decode cX0_evict 62 = .ok (.aload_n 0, 1) := by decide +kernel
theorem dX0_evict_63 : decode cX0_evict 63 = .ok (.getfield 16, 3) := by decide +kernel
theorem dX0_evict_66 : decode cX0_evict 66 = .ok (.iload_n 1, 1) := by decide +kernel
theorem dX0_evict_67 : decode cX0_evict 67 = .ok (.bipush 16, 2) := by decide +kernel
theorem dX0_evict_69 : decode cX0_evict 69 = .ok (.imul, 1) := by decide +kernel
theorem dX0_evict_70 : decode cX0_evict 70 = .ok (.iload 4, 2) := by decide +kernel
theorem dX0_evict_72 : decode cX0_evict 72 = .ok (.iadd, 1) := by decide +kernel
theorem dX0_evict_73 : decode cX0_evict 73 = .ok (.iaload, 1) := by decide +kernel
theorem dX0_evict_74 : decode cX0_evict 74 = .ok (.iastore, 1) := by decide +kernel
theorem dX0_evict_75 : decode cX0_evict 75 = .ok (.iinc 4 1, 3) := by decide +kernel
theorem dX0_evict_78 : decode cX0_evict 78 = .ok (.goto (-29), 3) := by decide +kernel
theorem dX0_evict_81 : decode cX0_evict 81 = .ok (.aload_n 0, 1) := by decide +kernel
theorem dX0_evict_82 : decode cX0_evict 82 = .ok (.getfield 7, 3) := by decide +kernel
theorem dX0_evict_85 : decode cX0_evict 85 = .ok (.iload_n 2, 1) := by decide +kernel
theorem dX0_evict_86 : decode cX0_evict 86 = .ok (.iconst 0, 1) := by decide +kernel
theorem dX0_evict_87 : decode cX0_evict 87 = .ok (.iastore, 1) := by decide +kernel
theorem dX0_evict_88 : decode cX0_evict 88 = .ok (.aload_n 0, 1) := by decide +kernel
theorem dX0_evict_89 : decode cX0_evict 89 = .ok (.iload_n 2, 1) := by decide +kernel
theorem dX0_evict_90 : decode cX0_evict 90 = .ok (.invokevirtual 80, 3) := by decide +kernel
theorem dX0_evict_93 : decode cX0_evict 93 = .ok (.istore 4, 2) := by decide +kernel
theorem dX0_evict_95 : decode cX0_evict 95 = .ok (.aload_n 0, 1) := by decide +kernel
theorem dX0_evict_96 : decode cX0_evict 96 = .ok (.iload 4, 2) := by decide +kernel
theorem dX0_evict_98 : decode cX0_evict 98 = .ok (.iload_n 2, 1) := by decide +kernel
theorem dX0_evict_99 : decode cX0_evict 99 = .ok (.invokevirtual 83, 3) := by decide +kernel
theorem dX0_evict_102 : decode cX0_evict 102 = .ok (.return_, 1) := by decide +kernel
theorem dX0_evict_103 : decode cX0_evict 103 = .ok (.aload_n 0, 1) := by decide +kernel
theorem dX0_evict_104 : decode cX0_evict 104 = .ok (.getfield 7, 3) := by decide +kernel
theorem dX0_evict_107 : decode cX0_evict 107 = .ok (.iload_n 2, 1) := by decide +kernel
theorem dX0_evict_108 : decode cX0_evict 108 = .ok (.iconst 0, 1) := by decide +kernel
theorem dX0_evict_109 : decode cX0_evict 109 = .ok (.iastore, 1) := by decide +kernel
theorem dX0_evict_110 : decode cX0_evict 110 = .ok (.aload_n 0, 1) := by decide +kernel
theorem dX0_evict_111 : decode cX0_evict 111 = .ok (.aload_n 0, 1) := by decide +kernel
theorem dX0_evict_112 : decode cX0_evict 112 = .ok (.getfield 52, 3) := by decide +kernel
theorem dX0_evict_115 : decode cX0_evict 115 = .ok (.invokevirtual 97, 3) := by decide +kernel
theorem dX0_evict_118 : decode cX0_evict 118 = .ok (.istore 4, 2) := by decide +kernel
theorem dX0_evict_120 : decode cX0_evict 120 = .ok (.iload 4, 2) := by decide +kernel
theorem dX0_evict_122 : decode cX0_evict 122 = .ok (.ifCond .ge 15, 3) := by decide +kernel
theorem dX0_evict_125 : decode cX0_evict 125 = .ok (.aload_n 0, 1) := by decide +kernel
theorem dX0_evict_126 : decode cX0_evict 126 = .ok (.invokevirtual 100, 3) := by decide +kernel
theorem dX0_evict_129 : decode cX0_evict 129 = .ok (.istore 4, 2) := by decide +kernel
theorem dX0_evict_131 : decode cX0_evict 131 = .ok (.aload_n 0, 1) := by decide +kernel
theorem dX0_evict_132 : decode cX0_evict 132 = .ok (.iload 4, 2) := by decide +kernel
theorem dX0_evict_134 : decode cX0_evict 134 = .ok (.invokevirtual 104, 3) := by decide +kernel
theorem dX0_evict_137 : decode cX0_evict 137 = .ok (.aload_n 0, 1) := by decide +kernel
theorem dX0_evict_138 : decode cX0_evict 138 = .ok (.iload 4, 2) := by decide +kernel
theorem dX0_evict_140 : decode cX0_evict 140 = .ok (.iload_n 2, 1) := by decide +kernel
theorem dX0_evict_141 : decode cX0_evict 141 = .ok (.invokevirtual 107, 3) := by decide +kernel
theorem dX0_evict_144 : decode cX0_evict 144 = .ok (.return_, 1) := by decide +kernel
theorem dX0_blankFrame_0 : decode cX0_blankFrame 0 = .ok (.iconst 1, 1) := by decide +kernel
theorem dX0_blankFrame_1 : decode cX0_blankFrame 1 = .ok (.istore_n 2, 1) := by decide +kernel
theorem dX0_blankFrame_2 : decode cX0_blankFrame 2 = .ok (.iconst 0, 1) := by decide +kernel
theorem dX0_blankFrame_3 : decode cX0_blankFrame 3 = .ok (.istore_n 3, 1) := by decide +kernel
theorem dX0_blankFrame_4 : decode cX0_blankFrame 4 = .ok (.iload_n 3, 1) := by decide +kernel
theorem dX0_blankFrame_5 : decode cX0_blankFrame 5 = .ok (.bipush 16, 2) := by decide +kernel
theorem dX0_blankFrame_7 : decode cX0_blankFrame 7 = .ok (.if_icmp .ge 33, 3) := by decide +kernel
theorem dX0_blankFrame_10 : decode cX0_blankFrame 10 = .ok (.iload_n 2, 1) := by decide +kernel
theorem dX0_blankFrame_11 : decode cX0_blankFrame 11 = .ok (.ifCond .eq 21, 3) := by decide +kernel
theorem dX0_blankFrame_14 : decode cX0_blankFrame 14 = .ok (.aload_n 0, 1) := by decide +kernel
theorem dX0_blankFrame_15 : decode cX0_blankFrame 15 = .ok (.getfield 16, 3) := by decide +kernel
theorem dX0_blankFrame_18 : decode cX0_blankFrame 18 = .ok (.iload_n 1, 1) := by decide +kernel
theorem dX0_blankFrame_19 : decode cX0_blankFrame 19 = .ok (.bipush 16, 2) := by decide +kernel
theorem dX0_blankFrame_21 : decode cX0_blankFrame 21 = .ok (.imul, 1) := by decide +kernel
theorem dX0_blankFrame_22 : decode cX0_blankFrame 22 = .ok (.iload_n 3, 1) := by decide +kernel
theorem dX0_blankFrame_23 : decode cX0_blankFrame 23 = .ok (.iadd, 1) := by decide +kernel
theorem dX0_blankFrame_24 : decode cX0_blankFrame 24 = .ok (.iaload, 1) := by decide +kernel
theorem dX0_blankFrame_25 : decode cX0_blankFrame 25 = .ok (.ifCond .ne 7, 3) := by decide +kernel
theorem dX0_blankFrame_28 : decode cX0_blankFrame 28 = .ok (.iconst 1, 1) := by decide +kernel
theorem dX0_blankFrame_29 : decode cX0_blankFrame 29 = .ok (.goto 4, 3) := by decide +kernel
end
section
set_option maxRecDepth 100000
theorem dX0_blankFrame_32 : decode cX0_blankFrame 32 = .ok (.iconst 0, 1) := by decide +kernel
theorem dX0_blankFrame_33 : decode cX0_blankFrame 33 = .ok (.istore_n 2, 1) := by decide +kernel
theorem dX0_blankFrame_34 : decode cX0_blankFrame 34 = .ok (.iinc 3 1, 3) := by decide +kernel
theorem dX0_blankFrame_37 : decode cX0_blankFrame 37 = .ok (.goto (-33), 3) := by decide +kernel
theorem dX0_blankFrame_40 : decode cX0_blankFrame 40 = .ok (.iload_n 2, 1) := by decide +kernel
theorem dX0_blankFrame_41 : decode cX0_blankFrame 41 = .ok (.ireturn, 1) := by decide +kernel
theorem dX0_pack_0 : decode cX0_pack 0 = .ok (.iload_n 1, 1) := by decide +kernel
theorem dX0_pack_1 : decode cX0_pack 1 = .ok (.bipush 16, 2) := by decide +kernel
theorem dX0_pack_3 : decode cX0_pack 3 = .ok (.imul, 1) := by decide +kernel
theorem dX0_pack_4 : decode cX0_pack 4 = .ok (.istore_n 2, 1) := by decide +kernel
theorem dX0_pack_5 : decode cX0_pack 5 = .ok (.aload_n 0, 1) := by decide +kernel
theorem dX0_pack_6 : decode cX0_pack 6 = .ok (.iconst 0, 1) := by decide +kernel
theorem dX0_pack_7 : decode cX0_pack 7 = .ok (.putfield 52, 3) := by decide +kernel
theorem dX0_pack_10 : decode cX0_pack 10 = .ok (.iconst (-1), 1) := by decide +kernel
theorem dX0_pack_11 : decode cX0_pack 11 = .ok (.istore_n 3, 1) := by decide +kernel
theorem dX0_pack_12 : decode cX0_pack 12 = .ok (.iconst 0, 1) := by decide +kernel
theorem dX0_pack_13 : decode cX0_pack 13 = .ok (.istore 4, 2) := by decide +kernel
theorem dX0_pack_15 : decode cX0_pack 15 = .ok (.iconst 0, 1) := by decide +kernel
theorem dX0_pack_16 : decode cX0_pack 16 = .ok (.istore 5, 2) := by decide +kernel
theorem dX0_pack_18 : decode cX0_pack 18 = .ok (.iload 5, 2) := by decide +kernel
theorem dX0_pack_20 : decode cX0_pack 20 = .ok (.bipush 16, 2) := by decide +kernel
theorem dX0_pack_22 : decode cX0_pack 22 = .ok (.if_icmp .ge 145, 3) := by decide +kernel
theorem dX0_pack_25 : decode cX0_pack 25 = .ok (.iload 4, 2) := by decide +kernel
theorem dX0_pack_27 : decode cX0_pack 27 = .ok (.bipush 16, 2) := by decide +kernel
theorem dX0_pack_29 : decode cX0_pack 29 = .ok (.if_icmp .ge 138, 3) := by decide +kernel
theorem dX0_pack_32 : decode cX0_pack 32 = .ok (.iconst 0, 1) := by decide +kernel
theorem dX0_pack_33 : decode cX0_pack 33 = .ok (.istore 6, 2) := by decide +kernel
theorem dX0_pack_35 : decode cX0_pack 35 = .ok (.iconst 0, 1) := by decide +kernel
theorem dX0_pack_36 : decode cX0_pack 36 = .ok (.istore 7, 2) := by decide +kernel
theorem dX0_pack_38 : decode cX0_pack 38 = .ok (.iconst 1, 1) := by decide +kernel
theorem dX0_pack_39 : decode cX0_pack 39 = .ok (.istore 8, 2) := by decide +kernel
theorem dX0_pack_41 : decode cX0_pack 41 = .ok (.iload 8, 2) := by decide +kernel
theorem dX0_pack_43 : decode cX0_pack 43 = .ok (.iload 4, 2) := by decide +kernel
theorem dX0_pack_45 : decode cX0_pack 45 = .ok (.if_icmp .gt 35, 3) := by decide +kernel
theorem dX0_pack_48 : decode cX0_pack 48 = .ok (.aload_n 0, 1) := by decide +kernel
theorem dX0_pack_49 : decode cX0_pack 49 = .ok (.iload_n 2, 1) := by decide +kernel
theorem dX0_pack_50 : decode cX0_pack 50 = .ok (.iload 4, 2) := by decide +kernel
theorem dX0_pack_52 : decode cX0_pack 52 = .ok (.iload 8, 2) := by decide +kernel
theorem dX0_pack_54 : decode cX0_pack 54 = .ok (.invokevirtual 56, 3) := by decide +kernel
theorem dX0_pack_57 : decode cX0_pack 57 = .ok (.istore 9, 2) := by decide +kernel
theorem dX0_pack_59 : decode cX0_pack 59 = .ok (.iload 9, 2) := by decide +kernel
theorem dX0_pack_61 : decode cX0_pack 61 = .ok (.iload 6, 2) := by decide +kernel
theorem dX0_pack_63 : decode cX0_pack 63 = .ok (.if_icmp .le 11, 3) := by decide +kernel
theorem dX0_pack_66 : decode cX0_pack 66 = .ok (.iload 9, 2) := by decide +kernel
theorem dX0_pack_68 : decode cX0_pack 68 = .ok (.istore 6, 2) := by decide +kernel
theorem dX0_pack_70 : decode cX0_pack 70 = .ok (.iload 8, 2) := by decide +kernel
theorem dX0_pack_72 : decode cX0_pack 72 = .ok (.istore 7, 2) := by decide +kernel
theorem dX0_pack_74 : decode cX0_pack 74 = .ok (.iinc 8 1, 3) := by decide +kernel
theorem dX0_pack_77 : decode cX0_pack 77 = .ok (.goto (-36), 3) := by decide +kernel
theorem dX0_pack_80 : decode cX0_pack 80 = .ok (.iload 6, 2) := by decide +kernel
theorem dX0_pack_82 : decode cX0_pack 82 = .ok (.iconst 2, 1) := by decide +kernel
theorem dX0_pack_83 : decode cX0_pack 83 = .ok (.if_icmp .lt 34, 3) := by decide +kernel
theorem dX0_pack_86 : decode cX0_pack 86 = .ok (.aload_n 0, 1) := by decide +kernel
theorem dX0_pack_87 : decode cX0_pack 87 = .ok (.bipush 16, 2) := by decide +kernel
theorem dX0_pack_89 : decode cX0_pack 89 = .ok (.iload 6, 2) := by decide +kernel
theorem dX0_pack_91 : decode cX0_pack 91 = .ok (.iconst 2, 1) := by decide +kernel
theorem dX0_pack_92 : decode cX0_pack 92 = .ok (.isub, 1) := by decide +kernel
theorem dX0_pack_93 : decode cX0_pack 93 = .ok (.bipush 15, 2) := by decide +kernel
theorem dX0_pack_95 : decode cX0_pack 95 = .ok (.imul, 1) := by decide +kernel
theorem dX0_pack_96 : decode cX0_pack 96 = .ok (.iadd, 1) := by decide +kernel
theorem dX0_pack_97 : decode cX0_pack 97 = .ok (.iload 7, 2) := by decide +kernel
theorem dX0_pack_99 : decode cX0_pack 99 = .ok (.iadd, 1) := by decide +kernel
theorem dX0_pack_100 : decode cX0_pack 100 = .ok (.iconst 1, 1) := by decide +kernel
theorem dX0_pack_101 : decode cX0_pack 101 = .ok (.isub, 1) := by decide +kernel
theorem dX0_pack_102 : decode cX0_pack 102 = .ok (.invokevirtual 60, 3) := by decide +kernel
theorem dX0_pack_105 : decode cX0_pack 105 = .ok (.iconst (-1), 1) := by decide +kernel
theorem dX0_pack_106 : decode cX0_pack 106 = .ok (.istore_n 3, 1) := by decide +kernel
theorem dX0_pack_107 : decode cX0_pack 107 = .ok (.iload 4, 2) := by decide +kernel
theorem dX0_pack_109 : decode cX0_pack 109 = .ok (.iload 6, 2) := by decide +kernel
theorem dX0_pack_111 : decode cX0_pack 111 = .ok (.iadd, 1) := by decide +kernel
theorem dX0_pack_112 : decode cX0_pack 112 = .ok (.istore 4, 2) := by decide +kernel
theorem dX0_pack_114 : decode cX0_pack 114 = .ok (.goto 47, 3) := by decide +kernel
theorem dX0_pack_117 : decode cX0_pack 117 = .ok (.iload_n 3, 1) := by decide +kernel
theorem dX0_pack_118 : decode cX0_pack 118 = .ok (.ifCond .ge 13, 3) := by decide +kernel
theorem dX0_pack_121 : decode cX0_pack 121 = .ok (.aload_n 0, 1) := by decide +kernel
theorem dX0_pack_122 : decode cX0_pack 122 = .ok (.getfield 52, 3) := by decide +kernel
theorem dX0_pack_125 : decode cX0_pack 125 = .ok (.istore_n 3, 1) := by decide +kernel
theorem dX0_pack_126 : decode cX0_pack 126 = .ok (.aload_n 0, 1) := by decide +kernel
theorem dX0_pack_127 : decode cX0_pack 127 = .ok (.iconst (-1), 1) := by decide +kernel
theorem dX0_pack_128 : decode cX0_pack 128 = .ok (.invokevirtual 60, 3) := by decide +kernel
theorem dX0_pack_131 : decode cX0_pack 131 = .ok (.aload_n 0, 1) := by decide +kernel
theorem dX0_pack_132 : decode cX0_pack 132 = .ok (.getfield 43, 3) := by decide +kernel
theorem dX0_pack_135 : decode cX0_pack 135 = .ok (.iload_n 3, 1) := by decide +kernel
theorem dX0_pack_136 : decode cX0_pack 136 = .ok (.aload_n 0, 1) := by decide +kernel
theorem dX0_pack_137 : decode cX0_pack 137 = .ok (.getfield 43, 3) := by decide +kernel
theorem dX0_pack_140 : decode cX0_pack 140 = .ok (.iload_n 3, 1) := by decide +kernel
theorem dX0_pack_141 : decode cX0_pack 141 = .ok (.iaload, 1) := by decide +kernel
theorem dX0_pack_142 : decode cX0_pack 142 = .ok (.iconst 1, 1) := by decide +kernel
theorem dX0_pack_143 : decode cX0_pack 143 = .ok (.iadd, 1) := by decide +kernel
theorem dX0_pack_144 : decode cX0_pack 144 = .ok (.iastore, 1) := by decide +kernel
theorem dX0_pack_145 : decode cX0_pack 145 = .ok (.aload_n 0, 1) := by decide +kernel
theorem dX0_pack_146 : decode cX0_pack 146 = .ok (.aload_n 0, 1) := by decide +kernel
theorem dX0_pack_147 : decode cX0_pack 147 = .ok (.getfield 16, 3) := by decide +kernel
theorem dX0_pack_150 : decode cX0_pack 150 = .ok (.iload_n 2, 1) := by decide +kernel
theorem dX0_pack_151 : decode cX0_pack 151 = .ok (.iload 4, 2) := by decide +kernel
theorem dX0_pack_153 : decode cX0_pack 153 = .ok (.iadd, 1) := by decide +kernel
theorem dX0_pack_154 : decode cX0_pack 154 = .ok (.iaload, 1) := by decide +kernel
theorem dX0_pack_155 : decode cX0_pack 155 = .ok (.invokevirtual 60, 3) := by decide +kernel
theorem dX0_pack_158 : decode cX0_pack 158 = .ok (.iinc 4 1, 3) := by decide +kernel
theorem dX0_pack_161 : decode cX0_pack 161 = .ok (.iinc 5 1, 3) := by decide +kernel
theorem dX0_pack_164 : decode cX0_pack 164 = .ok (.goto (-146), 3) := by decide +kernel
theorem dX0_pack_167 : decode cX0_pack 167 = .ok (.return_, 1) := by decide +kernel
theorem dX0_repeatAt_0 : decode cX0_repeatAt 0 = .ok (.iconst 0, 1) := by decide +kernel
theorem dX0_repeatAt_1 : decode cX0_repeatAt 1 = .ok (.istore 4, 2) := by decide +kernel
theorem dX0_repeatAt_3 : decode cX0_repeatAt 3 = .ok (.iload_n 2, 1) := by decide +kernel
theorem dX0_repeatAt_4 : decode cX0_repeatAt 4 = .ok (.istore 5, 2) := by decide +kernel
theorem dX0_repeatAt_6 : decode cX0_repeatAt 6 = .ok (.iload 5, 2) := by decide +kernel
theorem dX0_repeatAt_8 : decode cX0_repeatAt 8 = .ok (.bipush 16, 2) := by decide +kernel
theorem dX0_repeatAt_10 : decode cX0_repeatAt 10 = .ok (.if_icmp .ge 35, 3) := by decide +kernel
theorem dX0_repeatAt_13 : decode cX0_repeatAt 13 = .ok (.aload_n 0, 1) := by decide +kernel
theorem dX0_repeatAt_14 : decode cX0_repeatAt 14 = .ok (.getfield 16, 3) := by decide +kernel
theorem dX0_repeatAt_17 : decode cX0_repeatAt 17 = .ok (.iload_n 1, 1) := by decide +kernel
theorem dX0_repeatAt_18 : decode cX0_repeatAt 18 = .ok (.iload 5, 2) := by decide +kernel
theorem dX0_repeatAt_20 : decode cX0_repeatAt 20 = .ok (.iadd, 1) := by decide +kernel
theorem dX0_repeatAt_21 : decode cX0_repeatAt 21 = .ok (.iaload, 1) := by decide +kernel
theorem dX0_repeatAt_22 : decode cX0_repeatAt 22 = .ok (.aload_n 0, 1) := by decide +kernel
theorem dX0_repeatAt_23 : decode cX0_repeatAt 23 = .ok (.getfield 16, 3) := by decide +kernel
theorem dX0_repeatAt_26 : decode cX0_repeatAt 26 = .ok (.iload_n 1, 1) := by decide +kernel
theorem dX0_repeatAt_27 : decode cX0_repeatAt 27 = .ok (.iload 5, 2) := by decide +kernel
theorem dX0_repeatAt_29 : decode cX0_repeatAt 29 = .ok (.iadd, 1) := by decide +kernel
theorem dX0_repeatAt_30 : decode cX0_repeatAt 30 = .ok (.iload_n 3, 1) := by decide +kernel
theorem dX0_repeatAt_31 : decode cX0_repeatAt 31 = .ok (.isub, 1) := by decide +kernel
theorem dX0_repeatAt_32 : decode cX0_repeatAt 32 = .ok (.iaload, 1) := by decide +kernel
theorem dX0_repeatAt_33 : decode cX0_repeatAt 33 = .ok (.if_icmp .ne 12, 3) := by decide +kernel
theorem dX0_repeatAt_36 : decode cX0_repeatAt 36 = .ok (.iinc 4 1, 3) := by decide +kernel
theorem dX0_repeatAt_39 : decode cX0_repeatAt 39 = .ok (.iinc 5 1, 3) := by decide +kernel
theorem dX0_repeatAt_42 : decode cX0_repeatAt 42 = .ok (.goto (-36), 3) := by decide +kernel
theorem dX0_repeatAt_45 : decode cX0_repeatAt 45 = .ok (.iload 4, 2) := by decide +kernel
theorem dX0_repeatAt_47 : decode cX0_repeatAt 47 = .ok (.ireturn, 1) := by decide +kernel
theorem dX0_append_0 : decode cX0_append 0 = .ok (.aload_n 0, 1) := by decide +kernel
theorem dX0_append_1 : decode cX0_append 1 = .ok (.getfield 43, 3) := by decide +kernel
theorem dX0_append_4 : decode cX0_append 4 = .ok (.aload_n 0, 1) := by decide +kernel
theorem dX0_append_5 : decode cX0_append 5 = .ok (.getfield 52, 3) := by decide +kernel
theorem dX0_append_8 : decode cX0_append 8 = .ok (.iload_n 1, 1) := by decide +kernel
theorem dX0_append_9 : decode cX0_append 9 = .ok (.iastore, 1) := by decide +kernel
theorem dX0_append_10 : decode cX0_append 10 = .ok (.aload_n 0, 1) := by decide +kernel
theorem dX0_append_11 : decode cX0_append 11 = .ok (.dup, 1) := by decide +kernel
theorem dX0_append_12 : decode cX0_append 12 = .ok (.getfield 52, 3) := by decide +kernel
theorem dX0_append_15 : decode cX0_append 15 = .ok (.iconst 1, 1) := by decide +kernel
theorem dX0_append_16 : decode cX0_append 16 = .ok (.iadd, 1) := by decide +kernel
theorem dX0_append_17 : decode cX0_append 17 = .ok (.putfield 52, 3) := by decide +kernel
theorem dX0_append_20 : decode cX0_append 20 = .ok (.return_, 1) := by decide +kernel
theorem dX0_freeSlot_0 : decode cX0_freeSlot 0 = .ok (.iconst (-1), 1) := by decide +kernel
theorem dX0_freeSlot_1 : decode cX0_freeSlot 1 = .ok (.istore_n 2, 1) := by decide +kernel
theorem dX0_freeSlot_2 : decode cX0_freeSlot 2 = .ok (.bipush 11, 2) := by decide +kernel
theorem dX0_freeSlot_4 : decode cX0_freeSlot 4 = .ok (.istore_n 3, 1) := by decide +kernel
theorem dX0_freeSlot_5 : decode cX0_freeSlot 5 = .ok (.iload_n 3, 1) := by decide +kernel
theorem dX0_freeSlot_6 : decode cX0_freeSlot 6 = .ok (.ifCond .lt 20, 3) := by decide +kernel
theorem dX0_freeSlot_9 : decode cX0_freeSlot 9 = .ok (.aload_n 0, 1) := by decide +kernel
theorem dX0_freeSlot_10 : decode cX0_freeSlot 10 = .ok (.getfield 40, 3) := by decide +kernel
theorem dX0_freeSlot_13 : decode cX0_freeSlot 13 = .ok (.iload_n 3, 1) := by decide +kernel
theorem dX0_freeSlot_14 : decode cX0_freeSlot 14 = .ok (.iaload, 1) := by decide +kernel
theorem dX0_freeSlot_15 : decode cX0_freeSlot 15 = .ok (.ifCond .ge 5, 3) := by decide +kernel
theorem dX0_freeSlot_18 : decode cX0_freeSlot 18 = .ok (.iload_n 3, 1) := by decide +kernel
theorem dX0_freeSlot_19 : decode cX0_freeSlot 19 = .ok (.istore_n 2, 1) := by decide +kernel
theorem dX0_freeSlot_20 : decode cX0_freeSlot 20 = .ok (.iinc 3 (-1), 3) := by decide +kernel
theorem dX0_freeSlot_23 : decode cX0_freeSlot 23 = .ok (.goto (-18), 3) := by decide +kernel
theorem dX0_freeSlot_26 : decode cX0_freeSlot 26 = .ok (.iload_n 1, 1) := by decide +kernel
theorem dX0_freeSlot_27 : decode cX0_freeSlot 27 = .ok (.iconst 1, 1) := by decide +kernel
theorem dX0_freeSlot_28 : decode cX0_freeSlot 28 = .ok (.isub, 1) := by decide +kernel
theorem dX0_freeSlot_29 : decode cX0_freeSlot 29 = .ok (.istore_n 3, 1) := by decide +kernel
theorem dX0_freeSlot_30 : decode cX0_freeSlot 30 = .ok (.iload_n 3, 1) := by decide +kernel
theorem dX0_freeSlot_31 : decode cX0_freeSlot 31 = .ok (.iload_n 1, 1) := by decide +kernel
theorem dX0_freeSlot_32 : decode cX0_freeSlot 32 = .ok (.iconst 1, 1) := by decide +kernel
theorem dX0_freeSlot_33 : decode cX0_freeSlot 33 = .ok (.iadd, 1) := by decide +kernel
theorem dX0_freeSlot_34 : decode cX0_freeSlot 34 = .ok (.if_icmp .gt 66, 3) := by decide +kernel
theorem dX0_freeSlot_37 : decode cX0_freeSlot 37 = .ok (.iload_n 3, 1) := by decide +kernel
theorem dX0_freeSlot_38 : decode cX0_freeSlot 38 = .ok (.ifCond .lt 56, 3) := by decide +kernel
theorem dX0_freeSlot_41 : decode cX0_freeSlot 41 = .ok (.iload_n 3, 1) := by decide +kernel
theorem dX0_freeSlot_42 : decode cX0_freeSlot 42 = .ok (.bipush 12, 2) := by decide +kernel
theorem dX0_freeSlot_44 : decode cX0_freeSlot 44 = .ok (.if_icmp .ge 50, 3) := by decide +kernel
theorem dX0_freeSlot_47 : decode cX0_freeSlot 47 = .ok (.aload_n 0, 1) := by decide +kernel
theorem dX0_freeSlot_48 : decode cX0_freeSlot 48 = .ok (.getfield 7, 3) := by decide +kernel
theorem dX0_freeSlot_51 : decode cX0_freeSlot 51 = .ok (.iload_n 3, 1) := by decide +kernel
theorem dX0_freeSlot_52 : decode cX0_freeSlot 52 = .ok (.iaload, 1) := by decide +kernel
theorem dX0_freeSlot_53 : decode cX0_freeSlot 53 = .ok (.iconst 3, 1) := by decide +kernel
theorem dX0_freeSlot_54 : decode cX0_freeSlot 54 = .ok (.if_icmp .ne 40, 3) := by decide +kernel
theorem dX0_freeSlot_57 : decode cX0_freeSlot 57 = .ok (.aload_n 0, 1) := by decide +kernel
theorem dX0_freeSlot_58 : decode cX0_freeSlot 58 = .ok (.getfield 13, 3) := by decide +kernel
theorem dX0_freeSlot_61 : decode cX0_freeSlot 61 = .ok (.iload_n 3, 1) := by decide +kernel
theorem dX0_freeSlot_62 : decode cX0_freeSlot 62 = .ok (.iaload, 1) := by decide +kernel
theorem dX0_freeSlot_63 : decode cX0_freeSlot 63 = .ok (.iload_n 1, 1) := by decide +kernel
theorem dX0_freeSlot_64 : decode cX0_freeSlot 64 = .ok (.iadd, 1) := by decide +kernel
theorem dX0_freeSlot_65 : decode cX0_freeSlot 65 = .ok (.iload_n 3, 1) := by decide +kernel
theorem dX0_freeSlot_66 : decode cX0_freeSlot 66 = .ok (.isub, 1) := by decide +kernel
theorem dX0_freeSlot_67 : decode cX0_freeSlot 67 = .ok (.istore 4, 2) := by decide +kernel
theorem dX0_freeSlot_69 : decode cX0_freeSlot 69 = .ok (.iload 4, 2) := by decide +kernel
theorem dX0_freeSlot_71 : decode cX0_freeSlot 71 = .ok (.ifCond .lt 23, 3) := by decide +kernel
theorem dX0_freeSlot_74 : decode cX0_freeSlot 74 = .ok (.iload 4, 2) := by decide +kernel
theorem dX0_freeSlot_76 : decode cX0_freeSlot 76 = .ok (.bipush 12, 2) := by decide +kernel
theorem dX0_freeSlot_78 : decode cX0_freeSlot 78 = .ok (.if_icmp .ge 16, 3) := by decide +kernel
theorem dX0_freeSlot_81 : decode cX0_freeSlot 81 = .ok (.aload_n 0, 1) := by decide +kernel
theorem dX0_freeSlot_82 : decode cX0_freeSlot 82 = .ok (.getfield 40, 3) := by decide +kernel
theorem dX0_freeSlot_85 : decode cX0_freeSlot 85 = .ok (.iload 4, 2) := by decide +kernel
theorem dX0_freeSlot_87 : decode cX0_freeSlot 87 = .ok (.iaload, 1) := by decide +kernel
theorem dX0_freeSlot_88 : decode cX0_freeSlot 88 = .ok (.ifCond .ge 6, 3) := by decide +kernel
theorem dX0_freeSlot_91 : decode cX0_freeSlot 91 = .ok (.iload 4, 2) := by decide +kernel
theorem dX0_freeSlot_93 : decode cX0_freeSlot 93 = .ok (.istore_n 2, 1) := by decide +kernel
theorem dX0_freeSlot_94 : decode cX0_freeSlot 94 = .ok (.iinc 3 1, 3) := by decide +kernel
theorem dX0_freeSlot_97 : decode cX0_freeSlot 97 = .ok (.goto (-67), 3) := by decide +kernel
theorem dX0_freeSlot_100 : decode cX0_freeSlot 100 = .ok (.iload_n 2, 1) := by decide +kernel
theorem dX0_freeSlot_101 : decode cX0_freeSlot 101 = .ok (.ireturn, 1) := by decide +kernel
theorem dX0_storeSlot_0 : decode cX0_storeSlot 0 = .ok (.iload_n 1, 1) := by decide +kernel
theorem dX0_storeSlot_1 : decode cX0_storeSlot 1 = .ok (.ifCond .ge 4, 3) := by decide +kernel
theorem dX0_storeSlot_4 : decode cX0_storeSlot 4 = .ok (.return_, 1) := by decide +kernel
theorem dX0_storeSlot_5 : decode cX0_storeSlot 5 = .ok (.iconst 0, 1) := by decide +kernel
theorem dX0_storeSlot_6 : decode cX0_storeSlot 6 = .ok (.istore_n 3, 1) := by decide +kernel
theorem dX0_storeSlot_7 : decode cX0_storeSlot 7 = .ok (.iload_n 3, 1) := by decide +kernel
theorem dX0_storeSlot_8 : decode cX0_storeSlot 8 = .ok (.bipush 16, 2) := by decide +kernel
theorem dX0_storeSlot_10 : decode cX0_storeSlot 10 = .ok (.if_icmp .ge 26, 3) := by decide +kernel
theorem dX0_storeSlot_13 : decode cX0_storeSlot 13 = .ok (.aload_n 0, 1) := by decide +kernel
theorem dX0_storeSlot_14 : decode cX0_storeSlot 14 = .ok (.getfield 37, 3) := by decide +kernel
theorem dX0_storeSlot_17 : decode cX0_storeSlot 17 = .ok (.iload_n 1, 1) := by decide +kernel
theorem dX0_storeSlot_18 : decode cX0_storeSlot 18 = .ok (.bipush 16, 2) := by decide +kernel
theorem dX0_storeSlot_20 : decode cX0_storeSlot 20 = .ok (.imul, 1) := by decide +kernel
theorem dX0_storeSlot_21 : decode cX0_storeSlot 21 = .ok (.iload_n 3, 1) := by decide +kernel
theorem dX0_storeSlot_22 : decode cX0_storeSlot 22 = .ok (.iadd, 1) := by decide +kernel
theorem dX0_storeSlot_23 : decode cX0_storeSlot 23 = .ok (.aload_n 0, 1) := by decide +kernel
theorem dX0_storeSlot_24 : decode cX0_storeSlot 24 = .ok (.getfield 46, 3) := by decide +kernel
theorem dX0_storeSlot_27 : decode cX0_storeSlot 27 = .ok (.iload_n 3, 1) := by decide +kernel
theorem dX0_storeSlot_28 : decode cX0_storeSlot 28 = .ok (.iaload, 1) := by decide +kernel
theorem dX0_storeSlot_29 : decode cX0_storeSlot 29 = .ok (.iastore, 1) := by decide +kernel
theorem dX0_storeSlot_30 : decode cX0_storeSlot 30 = .ok (.iinc 3 1, 3) := by decide +kernel
theorem dX0_storeSlot_33 : decode cX0_storeSlot 33 = .ok (.goto (-26), 3) := by decide +kernel
theorem dX0_storeSlot_36 : decode cX0_storeSlot 36 = .ok (.aload_n 0, 1) := by decide +kernel
theorem dX0_storeSlot_37 : decode cX0_storeSlot 37 = .ok (.getfield 40, 3) := by decide +kernel
theorem dX0_storeSlot_40 : decode cX0_storeSlot 40 = .ok (.iload_n 1, 1) := by decide +kernel
theorem dX0_storeSlot_41 : decode cX0_storeSlot 41 = .ok (.iload_n 2, 1) := by decide +kernel
theorem dX0_storeSlot_42 : decode cX0_storeSlot 42 = .ok (.iastore, 1) := by decide +kernel
theorem dX0_storeSlot_43 : decode cX0_storeSlot 43 = .ok (.aload_n 0, 1) := by decide +kernel
theorem dX0_storeSlot_44 : decode cX0_storeSlot 44 = .ok (.getfield 7, 3) := by decide +kernel
theorem dX0_storeSlot_47 : decode cX0_storeSlot 47 = .ok (.iload_n 2, 1) := by decide +kernel
theorem dX0_storeSlot_48 : decode cX0_storeSlot 48 = .ok (.iconst 3, 1) := by decide +kernel
theorem dX0_storeSlot_49 : decode cX0_storeSlot 49 = .ok (.iastore, 1) := by decide +kernel
theorem dX0_storeSlot_50 : decode cX0_storeSlot 50 = .ok (.aload_n 0, 1) := by decide +kernel
theorem dX0_storeSlot_51 : decode cX0_storeSlot 51 = .ok (.getfield 13, 3) := by decide +kernel
theorem dX0_storeSlot_54 : decode cX0_storeSlot 54 = .ok (.iload_n 2, 1) := by decide +kernel
theorem dX0_storeSlot_55 : decode cX0_storeSlot 55 = .ok (.iload_n 1, 1) := by decide +kernel
theorem dX0_storeSlot_56 : decode cX0_storeSlot 56 = .ok (.iastore, 1) := by decide +kernel
theorem dX0_storeSlot_57 : decode cX0_storeSlot 57 = .ok (.return_, 1) := by decide +kernel
theorem dX0_poolFrame_0 : decode cX0_poolFrame 0 = .ok (.iconst (-1), 1) := by decide +kernel
theorem dX0_poolFrame_1 : decode cX0_poolFrame 1 = .ok (.istore_n 2, 1) := by decide +kernel
theorem dX0_poolFrame_2 : decode cX0_poolFrame 2 = .ok (.bipush 100, 2) := by decide +kernel
theorem dX0_poolFrame_4 : decode cX0_poolFrame 4 = .ok (.istore_n 3, 1) := by decide +kernel
theorem dX0_poolFrame_5 : decode cX0_poolFrame 5 = .ok (.iconst 0, 1) := by decide +kernel
theorem dX0_poolFrame_6 : decode cX0_poolFrame 6 = .ok (.istore 4, 2) := by decide +kernel
theorem dX0_poolFrame_8 : decode cX0_poolFrame 8 = .ok (.iload 4, 2) := by decide +kernel
theorem dX0_poolFrame_10 : decode cX0_poolFrame 10 = .ok (.iconst 4, 1) := by decide +kernel
theorem dX0_poolFrame_11 : decode cX0_poolFrame 11 = .ok (.if_icmp .ge 49, 3) := by decide +kernel
theorem dX0_poolFrame_14 : decode cX0_poolFrame 14 = .ok (.aload_n 0, 1) := by decide +kernel
theorem dX0_poolFrame_15 : decode cX0_poolFrame 15 = .ok (.iload 4, 2) := by decide +kernel
theorem dX0_poolFrame_17 : decode cX0_poolFrame 17 = .ok (.invokevirtual 72, 3) := by decide +kernel
theorem dX0_poolFrame_20 : decode cX0_poolFrame 20 = .ok (.istore 5, 2) := by decide +kernel
theorem dX0_poolFrame_22 : decode cX0_poolFrame 22 = .ok (.aload_n 0, 1) := by decide +kernel
theorem dX0_poolFrame_23 : decode cX0_poolFrame 23 = .ok (.iload 4, 2) := by decide +kernel
theorem dX0_poolFrame_25 : decode cX0_poolFrame 25 = .ok (.invokevirtual 74, 3) := by decide +kernel
theorem dX0_poolFrame_28 : decode cX0_poolFrame 28 = .ok (.istore 6, 2) := by decide +kernel
theorem dX0_poolFrame_30 : decode cX0_poolFrame 30 = .ok (.iload 5, 2) := by decide +kernel
theorem dX0_poolFrame_32 : decode cX0_poolFrame 32 = .ok (.iconst 1, 1) := by decide +kernel
theorem dX0_poolFrame_33 : decode cX0_poolFrame 33 = .ok (.if_icmp .ne 21, 3) := by decide +kernel
theorem dX0_poolFrame_36 : decode cX0_poolFrame 36 = .ok (.iload 6, 2) := by decide +kernel
theorem dX0_poolFrame_38 : decode cX0_poolFrame 38 = .ok (.iload_n 1, 1) := by decide +kernel
theorem dX0_poolFrame_39 : decode cX0_poolFrame 39 = .ok (.if_icmp .lt 15, 3) := by decide +kernel
theorem dX0_poolFrame_42 : decode cX0_poolFrame 42 = .ok (.iload 6, 2) := by decide +kernel
theorem dX0_poolFrame_44 : decode cX0_poolFrame 44 = .ok (.iload_n 3, 1) := by decide +kernel
theorem dX0_poolFrame_45 : decode cX0_poolFrame 45 = .ok (.if_icmp .ge 9, 3) := by decide +kernel
theorem dX0_poolFrame_48 : decode cX0_poolFrame 48 = .ok (.iload 4, 2) := by decide +kernel
theorem dX0_poolFrame_50 : decode cX0_poolFrame 50 = .ok (.istore_n 2, 1) := by decide +kernel
theorem dX0_poolFrame_51 : decode cX0_poolFrame 51 = .ok (.iload 6, 2) := by decide +kernel
theorem dX0_poolFrame_53 : decode cX0_poolFrame 53 = .ok (.istore_n 3, 1) := by decide +kernel
theorem dX0_poolFrame_54 : decode cX0_poolFrame 54 = .ok (.iinc 4 1, 3) := by decide +kernel
theorem dX0_poolFrame_57 : decode cX0_poolFrame 57 = .ok (.goto (-49), 3) := by decide +kernel
theorem dX0_poolFrame_60 : decode cX0_poolFrame 60 = .ok (.iconst 3, 1) := by decide +kernel
theorem dX0_poolFrame_61 : decode cX0_poolFrame 61 = .ok (.istore 4, 2) := by decide +kernel
theorem dX0_poolFrame_63 : decode cX0_poolFrame 63 = .ok (.iload 4, 2) := by decide +kernel
theorem dX0_poolFrame_65 : decode cX0_poolFrame 65 = .ok (.ifCond .lt 31, 3) := by decide +kernel
theorem dX0_poolFrame_68 : decode cX0_poolFrame 68 = .ok (.aload_n 0, 1) := by decide +kernel
theorem dX0_poolFrame_69 : decode cX0_poolFrame 69 = .ok (.iload 4, 2) := by decide +kernel
theorem dX0_poolFrame_71 : decode cX0_poolFrame 71 = .ok (.invokevirtual 72, 3) := by decide +kernel
theorem dX0_poolFrame_74 : decode cX0_poolFrame 74 = .ok (.istore 5, 2) := by decide +kernel
theorem dX0_poolFrame_76 : decode cX0_poolFrame 76 = .ok (.iload 5, 2) := by decide +kernel
theorem dX0_poolFrame_78 : decode cX0_poolFrame 78 = .ok (.ifCond .ne 12, 3) := by decide +kernel
theorem dX0_poolFrame_81 : decode cX0_poolFrame 81 = .ok (.iload_n 3, 1) := by decide +kernel
theorem dX0_poolFrame_82 : decode cX0_poolFrame 82 = .ok (.bipush 100, 2) := by decide +kernel
theorem dX0_poolFrame_84 : decode cX0_poolFrame 84 = .ok (.if_icmp .ne 6, 3) := by decide +kernel
theorem dX0_poolFrame_87 : decode cX0_poolFrame 87 = .ok (.iload 4, 2) := by decide +kernel
theorem dX0_poolFrame_89 : decode cX0_poolFrame 89 = .ok (.istore_n 2, 1) := by decide +kernel
theorem dX0_poolFrame_90 : decode cX0_poolFrame 90 = .ok (.iinc 4 (-1), 3) := by decide +kernel
theorem dX0_poolFrame_93 : decode cX0_poolFrame 93 = .ok (.goto (-30), 3) := by decide +kernel
theorem dX0_poolFrame_96 : decode cX0_poolFrame 96 = .ok (.iload_n 2, 1) := by decide +kernel
theorem dX0_poolFrame_97 : decode cX0_poolFrame 97 = .ok (.ireturn, 1) := by decide +kernel
theorem dX0_held_0 : decode cX0_held 0 = .ok (.aload_n 0, 1) := by decide +kernel
theorem dX0_held_1 : decode cX0_held 1 = .ok (.getfield 28, 3) := by decide +kernel
theorem dX0_held_4 : decode cX0_held 4 = .ok (.iload_n 1, 1) := by decide +kernel
theorem dX0_held_5 : decode cX0_held 5 = .ok (.iconst 2, 1) := by decide +kernel
theorem dX0_held_6 : decode cX0_held 6 = .ok (.imul, 1) := by decide +kernel
theorem dX0_held_7 : decode cX0_held 7 = .ok (.iaload, 1) := by decide +kernel
theorem dX0_held_8 : decode cX0_held 8 = .ok (.ifCond .lt 7, 3) := by decide +kernel
theorem dX0_held_11 : decode cX0_held 11 = .ok (.iconst 1, 1) := by decide +kernel
theorem dX0_held_12 : decode cX0_held 12 = .ok (.goto 4, 3) := by decide +kernel
theorem dX0_held_15 : decode cX0_held 15 = .ok (.iconst 0, 1) := by decide +kernel
theorem dX0_held_16 : decode cX0_held 16 = .ok (.istore_n 2, 1) := by decide +kernel
theorem dX0_held_17 : decode cX0_held 17 = .ok (.aload_n 0, 1) := by decide +kernel
theorem dX0_held_18 : decode cX0_held 18 = .ok (.getfield 28, 3) := by decide +kernel
theorem dX0_held_21 : decode cX0_held 21 = .ok (.iload_n 1, 1) := by decide +kernel
theorem dX0_held_22 : decode cX0_held 22 = .ok (.iconst 2, 1) := by decide +kernel
theorem dX0_held_23 : decode cX0_held 23 = .ok (.imul, 1) := by decide +kernel
theorem dX0_held_24 : decode cX0_held 24 = .ok (.iconst 1, 1) := by decide +kernel
theorem dX0_held_25 : decode cX0_held 25 = .ok (.iadd, 1) := by decide +kernel
theorem dX0_held_26 : decode cX0_held 26 = .ok (.iaload, 1) := by decide +kernel
theorem dX0_held_27 : decode cX0_held 27 = .ok (.ifCond .lt 9, 3) := by decide +kernel
theorem dX0_held_30 : decode cX0_held 30 = .ok (.iload_n 2, 1) := by decide +kernel
theorem dX0_held_31 : decode cX0_held 31 = .ok (.iconst 1, 1) := by decide +kernel
theorem dX0_held_32 : decode cX0_held 32 = .ok (.iadd, 1) := by decide +kernel
theorem dX0_held_33 : decode cX0_held 33 = .ok (.goto 4, 3) := by decide +kernel
theorem dX0_held_36 : decode cX0_held 36 = .ok (.iload_n 2, 1) := by decide +kernel
theorem dX0_held_37 : decode cX0_held 37 = .ok (.ireturn, 1) := by decide +kernel
theorem dX0_roomIn_0 : decode cX0_roomIn 0 = .ok (.bipush 16, 2) := by decide +kernel
theorem dX0_roomIn_2 : decode cX0_roomIn 2 = .ok (.istore_n 2, 1) := by decide +kernel
theorem dX0_roomIn_3 : decode cX0_roomIn 3 = .ok (.aload_n 0, 1) := by decide +kernel
theorem dX0_roomIn_4 : decode cX0_roomIn 4 = .ok (.getfield 28, 3) := by decide +kernel
theorem dX0_roomIn_7 : decode cX0_roomIn 7 = .ok (.iload_n 1, 1) := by decide +kernel
theorem dX0_roomIn_8 : decode cX0_roomIn 8 = .ok (.iconst 2, 1) := by decide +kernel
theorem dX0_roomIn_9 : decode cX0_roomIn 9 = .ok (.imul, 1) := by decide +kernel
theorem dX0_roomIn_10 : decode cX0_roomIn 10 = .ok (.iaload, 1) := by decide +kernel
theorem dX0_roomIn_11 : decode cX0_roomIn 11 = .ok (.ifCond .lt 14, 3) := by decide +kernel
theorem dX0_roomIn_14 : decode cX0_roomIn 14 = .ok (.iload_n 2, 1) := by decide +kernel
theorem dX0_roomIn_15 : decode cX0_roomIn 15 = .ok (.aload_n 0, 1) := by decide +kernel
theorem dX0_roomIn_16 : decode cX0_roomIn 16 = .ok (.getfield 31, 3) := by decide +kernel
theorem dX0_roomIn_19 : decode cX0_roomIn 19 = .ok (.iload_n 1, 1) := by decide +kernel
theorem dX0_roomIn_20 : decode cX0_roomIn 20 = .ok (.iconst 2, 1) := by decide +kernel
theorem dX0_roomIn_21 : decode cX0_roomIn 21 = .ok (.imul, 1) := by decide +kernel
theorem dX0_roomIn_22 : decode cX0_roomIn 22 = .ok (.iaload, 1) := by decide +kernel
theorem dX0_roomIn_23 : decode cX0_roomIn 23 = .ok (.isub, 1) := by decide +kernel
theorem dX0_roomIn_24 : decode cX0_roomIn 24 = .ok (.istore_n 2, 1) := by decide +kernel
theorem dX0_roomIn_25 : decode cX0_roomIn 25 = .ok (.aload_n 0, 1) := by decide +kernel
theorem dX0_roomIn_26 : decode cX0_roomIn 26 = .ok (.getfield 28, 3) := by decide +kernel
theorem dX0_roomIn_29 : decode cX0_roomIn 29 = .ok (.iload_n 1, 1) := by decide +kernel
theorem dX0_roomIn_30 : decode cX0_roomIn 30 = .ok (.iconst 2, 1) := by decide +kernel
theorem dX0_roomIn_31 : decode cX0_roomIn 31 = .ok (.imul, 1) := by decide +kernel
theorem dX0_roomIn_32 : decode cX0_roomIn 32 = .ok (.iconst 1, 1) := by decide +kernel
theorem dX0_roomIn_33 : decode cX0_roomIn 33 = .ok (.iadd, 1) := by decide +kernel
theorem dX0_roomIn_34 : decode cX0_roomIn 34 = .ok (.iaload, 1) := by decide +kernel
theorem dX0_roomIn_35 : decode cX0_roomIn 35 = .ok (.ifCond .lt 16, 3) := by decide +kernel
theorem dX0_roomIn_38 : decode cX0_roomIn 38 = .ok (.iload_n 2, 1) := by decide +kernel
theorem dX0_roomIn_39 : decode cX0_roomIn 39 = .ok (.aload_n 0, 1) := by decide +kernel
theorem dX0_roomIn_40 : decode cX0_roomIn 40 = .ok (.getfield 31, 3) := by decide +kernel
theorem dX0_roomIn_43 : decode cX0_roomIn 43 = .ok (.iload_n 1, 1) := by decide +kernel
theorem dX0_roomIn_44 : decode cX0_roomIn 44 = .ok (.iconst 2, 1) := by decide +kernel
theorem dX0_roomIn_45 : decode cX0_roomIn 45 = .ok (.imul, 1) := by decide +kernel
theorem dX0_roomIn_46 : decode cX0_roomIn 46 = .ok (.iconst 1, 1) := by decide +kernel
theorem dX0_roomIn_47 : decode cX0_roomIn 47 = .ok (.iadd, 1) := by decide +kernel
theorem dX0_roomIn_48 : decode cX0_roomIn 48 = .ok (.iaload, 1) := by decide +kernel
theorem dX0_roomIn_49 : decode cX0_roomIn 49 = .ok (.isub, 1) := by decide +kernel
theorem dX0_roomIn_50 : decode cX0_roomIn 50 = .ok (.istore_n 2, 1) := by decide +kernel
theorem dX0_roomIn_51 : decode cX0_roomIn 51 = .ok (.iload_n 2, 1) := by decide +kernel
theorem dX0_roomIn_52 : decode cX0_roomIn 52 = .ok (.ireturn, 1) := by decide +kernel
theorem dX0_oldestPoolFrame_0 : decode cX0_oldestPoolFrame 0 = .ok (.iconst (-1), 1) := by decide +kernel
theorem dX0_oldestPoolFrame_1 : decode cX0_oldestPoolFrame 1 = .ok (.istore_n 1, 1) := by decide +kernel
theorem dX0_oldestPoolFrame_2 : decode cX0_oldestPoolFrame 2 = .ok (.iconst 0, 1) := by decide +kernel
theorem dX0_oldestPoolFrame_3 : decode cX0_oldestPoolFrame 3 = .ok (.istore_n 2, 1) := by decide +kernel
theorem dX0_oldestPoolFrame_4 : decode cX0_oldestPoolFrame 4 = .ok (.iload_n 2, 1) := by decide +kernel
theorem dX0_oldestPoolFrame_5 : decode cX0_oldestPoolFrame 5 = .ok (.iconst 4, 1) := by decide +kernel
theorem dX0_oldestPoolFrame_6 : decode cX0_oldestPoolFrame 6 = .ok (.if_icmp .ge 40, 3) := by decide +kernel
theorem dX0_oldestPoolFrame_9 : decode cX0_oldestPoolFrame 9 = .ok (.aload_n 0, 1) := by decide +kernel
theorem dX0_oldestPoolFrame_10 : decode cX0_oldestPoolFrame 10 = .ok (.iload_n 2, 1) := by decide +kernel
theorem dX0_oldestPoolFrame_11 : decode cX0_oldestPoolFrame 11 = .ok (.invokevirtual 72, 3) := by decide +kernel
theorem dX0_oldestPoolFrame_14 : decode cX0_oldestPoolFrame 14 = .ok (.istore_n 3, 1) := by decide +kernel
theorem dX0_oldestPoolFrame_15 : decode cX0_oldestPoolFrame 15 = .ok (.iload_n 3, 1) := by decide +kernel
theorem dX0_oldestPoolFrame_16 : decode cX0_oldestPoolFrame 16 = .ok (.ifCond .le 24, 3) := by decide +kernel
theorem dX0_oldestPoolFrame_19 : decode cX0_oldestPoolFrame 19 = .ok (.iload_n 1, 1) := by decide +kernel
theorem dX0_oldestPoolFrame_20 : decode cX0_oldestPoolFrame 20 = .ok (.ifCond .lt 18, 3) := by decide +kernel
theorem dX0_oldestPoolFrame_23 : decode cX0_oldestPoolFrame 23 = .ok (.aload_n 0, 1) := by decide +kernel
theorem dX0_oldestPoolFrame_24 : decode cX0_oldestPoolFrame 24 = .ok (.getfield 34, 3) := by decide +kernel
theorem dX0_oldestPoolFrame_27 : decode cX0_oldestPoolFrame 27 = .ok (.iload_n 2, 1) := by decide +kernel
theorem dX0_oldestPoolFrame_28 : decode cX0_oldestPoolFrame 28 = .ok (.iaload, 1) := by decide +kernel
theorem dX0_oldestPoolFrame_29 : decode cX0_oldestPoolFrame 29 = .ok (.aload_n 0, 1) := by decide +kernel
theorem dX0_oldestPoolFrame_30 : decode cX0_oldestPoolFrame 30 = .ok (.getfield 34, 3) := by decide +kernel
theorem dX0_oldestPoolFrame_33 : decode cX0_oldestPoolFrame 33 = .ok (.iload_n 1, 1) := by decide +kernel
theorem dX0_oldestPoolFrame_34 : decode cX0_oldestPoolFrame 34 = .ok (.iaload, 1) := by decide +kernel
theorem dX0_oldestPoolFrame_35 : decode cX0_oldestPoolFrame 35 = .ok (.if_icmp .ge 5, 3) := by decide +kernel
theorem dX0_oldestPoolFrame_38 : decode cX0_oldestPoolFrame 38 = .ok (.iload_n 2, 1) := by decide +kernel
theorem dX0_oldestPoolFrame_39 : decode cX0_oldestPoolFrame 39 = .ok (.istore_n 1, 1) := by decide +kernel
theorem dX0_oldestPoolFrame_40 : decode cX0_oldestPoolFrame 40 = .ok (.iinc 2 1, 3) := by decide +kernel
theorem dX0_oldestPoolFrame_43 : decode cX0_oldestPoolFrame 43 = .ok (.goto (-39), 3) := by decide +kernel
theorem dX0_oldestPoolFrame_46 : decode cX0_oldestPoolFrame 46 = .ok (.iload_n 1, 1) := by decide +kernel
theorem dX0_oldestPoolFrame_47 : decode cX0_oldestPoolFrame 47 = .ok (.ireturn, 1) := by decide +kernel
theorem dX0_writeBack_0 : decode cX0_writeBack 0 = .ok (.iload_n 1, 1) := by decide +kernel
theorem dX0_writeBack_1 : decode cX0_writeBack 1 = .ok (.iconst 2, 1) := by decide +kernel
theorem dX0_writeBack_2 : decode cX0_writeBack 2 = .ok (.imul, 1) := by decide +kernel
theorem dX0_writeBack_3 : decode cX0_writeBack 3 = .ok (.istore_n 2, 1) := by decide +kernel
theorem dX0_writeBack_4 : decode cX0_writeBack 4 = .ok (.iload_n 2, 1) := by decide +kernel
theorem dX0_writeBack_5 : decode cX0_writeBack 5 = .ok (.iload_n 1, 1) := by decide +kernel
theorem dX0_writeBack_6 : decode cX0_writeBack 6 = .ok (.iconst 2, 1) := by decide +kernel
theorem dX0_writeBack_7 : decode cX0_writeBack 7 = .ok (.imul, 1) := by decide +kernel
theorem dX0_writeBack_8 : decode cX0_writeBack 8 = .ok (.iconst 1, 1) := by decide +kernel
theorem dX0_writeBack_9 : decode cX0_writeBack 9 = .ok (.iadd, 1) := by decide +kernel
theorem dX0_writeBack_10 : decode cX0_writeBack 10 = .ok (.if_icmp .gt 51, 3) := by decide +kernel
theorem dX0_writeBack_13 : decode cX0_writeBack 13 = .ok (.aload_n 0, 1) := by decide +kernel
theorem dX0_writeBack_14 : decode cX0_writeBack 14 = .ok (.getfield 28, 3) := by decide +kernel
theorem dX0_writeBack_17 : decode cX0_writeBack 17 = .ok (.iload_n 2, 1) := by decide +kernel
theorem dX0_writeBack_18 : decode cX0_writeBack 18 = .ok (.iaload, 1) := by decide +kernel
theorem dX0_writeBack_19 : decode cX0_writeBack 19 = .ok (.ifCond .lt 36, 3) := by decide +kernel
theorem dX0_writeBack_22 : decode cX0_writeBack 22 = .ok (.aload_n 0, 1) := by decide +kernel
theorem dX0_writeBack_23 : decode cX0_writeBack 23 = .ok (.iload_n 2, 1) := by decide +kernel
theorem dX0_writeBack_24 : decode cX0_writeBack 24 = .ok (.invokevirtual 77, 3) := by decide +kernel
theorem dX0_writeBack_27 : decode cX0_writeBack 27 = .ok (.aload_n 0, 1) := by decide +kernel
theorem dX0_writeBack_28 : decode cX0_writeBack 28 = .ok (.getfield 28, 3) := by decide +kernel
theorem dX0_writeBack_31 : decode cX0_writeBack 31 = .ok (.iload_n 2, 1) := by decide +kernel
theorem dX0_writeBack_32 : decode cX0_writeBack 32 = .ok (.iaload, 1) := by decide +kernel
theorem dX0_writeBack_33 : decode cX0_writeBack 33 = .ok (.istore_n 3, 1) := by decide +kernel
theorem dX0_writeBack_34 : decode cX0_writeBack 34 = .ok (.aload_n 0, 1) := by decide +kernel
theorem dX0_writeBack_35 : decode cX0_writeBack 35 = .ok (.getfield 28, 3) := by decide +kernel
theorem dX0_writeBack_38 : decode cX0_writeBack 38 = .ok (.iload_n 2, 1) := by decide +kernel
theorem dX0_writeBack_39 : decode cX0_writeBack 39 = .ok (.iconst (-1), 1) := by decide +kernel
theorem dX0_writeBack_40 : decode cX0_writeBack 40 = .ok (.iastore, 1) := by decide +kernel
theorem dX0_writeBack_41 : decode cX0_writeBack 41 = .ok (.aload_n 0, 1) := by decide +kernel
theorem dX0_writeBack_42 : decode cX0_writeBack 42 = .ok (.iload_n 3, 1) := by decide +kernel
theorem dX0_writeBack_43 : decode cX0_writeBack 43 = .ok (.invokevirtual 80, 3) := by decide +kernel
theorem dX0_writeBack_46 : decode cX0_writeBack 46 = .ok (.istore 4, 2) := by decide +kernel
theorem dX0_writeBack_48 : decode cX0_writeBack 48 = .ok (.aload_n 0, 1) := by decide +kernel
theorem dX0_writeBack_49 : decode cX0_writeBack 49 = .ok (.iload 4, 2) := by decide +kernel
theorem dX0_writeBack_51 : decode cX0_writeBack 51 = .ok (.iload_n 3, 1) := by decide +kernel
theorem dX0_writeBack_52 : decode cX0_writeBack 52 = .ok (.invokevirtual 83, 3) := by decide +kernel
theorem dX0_writeBack_55 : decode cX0_writeBack 55 = .ok (.iinc 2 1, 3) := by decide +kernel
theorem dX0_writeBack_58 : decode cX0_writeBack 58 = .ok (.goto (-54), 3) := by decide +kernel
theorem dX0_writeBack_61 : decode cX0_writeBack 61 = .ok (.return_, 1) := by decide +kernel
theorem dX0_unpack_0 : decode cX0_unpack 0 = .ok (.aload_n 0, 1) := by decide +kernel
theorem dX0_unpack_1 : decode cX0_unpack 1 = .ok (.iload_n 1, 1) := by decide +kernel
theorem dX0_unpack_2 : decode cX0_unpack 2 = .ok (.invokevirtual 64, 3) := by decide +kernel
end
section
set_option maxRecDepth 100000
theorem dX0_unpack_5 : decode cX0_unpack 5 = .ok (.istore_n 2, 1) := by decide +kernel
theorem dX0_unpack_6 : decode cX0_unpack 6 = .ok (.iconst 0, 1) := by decide +kernel
theorem dX0_unpack_7 : decode cX0_unpack 7 = .ok (.istore_n 3, 1) := by decide +kernel
theorem dX0_unpack_8 : decode cX0_unpack 8 = .ok (.iconst 0, 1) := by decide +kernel
theorem dX0_unpack_9 : decode cX0_unpack 9 = .ok (.istore 4, 2) := by decide +kernel
theorem dX0_unpack_11 : decode cX0_unpack 11 = .ok (.iconst 0, 1) := by decide +kernel
theorem dX0_unpack_12 : decode cX0_unpack 12 = .ok (.istore 5, 2) := by decide +kernel
theorem dX0_unpack_14 : decode cX0_unpack 14 = .ok (.iload 5, 2) := by decide +kernel
theorem dX0_unpack_16 : decode cX0_unpack 16 = .ok (.bipush 16, 2) := by decide +kernel
theorem dX0_unpack_18 : decode cX0_unpack 18 = .ok (.if_icmp .ge 130, 3) := by decide +kernel
theorem dX0_unpack_21 : decode cX0_unpack 21 = .ok (.iload 4, 2) := by decide +kernel
theorem dX0_unpack_23 : decode cX0_unpack 23 = .ok (.bipush 16, 2) := by decide +kernel
theorem dX0_unpack_25 : decode cX0_unpack 25 = .ok (.if_icmp .ge 123, 3) := by decide +kernel
theorem dX0_unpack_28 : decode cX0_unpack 28 = .ok (.iload_n 3, 1) := by decide +kernel
theorem dX0_unpack_29 : decode cX0_unpack 29 = .ok (.bipush 16, 2) := by decide +kernel
theorem dX0_unpack_31 : decode cX0_unpack 31 = .ok (.if_icmp .ge 117, 3) := by decide +kernel
theorem dX0_unpack_34 : decode cX0_unpack 34 = .ok (.aload_n 0, 1) := by decide +kernel
theorem dX0_unpack_35 : decode cX0_unpack 35 = .ok (.getfield 25, 3) := by decide +kernel
theorem dX0_unpack_38 : decode cX0_unpack 38 = .ok (.iload_n 2, 1) := by decide +kernel
theorem dX0_unpack_39 : decode cX0_unpack 39 = .ok (.iload_n 3, 1) := by decide +kernel
theorem dX0_unpack_40 : decode cX0_unpack 40 = .ok (.iadd, 1) := by decide +kernel
theorem dX0_unpack_41 : decode cX0_unpack 41 = .ok (.iaload, 1) := by decide +kernel
theorem dX0_unpack_42 : decode cX0_unpack 42 = .ok (.istore 6, 2) := by decide +kernel
theorem dX0_unpack_44 : decode cX0_unpack 44 = .ok (.iinc 3 1, 3) := by decide +kernel
theorem dX0_unpack_47 : decode cX0_unpack 47 = .ok (.iload 6, 2) := by decide +kernel
theorem dX0_unpack_49 : decode cX0_unpack 49 = .ok (.bipush 16, 2) := by decide +kernel
theorem dX0_unpack_51 : decode cX0_unpack 51 = .ok (.if_icmp .ge 50, 3) := by decide +kernel
theorem dX0_unpack_54 : decode cX0_unpack 54 = .ok (.iconst 0, 1) := by decide +kernel
theorem dX0_unpack_55 : decode cX0_unpack 55 = .ok (.istore 7, 2) := by decide +kernel
theorem dX0_unpack_57 : decode cX0_unpack 57 = .ok (.iload 7, 2) := by decide +kernel
theorem dX0_unpack_59 : decode cX0_unpack 59 = .ok (.iload 6, 2) := by decide +kernel
theorem dX0_unpack_61 : decode cX0_unpack 61 = .ok (.if_icmp .gt 37, 3) := by decide +kernel
theorem dX0_unpack_64 : decode cX0_unpack 64 = .ok (.iload 4, 2) := by decide +kernel
theorem dX0_unpack_66 : decode cX0_unpack 66 = .ok (.bipush 16, 2) := by decide +kernel
theorem dX0_unpack_68 : decode cX0_unpack 68 = .ok (.if_icmp .ge 30, 3) := by decide +kernel
theorem dX0_unpack_71 : decode cX0_unpack 71 = .ok (.aload_n 0, 1) := by decide +kernel
theorem dX0_unpack_72 : decode cX0_unpack 72 = .ok (.getfield 46, 3) := by decide +kernel
theorem dX0_unpack_75 : decode cX0_unpack 75 = .ok (.iload 4, 2) := by decide +kernel
theorem dX0_unpack_77 : decode cX0_unpack 77 = .ok (.aload_n 0, 1) := by decide +kernel
theorem dX0_unpack_78 : decode cX0_unpack 78 = .ok (.getfield 25, 3) := by decide +kernel
theorem dX0_unpack_81 : decode cX0_unpack 81 = .ok (.iload_n 2, 1) := by decide +kernel
theorem dX0_unpack_82 : decode cX0_unpack 82 = .ok (.iload_n 3, 1) := by decide +kernel
theorem dX0_unpack_83 : decode cX0_unpack 83 = .ok (.iadd, 1) := by decide +kernel
theorem dX0_unpack_84 : decode cX0_unpack 84 = .ok (.iaload, 1) := by decide +kernel
theorem dX0_unpack_85 : decode cX0_unpack 85 = .ok (.iastore, 1) := by decide +kernel
theorem dX0_unpack_86 : decode cX0_unpack 86 = .ok (.iinc 3 1, 3) := by decide +kernel
theorem dX0_unpack_89 : decode cX0_unpack 89 = .ok (.iinc 4 1, 3) := by decide +kernel
theorem dX0_unpack_92 : decode cX0_unpack 92 = .ok (.iinc 7 1, 3) := by decide +kernel
theorem dX0_unpack_95 : decode cX0_unpack 95 = .ok (.goto (-38), 3) := by decide +kernel
theorem dX0_unpack_98 : decode cX0_unpack 98 = .ok (.goto 44, 3) := by decide +kernel
theorem dX0_unpack_101 : decode cX0_unpack 101 = .ok (.iload 6, 2) := by decide +kernel
theorem dX0_unpack_103 : decode cX0_unpack 103 = .ok (.bipush 16, 2) := by decide +kernel
theorem dX0_unpack_105 : decode cX0_unpack 105 = .ok (.isub, 1) := by decide +kernel
theorem dX0_unpack_106 : decode cX0_unpack 106 = .ok (.bipush 15, 2) := by decide +kernel
theorem dX0_unpack_108 : decode cX0_unpack 108 = .ok (.idiv, 1) := by decide +kernel
theorem dX0_unpack_109 : decode cX0_unpack 109 = .ok (.iconst 2, 1) := by decide +kernel
theorem dX0_unpack_110 : decode cX0_unpack 110 = .ok (.iadd, 1) := by decide +kernel
theorem dX0_unpack_111 : decode cX0_unpack 111 = .ok (.istore 7, 2) := by decide +kernel
theorem dX0_unpack_113 : decode cX0_unpack 113 = .ok (.iload 6, 2) := by decide +kernel
theorem dX0_unpack_115 : decode cX0_unpack 115 = .ok (.bipush 16, 2) := by decide +kernel
theorem dX0_unpack_117 : decode cX0_unpack 117 = .ok (.isub, 1) := by decide +kernel
theorem dX0_unpack_118 : decode cX0_unpack 118 = .ok (.bipush 15, 2) := by decide +kernel
theorem dX0_unpack_120 : decode cX0_unpack 120 = .ok (.irem, 1) := by decide +kernel
theorem dX0_unpack_121 : decode cX0_unpack 121 = .ok (.iconst 1, 1) := by decide +kernel
theorem dX0_unpack_122 : decode cX0_unpack 122 = .ok (.iadd, 1) := by decide +kernel
theorem dX0_unpack_123 : decode cX0_unpack 123 = .ok (.istore 8, 2) := by decide +kernel
theorem dX0_unpack_125 : decode cX0_unpack 125 = .ok (.aload_n 0, 1) := by decide +kernel
theorem dX0_unpack_126 : decode cX0_unpack 126 = .ok (.iload 4, 2) := by decide +kernel
theorem dX0_unpack_128 : decode cX0_unpack 128 = .ok (.iload 7, 2) := by decide +kernel
theorem dX0_unpack_130 : decode cX0_unpack 130 = .ok (.iload 8, 2) := by decide +kernel
theorem dX0_unpack_132 : decode cX0_unpack 132 = .ok (.invokevirtual 68, 3) := by decide +kernel
theorem dX0_unpack_135 : decode cX0_unpack 135 = .ok (.iload 4, 2) := by decide +kernel
theorem dX0_unpack_137 : decode cX0_unpack 137 = .ok (.iload 7, 2) := by decide +kernel
theorem dX0_unpack_139 : decode cX0_unpack 139 = .ok (.iadd, 1) := by decide +kernel
theorem dX0_unpack_140 : decode cX0_unpack 140 = .ok (.istore 4, 2) := by decide +kernel
theorem dX0_unpack_142 : decode cX0_unpack 142 = .ok (.iinc 5 1, 3) := by decide +kernel
theorem dX0_unpack_145 : decode cX0_unpack 145 = .ok (.goto (-131), 3) := by decide +kernel
theorem dX0_unpack_148 : decode cX0_unpack 148 = .ok (.return_, 1) := by decide +kernel
theorem dX0_baseOf_0 : decode cX0_baseOf 0 = .ok (.iload_n 1, 1) := by decide +kernel
theorem dX0_baseOf_1 : decode cX0_baseOf 1 = .ok (.iconst 1, 1) := by decide +kernel
theorem dX0_baseOf_2 : decode cX0_baseOf 2 = .ok (.ishr, 1) := by decide +kernel
theorem dX0_baseOf_3 : decode cX0_baseOf 3 = .ok (.bipush 16, 2) := by decide +kernel
theorem dX0_baseOf_5 : decode cX0_baseOf 5 = .ok (.imul, 1) := by decide +kernel
theorem dX0_baseOf_6 : decode cX0_baseOf 6 = .ok (.istore_n 2, 1) := by decide +kernel
theorem dX0_baseOf_7 : decode cX0_baseOf 7 = .ok (.iload_n 1, 1) := by decide +kernel
theorem dX0_baseOf_8 : decode cX0_baseOf 8 = .ok (.iconst 1, 1) := by decide +kernel
theorem dX0_baseOf_9 : decode cX0_baseOf 9 = .ok (.iand, 1) := by decide +kernel
theorem dX0_baseOf_10 : decode cX0_baseOf 10 = .ok (.iconst 1, 1) := by decide +kernel
theorem dX0_baseOf_11 : decode cX0_baseOf 11 = .ok (.if_icmp .ne 15, 3) := by decide +kernel
theorem dX0_baseOf_14 : decode cX0_baseOf 14 = .ok (.iload_n 2, 1) := by decide +kernel
theorem dX0_baseOf_15 : decode cX0_baseOf 15 = .ok (.bipush 16, 2) := by decide +kernel
theorem dX0_baseOf_17 : decode cX0_baseOf 17 = .ok (.iadd, 1) := by decide +kernel
theorem dX0_baseOf_18 : decode cX0_baseOf 18 = .ok (.aload_n 0, 1) := by decide +kernel
theorem dX0_baseOf_19 : decode cX0_baseOf 19 = .ok (.getfield 31, 3) := by decide +kernel
theorem dX0_baseOf_22 : decode cX0_baseOf 22 = .ok (.iload_n 1, 1) := by decide +kernel
theorem dX0_baseOf_23 : decode cX0_baseOf 23 = .ok (.iaload, 1) := by decide +kernel
theorem dX0_baseOf_24 : decode cX0_baseOf 24 = .ok (.isub, 1) := by decide +kernel
theorem dX0_baseOf_25 : decode cX0_baseOf 25 = .ok (.istore_n 2, 1) := by decide +kernel
theorem dX0_baseOf_26 : decode cX0_baseOf 26 = .ok (.iload_n 2, 1) := by decide +kernel
theorem dX0_baseOf_27 : decode cX0_baseOf 27 = .ok (.ireturn, 1) := by decide +kernel
theorem dX0_repeat_0 : decode cX0_repeat 0 = .ok (.iload_n 1, 1) := by decide +kernel
theorem dX0_repeat_1 : decode cX0_repeat 1 = .ok (.istore 4, 2) := by decide +kernel
theorem dX0_repeat_3 : decode cX0_repeat 3 = .ok (.iload 4, 2) := by decide +kernel
theorem dX0_repeat_5 : decode cX0_repeat 5 = .ok (.iload_n 1, 1) := by decide +kernel
theorem dX0_repeat_6 : decode cX0_repeat 6 = .ok (.iload_n 2, 1) := by decide +kernel
theorem dX0_repeat_7 : decode cX0_repeat 7 = .ok (.iadd, 1) := by decide +kernel
theorem dX0_repeat_8 : decode cX0_repeat 8 = .ok (.if_icmp .ge 42, 3) := by decide +kernel
theorem dX0_repeat_11 : decode cX0_repeat 11 = .ok (.iload 4, 2) := by decide +kernel
theorem dX0_repeat_13 : decode cX0_repeat 13 = .ok (.bipush 16, 2) := by decide +kernel
theorem dX0_repeat_15 : decode cX0_repeat 15 = .ok (.if_icmp .ge 35, 3) := by decide +kernel
theorem dX0_repeat_18 : decode cX0_repeat 18 = .ok (.aload_n 0, 1) := by decide +kernel
theorem dX0_repeat_19 : decode cX0_repeat 19 = .ok (.getfield 46, 3) := by decide +kernel
theorem dX0_repeat_22 : decode cX0_repeat 22 = .ok (.iload 4, 2) := by decide +kernel
theorem dX0_repeat_24 : decode cX0_repeat 24 = .ok (.iload 4, 2) := by decide +kernel
theorem dX0_repeat_26 : decode cX0_repeat 26 = .ok (.iload_n 3, 1) := by decide +kernel
theorem dX0_repeat_27 : decode cX0_repeat 27 = .ok (.if_icmp .lt 15, 3) := by decide +kernel
theorem dX0_repeat_30 : decode cX0_repeat 30 = .ok (.aload_n 0, 1) := by decide +kernel
theorem dX0_repeat_31 : decode cX0_repeat 31 = .ok (.getfield 46, 3) := by decide +kernel
theorem dX0_repeat_34 : decode cX0_repeat 34 = .ok (.iload 4, 2) := by decide +kernel
theorem dX0_repeat_36 : decode cX0_repeat 36 = .ok (.iload_n 3, 1) := by decide +kernel
theorem dX0_repeat_37 : decode cX0_repeat 37 = .ok (.isub, 1) := by decide +kernel
theorem dX0_repeat_38 : decode cX0_repeat 38 = .ok (.iaload, 1) := by decide +kernel
theorem dX0_repeat_39 : decode cX0_repeat 39 = .ok (.goto 4, 3) := by decide +kernel
theorem dX0_repeat_42 : decode cX0_repeat 42 = .ok (.iconst 0, 1) := by decide +kernel
theorem dX0_repeat_43 : decode cX0_repeat 43 = .ok (.iastore, 1) := by decide +kernel
theorem dX0_repeat_44 : decode cX0_repeat 44 = .ok (.iinc 4 1, 3) := by decide +kernel
theorem dX0_repeat_47 : decode cX0_repeat 47 = .ok (.goto (-44), 3) := by decide +kernel
theorem dX0_repeat_50 : decode cX0_repeat 50 = .ok (.return_, 1) := by decide +kernel
theorem dX0_storePacked_0 : decode cX0_storePacked 0 = .ok (.iload_n 1, 1) := by decide +kernel
theorem dX0_storePacked_1 : decode cX0_storePacked 1 = .ok (.iconst 2, 1) := by decide +kernel
theorem dX0_storePacked_2 : decode cX0_storePacked 2 = .ok (.imul, 1) := by decide +kernel
theorem dX0_storePacked_3 : decode cX0_storePacked 3 = .ok (.istore_n 3, 1) := by decide +kernel
theorem dX0_storePacked_4 : decode cX0_storePacked 4 = .ok (.aload_n 0, 1) := by decide +kernel
theorem dX0_storePacked_5 : decode cX0_storePacked 5 = .ok (.getfield 28, 3) := by decide +kernel
theorem dX0_storePacked_8 : decode cX0_storePacked 8 = .ok (.iload_n 3, 1) := by decide +kernel
theorem dX0_storePacked_9 : decode cX0_storePacked 9 = .ok (.iaload, 1) := by decide +kernel
theorem dX0_storePacked_10 : decode cX0_storePacked 10 = .ok (.ifCond .lt 6, 3) := by decide +kernel
theorem dX0_storePacked_13 : decode cX0_storePacked 13 = .ok (.iinc 3 1, 3) := by decide +kernel
theorem dX0_storePacked_16 : decode cX0_storePacked 16 = .ok (.aload_n 0, 1) := by decide +kernel
theorem dX0_storePacked_17 : decode cX0_storePacked 17 = .ok (.getfield 28, 3) := by decide +kernel
theorem dX0_storePacked_20 : decode cX0_storePacked 20 = .ok (.iload_n 3, 1) := by decide +kernel
theorem dX0_storePacked_21 : decode cX0_storePacked 21 = .ok (.iload_n 2, 1) := by decide +kernel
theorem dX0_storePacked_22 : decode cX0_storePacked 22 = .ok (.iastore, 1) := by decide +kernel
theorem dX0_storePacked_23 : decode cX0_storePacked 23 = .ok (.aload_n 0, 1) := by decide +kernel
theorem dX0_storePacked_24 : decode cX0_storePacked 24 = .ok (.getfield 31, 3) := by decide +kernel
theorem dX0_storePacked_27 : decode cX0_storePacked 27 = .ok (.iload_n 3, 1) := by decide +kernel
theorem dX0_storePacked_28 : decode cX0_storePacked 28 = .ok (.aload_n 0, 1) := by decide +kernel
theorem dX0_storePacked_29 : decode cX0_storePacked 29 = .ok (.getfield 52, 3) := by decide +kernel
theorem dX0_storePacked_32 : decode cX0_storePacked 32 = .ok (.iastore, 1) := by decide +kernel
theorem dX0_storePacked_33 : decode cX0_storePacked 33 = .ok (.aload_n 0, 1) := by decide +kernel
theorem dX0_storePacked_34 : decode cX0_storePacked 34 = .ok (.iload_n 3, 1) := by decide +kernel
theorem dX0_storePacked_35 : decode cX0_storePacked 35 = .ok (.invokevirtual 64, 3) := by decide +kernel
theorem dX0_storePacked_38 : decode cX0_storePacked 38 = .ok (.istore 4, 2) := by decide +kernel
theorem dX0_storePacked_40 : decode cX0_storePacked 40 = .ok (.iconst 0, 1) := by decide +kernel
theorem dX0_storePacked_41 : decode cX0_storePacked 41 = .ok (.istore 5, 2) := by decide +kernel
theorem dX0_storePacked_43 : decode cX0_storePacked 43 = .ok (.iload 5, 2) := by decide +kernel
theorem dX0_storePacked_45 : decode cX0_storePacked 45 = .ok (.aload_n 0, 1) := by decide +kernel
theorem dX0_storePacked_46 : decode cX0_storePacked 46 = .ok (.getfield 52, 3) := by decide +kernel
theorem dX0_storePacked_49 : decode cX0_storePacked 49 = .ok (.if_icmp .ge 26, 3) := by decide +kernel
theorem dX0_storePacked_52 : decode cX0_storePacked 52 = .ok (.aload_n 0, 1) := by decide +kernel
theorem dX0_storePacked_53 : decode cX0_storePacked 53 = .ok (.getfield 25, 3) := by decide +kernel
theorem dX0_storePacked_56 : decode cX0_storePacked 56 = .ok (.iload 4, 2) := by decide +kernel
theorem dX0_storePacked_58 : decode cX0_storePacked 58 = .ok (.iload 5, 2) := by decide +kernel
theorem dX0_storePacked_60 : decode cX0_storePacked 60 = .ok (.iadd, 1) := by decide +kernel
theorem dX0_storePacked_61 : decode cX0_storePacked 61 = .ok (.aload_n 0, 1) := by decide +kernel
theorem dX0_storePacked_62 : decode cX0_storePacked 62 = .ok (.getfield 43, 3) := by decide +kernel
theorem dX0_storePacked_65 : decode cX0_storePacked 65 = .ok (.iload 5, 2) := by decide +kernel
theorem dX0_storePacked_67 : decode cX0_storePacked 67 = .ok (.iaload, 1) := by decide +kernel
theorem dX0_storePacked_68 : decode cX0_storePacked 68 = .ok (.iastore, 1) := by decide +kernel
theorem dX0_storePacked_69 : decode cX0_storePacked 69 = .ok (.iinc 5 1, 3) := by decide +kernel
theorem dX0_storePacked_72 : decode cX0_storePacked 72 = .ok (.goto (-29), 3) := by decide +kernel
theorem dX0_storePacked_75 : decode cX0_storePacked 75 = .ok (.aload_n 0, 1) := by decide +kernel
theorem dX0_storePacked_76 : decode cX0_storePacked 76 = .ok (.dup, 1) := by decide +kernel
theorem dX0_storePacked_77 : decode cX0_storePacked 77 = .ok (.getfield 87, 3) := by decide +kernel
theorem dX0_storePacked_80 : decode cX0_storePacked 80 = .ok (.iconst 1, 1) := by decide +kernel
theorem dX0_storePacked_81 : decode cX0_storePacked 81 = .ok (.iadd, 1) := by decide +kernel
theorem dX0_storePacked_82 : decode cX0_storePacked 82 = .ok (.putfield 87, 3) := by decide +kernel
theorem dX0_storePacked_85 : decode cX0_storePacked 85 = .ok (.aload_n 0, 1) := by decide +kernel
theorem dX0_storePacked_86 : decode cX0_storePacked 86 = .ok (.getfield 34, 3) := by decide +kernel
theorem dX0_storePacked_89 : decode cX0_storePacked 89 = .ok (.iload_n 1, 1) := by decide +kernel
theorem dX0_storePacked_90 : decode cX0_storePacked 90 = .ok (.aload_n 0, 1) := by decide +kernel
theorem dX0_storePacked_91 : decode cX0_storePacked 91 = .ok (.getfield 87, 3) := by decide +kernel
theorem dX0_storePacked_94 : decode cX0_storePacked 94 = .ok (.iastore, 1) := by decide +kernel
theorem dX0_storePacked_95 : decode cX0_storePacked 95 = .ok (.aload_n 0, 1) := by decide +kernel
theorem dX0_storePacked_96 : decode cX0_storePacked 96 = .ok (.getfield 7, 3) := by decide +kernel
theorem dX0_storePacked_99 : decode cX0_storePacked 99 = .ok (.iload_n 2, 1) := by decide +kernel
theorem dX0_storePacked_100 : decode cX0_storePacked 100 = .ok (.iconst 2, 1) := by decide +kernel
theorem dX0_storePacked_101 : decode cX0_storePacked 101 = .ok (.iastore, 1) := by decide +kernel
theorem dX0_storePacked_102 : decode cX0_storePacked 102 = .ok (.aload_n 0, 1) := by decide +kernel
theorem dX0_storePacked_103 : decode cX0_storePacked 103 = .ok (.getfield 13, 3) := by decide +kernel
theorem dX0_storePacked_106 : decode cX0_storePacked 106 = .ok (.iload_n 2, 1) := by decide +kernel
theorem dX0_storePacked_107 : decode cX0_storePacked 107 = .ok (.iload_n 3, 1) := by decide +kernel
theorem dX0_storePacked_108 : decode cX0_storePacked 108 = .ok (.iastore, 1) := by decide +kernel
theorem dX0_storePacked_109 : decode cX0_storePacked 109 = .ok (.return_, 1) := by decide +kernel
theorem dX0_release_0 : decode cX0_release 0 = .ok (.aload_n 0, 1) := by decide +kernel
theorem dX0_release_1 : decode cX0_release 1 = .ok (.getfield 7, 3) := by decide +kernel
theorem dX0_release_4 : decode cX0_release 4 = .ok (.iload_n 1, 1) := by decide +kernel
theorem dX0_release_5 : decode cX0_release 5 = .ok (.iaload, 1) := by decide +kernel
theorem dX0_release_6 : decode cX0_release 6 = .ok (.iconst 1, 1) := by decide +kernel
theorem dX0_release_7 : decode cX0_release 7 = .ok (.if_icmp .ne 18, 3) := by decide +kernel
theorem dX0_release_10 : decode cX0_release 10 = .ok (.aload_n 0, 1) := by decide +kernel
theorem dX0_release_11 : decode cX0_release 11 = .ok (.getfield 19, 3) := by decide +kernel
theorem dX0_release_14 : decode cX0_release 14 = .ok (.aload_n 0, 1) := by decide +kernel
theorem dX0_release_15 : decode cX0_release 15 = .ok (.getfield 13, 3) := by decide +kernel
theorem dX0_release_18 : decode cX0_release 18 = .ok (.iload_n 1, 1) := by decide +kernel
theorem dX0_release_19 : decode cX0_release 19 = .ok (.iaload, 1) := by decide +kernel
theorem dX0_release_20 : decode cX0_release 20 = .ok (.iconst (-1), 1) := by decide +kernel
theorem dX0_release_21 : decode cX0_release 21 = .ok (.iastore, 1) := by decide +kernel
theorem dX0_release_22 : decode cX0_release 22 = .ok (.goto 50, 3) := by decide +kernel
theorem dX0_release_25 : decode cX0_release 25 = .ok (.aload_n 0, 1) := by decide +kernel
theorem dX0_release_26 : decode cX0_release 26 = .ok (.getfield 7, 3) := by decide +kernel
theorem dX0_release_29 : decode cX0_release 29 = .ok (.iload_n 1, 1) := by decide +kernel
theorem dX0_release_30 : decode cX0_release 30 = .ok (.iaload, 1) := by decide +kernel
theorem dX0_release_31 : decode cX0_release 31 = .ok (.iconst 2, 1) := by decide +kernel
theorem dX0_release_32 : decode cX0_release 32 = .ok (.if_icmp .ne 18, 3) := by decide +kernel
theorem dX0_release_35 : decode cX0_release 35 = .ok (.aload_n 0, 1) := by decide +kernel
theorem dX0_release_36 : decode cX0_release 36 = .ok (.getfield 28, 3) := by decide +kernel
theorem dX0_release_39 : decode cX0_release 39 = .ok (.aload_n 0, 1) := by decide +kernel
theorem dX0_release_40 : decode cX0_release 40 = .ok (.getfield 13, 3) := by decide +kernel
theorem dX0_release_43 : decode cX0_release 43 = .ok (.iload_n 1, 1) := by decide +kernel
theorem dX0_release_44 : decode cX0_release 44 = .ok (.iaload, 1) := by decide +kernel
theorem dX0_release_45 : decode cX0_release 45 = .ok (.iconst (-1), 1) := by decide +kernel
theorem dX0_release_46 : decode cX0_release 46 = .ok (.iastore, 1) := by decide +kernel
theorem dX0_release_47 : decode cX0_release 47 = .ok (.goto 25, 3) := by decide +kernel
theorem dX0_release_50 : decode cX0_release 50 = .ok (.aload_n 0, 1) := by decide +kernel
theorem dX0_release_51 : decode cX0_release 51 = .ok (.getfield 7, 3) := by decide +kernel
theorem dX0_release_54 : decode cX0_release 54 = .ok (.iload_n 1, 1) := by decide +kernel
theorem dX0_release_55 : decode cX0_release 55 = .ok (.iaload, 1) := by decide +kernel
theorem dX0_release_56 : decode cX0_release 56 = .ok (.iconst 3, 1) := by decide +kernel
theorem dX0_release_57 : decode cX0_release 57 = .ok (.if_icmp .ne 15, 3) := by decide +kernel
theorem dX0_release_60 : decode cX0_release 60 = .ok (.aload_n 0, 1) := by decide +kernel
theorem dX0_release_61 : decode cX0_release 61 = .ok (.getfield 40, 3) := by decide +kernel
theorem dX0_release_64 : decode cX0_release 64 = .ok (.aload_n 0, 1) := by decide +kernel
theorem dX0_release_65 : decode cX0_release 65 = .ok (.getfield 13, 3) := by decide +kernel
theorem dX0_release_68 : decode cX0_release 68 = .ok (.iload_n 1, 1) := by decide +kernel
theorem dX0_release_69 : decode cX0_release 69 = .ok (.iaload, 1) := by decide +kernel
theorem dX0_release_70 : decode cX0_release 70 = .ok (.iconst (-1), 1) := by decide +kernel
theorem dX0_release_71 : decode cX0_release 71 = .ok (.iastore, 1) := by decide +kernel
theorem dX0_release_72 : decode cX0_release 72 = .ok (.aload_n 0, 1) := by decide +kernel
theorem dX0_release_73 : decode cX0_release 73 = .ok (.getfield 7, 3) := by decide +kernel
theorem dX0_release_76 : decode cX0_release 76 = .ok (.iload_n 1, 1) := by decide +kernel
theorem dX0_release_77 : decode cX0_release 77 = .ok (.iconst 0, 1) := by decide +kernel
theorem dX0_release_78 : decode cX0_release 78 = .ok (.iastore, 1) := by decide +kernel
theorem dX0_release_79 : decode cX0_release 79 = .ok (.return_, 1) := by decide +kernel
theorem dX0_read_0 : decode cX0_read 0 = .ok (.aload_n 0, 1) := by decide +kernel
theorem dX0_read_1 : decode cX0_read 1 = .ok (.iload_n 1, 1) := by decide +kernel
theorem dX0_read_2 : decode cX0_read 2 = .ok (.invokevirtual 122, 3) := by decide +kernel
theorem dX0_read_5 : decode cX0_read 5 = .ok (.ifCond .ne 11, 3) := by decide +kernel
theorem dX0_read_8 : decode cX0_read 8 = .ok (.aload_n 0, 1) := by decide +kernel
theorem dX0_read_9 : decode cX0_read 9 = .ok (.iload_n 2, 1) := by decide +kernel
theorem dX0_read_10 : decode cX0_read 10 = .ok (.invokevirtual 125, 3) := by decide +kernel
theorem dX0_read_13 : decode cX0_read 13 = .ok (.ifCond .eq 5, 3) := by decide +kernel
theorem dX0_read_16 : decode cX0_read 16 = .ok (.iconst (-1), 1) := by decide +kernel
theorem dX0_read_17 : decode cX0_read 17 = .ok (.ireturn, 1) := by decide +kernel
theorem dX0_read_18 : decode cX0_read 18 = .ok (.aload_n 0, 1) := by decide +kernel
theorem dX0_read_19 : decode cX0_read 19 = .ok (.iload_n 1, 1) := by decide +kernel
theorem dX0_read_20 : decode cX0_read 20 = .ok (.invokevirtual 119, 3) := by decide +kernel
theorem dX0_read_23 : decode cX0_read 23 = .ok (.istore_n 3, 1) := by decide +kernel
theorem dX0_read_24 : decode cX0_read 24 = .ok (.aload_n 0, 1) := by decide +kernel
theorem dX0_read_25 : decode cX0_read 25 = .ok (.getfield 16, 3) := by decide +kernel
theorem dX0_read_28 : decode cX0_read 28 = .ok (.iload_n 3, 1) := by decide +kernel
theorem dX0_read_29 : decode cX0_read 29 = .ok (.iload_n 2, 1) := by decide +kernel
theorem dX0_read_30 : decode cX0_read 30 = .ok (.iadd, 1) := by decide +kernel
theorem dX0_read_31 : decode cX0_read 31 = .ok (.iaload, 1) := by decide +kernel
theorem dX0_read_32 : decode cX0_read 32 = .ok (.ireturn, 1) := by decide +kernel
theorem dX0_fill_0 : decode cX0_fill 0 = .ok (.aload_n 0, 1) := by decide +kernel
theorem dX0_fill_1 : decode cX0_fill 1 = .ok (.iload_n 1, 1) := by decide +kernel
theorem dX0_fill_2 : decode cX0_fill 2 = .ok (.invokevirtual 122, 3) := by decide +kernel
theorem dX0_fill_5 : decode cX0_fill 5 = .ok (.ifCond .ne 28, 3) := by decide +kernel
theorem dX0_fill_8 : decode cX0_fill 8 = .ok (.aload_n 0, 1) := by decide +kernel
theorem dX0_fill_9 : decode cX0_fill 9 = .ok (.iload_n 2, 1) := by decide +kernel
theorem dX0_fill_10 : decode cX0_fill 10 = .ok (.invokevirtual 125, 3) := by decide +kernel
theorem dX0_fill_13 : decode cX0_fill 13 = .ok (.ifCond .ne 20, 3) := by decide +kernel
theorem dX0_fill_16 : decode cX0_fill 16 = .ok (.aload_n 0, 1) := by decide +kernel
theorem dX0_fill_17 : decode cX0_fill 17 = .ok (.iload_n 3, 1) := by decide +kernel
theorem dX0_fill_18 : decode cX0_fill 18 = .ok (.invokevirtual 125, 3) := by decide +kernel
theorem dX0_fill_21 : decode cX0_fill 21 = .ok (.ifCond .ne 12, 3) := by decide +kernel
theorem dX0_fill_24 : decode cX0_fill 24 = .ok (.aload_n 0, 1) := by decide +kernel
theorem dX0_fill_25 : decode cX0_fill 25 = .ok (.iload 4, 2) := by decide +kernel
theorem dX0_fill_27 : decode cX0_fill 27 = .ok (.invokevirtual 128, 3) := by decide +kernel
theorem dX0_fill_30 : decode cX0_fill 30 = .ok (.ifCond .eq 5, 3) := by decide +kernel
theorem dX0_fill_33 : decode cX0_fill 33 = .ok (.iconst (-1), 1) := by decide +kernel
theorem dX0_fill_34 : decode cX0_fill 34 = .ok (.ireturn, 1) := by decide +kernel
theorem dX0_fill_35 : decode cX0_fill 35 = .ok (.aload_n 0, 1) := by decide +kernel
theorem dX0_fill_36 : decode cX0_fill 36 = .ok (.iload_n 1, 1) := by decide +kernel
theorem dX0_fill_37 : decode cX0_fill 37 = .ok (.invokevirtual 119, 3) := by decide +kernel
theorem dX0_fill_40 : decode cX0_fill 40 = .ok (.istore 5, 2) := by decide +kernel
theorem dX0_fill_42 : decode cX0_fill 42 = .ok (.iload_n 2, 1) := by decide +kernel
theorem dX0_fill_43 : decode cX0_fill 43 = .ok (.istore 6, 2) := by decide +kernel
theorem dX0_fill_45 : decode cX0_fill 45 = .ok (.iload 6, 2) := by decide +kernel
theorem dX0_fill_47 : decode cX0_fill 47 = .ok (.iload_n 3, 1) := by decide +kernel
theorem dX0_fill_48 : decode cX0_fill 48 = .ok (.if_icmp .gt 21, 3) := by decide +kernel
theorem dX0_fill_51 : decode cX0_fill 51 = .ok (.aload_n 0, 1) := by decide +kernel
theorem dX0_fill_52 : decode cX0_fill 52 = .ok (.getfield 16, 3) := by decide +kernel
theorem dX0_fill_55 : decode cX0_fill 55 = .ok (.iload 5, 2) := by decide +kernel
theorem dX0_fill_57 : decode cX0_fill 57 = .ok (.iload 6, 2) := by decide +kernel
theorem dX0_fill_59 : decode cX0_fill 59 = .ok (.iadd, 1) := by decide +kernel
theorem dX0_fill_60 : decode cX0_fill 60 = .ok (.iload 4, 2) := by decide +kernel
theorem dX0_fill_62 : decode cX0_fill 62 = .ok (.iastore, 1) := by decide +kernel
theorem dX0_fill_63 : decode cX0_fill 63 = .ok (.iinc 6 1, 3) := by decide +kernel
theorem dX0_fill_66 : decode cX0_fill 66 = .ok (.goto (-21), 3) := by decide +kernel
theorem dX0_fill_69 : decode cX0_fill 69 = .ok (.iload_n 2, 1) := by decide +kernel
theorem dX0_fill_70 : decode cX0_fill 70 = .ok (.iload_n 3, 1) := by decide +kernel
theorem dX0_fill_71 : decode cX0_fill 71 = .ok (.if_icmp .le 7, 3) := by decide +kernel
theorem dX0_fill_74 : decode cX0_fill 74 = .ok (.iconst 0, 1) := by decide +kernel
theorem dX0_fill_75 : decode cX0_fill 75 = .ok (.goto 8, 3) := by decide +kernel
theorem dX0_fill_78 : decode cX0_fill 78 = .ok (.iload_n 3, 1) := by decide +kernel
theorem dX0_fill_79 : decode cX0_fill 79 = .ok (.iload_n 2, 1) := by decide +kernel
theorem dX0_fill_80 : decode cX0_fill 80 = .ok (.isub, 1) := by decide +kernel
theorem dX0_fill_81 : decode cX0_fill 81 = .ok (.iconst 1, 1) := by decide +kernel
theorem dX0_fill_82 : decode cX0_fill 82 = .ok (.iadd, 1) := by decide +kernel
theorem dX0_fill_83 : decode cX0_fill 83 = .ok (.ireturn, 1) := by decide +kernel
theorem dX0_copy_0 : decode cX0_copy 0 = .ok (.aload_n 0, 1) := by decide +kernel
theorem dX0_copy_1 : decode cX0_copy 1 = .ok (.iload_n 1, 1) := by decide +kernel
theorem dX0_copy_2 : decode cX0_copy 2 = .ok (.invokevirtual 122, 3) := by decide +kernel
theorem dX0_copy_5 : decode cX0_copy 5 = .ok (.ifCond .ne 11, 3) := by decide +kernel
theorem dX0_copy_8 : decode cX0_copy 8 = .ok (.aload_n 0, 1) := by decide +kernel
theorem dX0_copy_9 : decode cX0_copy 9 = .ok (.iload_n 2, 1) := by decide +kernel
theorem dX0_copy_10 : decode cX0_copy 10 = .ok (.invokevirtual 122, 3) := by decide +kernel
theorem dX0_copy_13 : decode cX0_copy 13 = .ok (.ifCond .eq 5, 3) := by decide +kernel
theorem dX0_copy_16 : decode cX0_copy 16 = .ok (.iconst (-1), 1) := by decide +kernel
theorem dX0_copy_17 : decode cX0_copy 17 = .ok (.ireturn, 1) := by decide +kernel
theorem dX0_copy_18 : decode cX0_copy 18 = .ok (.aload_n 0, 1) := by decide +kernel
theorem dX0_copy_19 : decode cX0_copy 19 = .ok (.iload_n 2, 1) := by decide +kernel
theorem dX0_copy_20 : decode cX0_copy 20 = .ok (.invokevirtual 131, 3) := by decide +kernel
theorem dX0_copy_23 : decode cX0_copy 23 = .ok (.aload_n 0, 1) := by decide +kernel
theorem dX0_copy_24 : decode cX0_copy 24 = .ok (.iload_n 1, 1) := by decide +kernel
theorem dX0_copy_25 : decode cX0_copy 25 = .ok (.invokevirtual 119, 3) := by decide +kernel
theorem dX0_copy_28 : decode cX0_copy 28 = .ok (.istore_n 3, 1) := by decide +kernel
theorem dX0_copy_29 : decode cX0_copy 29 = .ok (.iconst 0, 1) := by decide +kernel
theorem dX0_copy_30 : decode cX0_copy 30 = .ok (.istore 4, 2) := by decide +kernel
theorem dX0_copy_32 : decode cX0_copy 32 = .ok (.iconst 0, 1) := by decide +kernel
theorem dX0_copy_33 : decode cX0_copy 33 = .ok (.istore 5, 2) := by decide +kernel
theorem dX0_copy_35 : decode cX0_copy 35 = .ok (.iload 5, 2) := by decide +kernel
theorem dX0_copy_37 : decode cX0_copy 37 = .ok (.bipush 16, 2) := by decide +kernel
theorem dX0_copy_39 : decode cX0_copy 39 = .ok (.if_icmp .ge 47, 3) := by decide +kernel
theorem dX0_copy_42 : decode cX0_copy 42 = .ok (.aload_n 0, 1) := by decide +kernel
theorem dX0_copy_43 : decode cX0_copy 43 = .ok (.getfield 16, 3) := by decide +kernel
theorem dX0_copy_46 : decode cX0_copy 46 = .ok (.iload_n 3, 1) := by decide +kernel
theorem dX0_copy_47 : decode cX0_copy 47 = .ok (.iload 5, 2) := by decide +kernel
theorem dX0_copy_49 : decode cX0_copy 49 = .ok (.iadd, 1) := by decide +kernel
theorem dX0_copy_50 : decode cX0_copy 50 = .ok (.iaload, 1) := by decide +kernel
theorem dX0_copy_51 : decode cX0_copy 51 = .ok (.aload_n 0, 1) := by decide +kernel
theorem dX0_copy_52 : decode cX0_copy 52 = .ok (.getfield 49, 3) := by decide +kernel
theorem dX0_copy_55 : decode cX0_copy 55 = .ok (.iload 5, 2) := by decide +kernel
theorem dX0_copy_57 : decode cX0_copy 57 = .ok (.iaload, 1) := by decide +kernel
theorem dX0_copy_58 : decode cX0_copy 58 = .ok (.if_icmp .eq 6, 3) := by decide +kernel
theorem dX0_copy_61 : decode cX0_copy 61 = .ok (.iinc 4 1, 3) := by decide +kernel
theorem dX0_copy_64 : decode cX0_copy 64 = .ok (.aload_n 0, 1) := by decide +kernel
theorem dX0_copy_65 : decode cX0_copy 65 = .ok (.getfield 16, 3) := by decide +kernel
theorem dX0_copy_68 : decode cX0_copy 68 = .ok (.iload_n 3, 1) := by decide +kernel
theorem dX0_copy_69 : decode cX0_copy 69 = .ok (.iload 5, 2) := by decide +kernel
theorem dX0_copy_71 : decode cX0_copy 71 = .ok (.iadd, 1) := by decide +kernel
theorem dX0_copy_72 : decode cX0_copy 72 = .ok (.aload_n 0, 1) := by decide +kernel
theorem dX0_copy_73 : decode cX0_copy 73 = .ok (.getfield 49, 3) := by decide +kernel
theorem dX0_copy_76 : decode cX0_copy 76 = .ok (.iload 5, 2) := by decide +kernel
theorem dX0_copy_78 : decode cX0_copy 78 = .ok (.iaload, 1) := by decide +kernel
theorem dX0_copy_79 : decode cX0_copy 79 = .ok (.iastore, 1) := by decide +kernel
theorem dX0_copy_80 : decode cX0_copy 80 = .ok (.iinc 5 1, 3) := by decide +kernel
theorem dX0_copy_83 : decode cX0_copy 83 = .ok (.goto (-48), 3) := by decide +kernel
theorem dX0_copy_86 : decode cX0_copy 86 = .ok (.iload 4, 2) := by decide +kernel
theorem dX0_copy_88 : decode cX0_copy 88 = .ok (.ireturn, 1) := by decide +kernel
theorem dX0_hold_0 : decode cX0_hold 0 = .ok (.aload_n 0, 1) := by decide +kernel
theorem dX0_hold_1 : decode cX0_hold 1 = .ok (.iload_n 1, 1) := by decide +kernel
theorem dX0_hold_2 : decode cX0_hold 2 = .ok (.invokevirtual 119, 3) := by decide +kernel
theorem dX0_hold_5 : decode cX0_hold 5 = .ok (.istore_n 2, 1) := by decide +kernel
theorem dX0_hold_6 : decode cX0_hold 6 = .ok (.iconst 0, 1) := by decide +kernel
theorem dX0_hold_7 : decode cX0_hold 7 = .ok (.istore_n 3, 1) := by decide +kernel
theorem dX0_hold_8 : decode cX0_hold 8 = .ok (.iload_n 3, 1) := by decide +kernel
theorem dX0_hold_9 : decode cX0_hold 9 = .ok (.bipush 16, 2) := by decide +kernel
theorem dX0_hold_11 : decode cX0_hold 11 = .ok (.if_icmp .ge 23, 3) := by decide +kernel
theorem dX0_hold_14 : decode cX0_hold 14 = .ok (.aload_n 0, 1) := by decide +kernel
theorem dX0_hold_15 : decode cX0_hold 15 = .ok (.getfield 49, 3) := by decide +kernel
theorem dX0_hold_18 : decode cX0_hold 18 = .ok (.iload_n 3, 1) := by decide +kernel
theorem dX0_hold_19 : decode cX0_hold 19 = .ok (.aload_n 0, 1) := by decide +kernel
theorem dX0_hold_20 : decode cX0_hold 20 = .ok (.getfield 16, 3) := by decide +kernel
theorem dX0_hold_23 : decode cX0_hold 23 = .ok (.iload_n 2, 1) := by decide +kernel
theorem dX0_hold_24 : decode cX0_hold 24 = .ok (.iload_n 3, 1) := by decide +kernel
theorem dX0_hold_25 : decode cX0_hold 25 = .ok (.iadd, 1) := by decide +kernel
theorem dX0_hold_26 : decode cX0_hold 26 = .ok (.iaload, 1) := by decide +kernel
theorem dX0_hold_27 : decode cX0_hold 27 = .ok (.iastore, 1) := by decide +kernel
theorem dX0_hold_28 : decode cX0_hold 28 = .ok (.iinc 3 1, 3) := by decide +kernel
theorem dX0_hold_31 : decode cX0_hold 31 = .ok (.goto (-23), 3) := by decide +kernel
theorem dX0_hold_34 : decode cX0_hold 34 = .ok (.return_, 1) := by decide +kernel
theorem dX0_exchange_0 : decode cX0_exchange 0 = .ok (.aload_n 0, 1) := by decide +kernel
theorem dX0_exchange_1 : decode cX0_exchange 1 = .ok (.iload_n 1, 1) := by decide +kernel
theorem dX0_exchange_2 : decode cX0_exchange 2 = .ok (.invokevirtual 122, 3) := by decide +kernel
theorem dX0_exchange_5 : decode cX0_exchange 5 = .ok (.ifCond .ne 11, 3) := by decide +kernel
theorem dX0_exchange_8 : decode cX0_exchange 8 = .ok (.aload_n 0, 1) := by decide +kernel
theorem dX0_exchange_9 : decode cX0_exchange 9 = .ok (.iload_n 2, 1) := by decide +kernel
theorem dX0_exchange_10 : decode cX0_exchange 10 = .ok (.invokevirtual 122, 3) := by decide +kernel
theorem dX0_exchange_13 : decode cX0_exchange 13 = .ok (.ifCond .eq 5, 3) := by decide +kernel
theorem dX0_exchange_16 : decode cX0_exchange 16 = .ok (.iconst (-1), 1) := by decide +kernel
theorem dX0_exchange_17 : decode cX0_exchange 17 = .ok (.ireturn, 1) := by decide +kernel
theorem dX0_exchange_18 : decode cX0_exchange 18 = .ok (.aload_n 0, 1) := by decide +kernel
theorem dX0_exchange_19 : decode cX0_exchange 19 = .ok (.getfield 7, 3) := by decide +kernel
theorem dX0_exchange_22 : decode cX0_exchange 22 = .ok (.iload_n 1, 1) := by decide +kernel
theorem dX0_exchange_23 : decode cX0_exchange 23 = .ok (.iaload, 1) := by decide +kernel
theorem dX0_exchange_24 : decode cX0_exchange 24 = .ok (.istore_n 3, 1) := by decide +kernel
theorem dX0_exchange_25 : decode cX0_exchange 25 = .ok (.aload_n 0, 1) := by decide +kernel
theorem dX0_exchange_26 : decode cX0_exchange 26 = .ok (.getfield 13, 3) := by decide +kernel
theorem dX0_exchange_29 : decode cX0_exchange 29 = .ok (.iload_n 1, 1) := by decide +kernel
theorem dX0_exchange_30 : decode cX0_exchange 30 = .ok (.iaload, 1) := by decide +kernel
theorem dX0_exchange_31 : decode cX0_exchange 31 = .ok (.istore 4, 2) := by decide +kernel
theorem dX0_exchange_33 : decode cX0_exchange 33 = .ok (.aload_n 0, 1) := by decide +kernel
theorem dX0_exchange_34 : decode cX0_exchange 34 = .ok (.getfield 7, 3) := by decide +kernel
theorem dX0_exchange_37 : decode cX0_exchange 37 = .ok (.iload_n 1, 1) := by decide +kernel
theorem dX0_exchange_38 : decode cX0_exchange 38 = .ok (.aload_n 0, 1) := by decide +kernel
theorem dX0_exchange_39 : decode cX0_exchange 39 = .ok (.getfield 7, 3) := by decide +kernel
theorem dX0_exchange_42 : decode cX0_exchange 42 = .ok (.iload_n 2, 1) := by decide +kernel
theorem dX0_exchange_43 : decode cX0_exchange 43 = .ok (.iaload, 1) := by decide +kernel
theorem dX0_exchange_44 : decode cX0_exchange 44 = .ok (.iastore, 1) := by decide +kernel
theorem dX0_exchange_45 : decode cX0_exchange 45 = .ok (.aload_n 0, 1) := by decide +kernel
theorem dX0_exchange_46 : decode cX0_exchange 46 = .ok (.getfield 13, 3) := by decide +kernel
theorem dX0_exchange_49 : decode cX0_exchange 49 = .ok (.iload_n 1, 1) := by decide +kernel
theorem dX0_exchange_50 : decode cX0_exchange 50 = .ok (.aload_n 0, 1) := by decide +kernel
theorem dX0_exchange_51 : decode cX0_exchange 51 = .ok (.getfield 13, 3) := by decide +kernel
theorem dX0_exchange_54 : decode cX0_exchange 54 = .ok (.iload_n 2, 1) := by decide +kernel
theorem dX0_exchange_55 : decode cX0_exchange 55 = .ok (.iaload, 1) := by decide +kernel
theorem dX0_exchange_56 : decode cX0_exchange 56 = .ok (.iastore, 1) := by decide +kernel
theorem dX0_exchange_57 : decode cX0_exchange 57 = .ok (.aload_n 0, 1) := by decide +kernel
theorem dX0_exchange_58 : decode cX0_exchange 58 = .ok (.getfield 7, 3) := by decide +kernel
theorem dX0_exchange_61 : decode cX0_exchange 61 = .ok (.iload_n 2, 1) := by decide +kernel
theorem dX0_exchange_62 : decode cX0_exchange 62 = .ok (.iload_n 3, 1) := by decide +kernel
theorem dX0_exchange_63 : decode cX0_exchange 63 = .ok (.iastore, 1) := by decide +kernel
theorem dX0_exchange_64 : decode cX0_exchange 64 = .ok (.aload_n 0, 1) := by decide +kernel
theorem dX0_exchange_65 : decode cX0_exchange 65 = .ok (.getfield 13, 3) := by decide +kernel
theorem dX0_exchange_68 : decode cX0_exchange 68 = .ok (.iload_n 2, 1) := by decide +kernel
theorem dX0_exchange_69 : decode cX0_exchange 69 = .ok (.iload 4, 2) := by decide +kernel
theorem dX0_exchange_71 : decode cX0_exchange 71 = .ok (.iastore, 1) := by decide +kernel
end
section
set_option maxRecDepth 100000
theorem dX0_exchange_72 : decode cX0_exchange 72 = .ok (.aload_n 0, 1) := by decide +kernel
theorem dX0_exchange_73 : decode cX0_exchange 73 = .ok (.iload_n 1, 1) := by decide +kernel
theorem dX0_exchange_74 : decode cX0_exchange 74 = .ok (.invokevirtual 134, 3) := by decide +kernel
theorem dX0_exchange_77 : decode cX0_exchange 77 = .ok (.aload_n 0, 1) := by decide +kernel
theorem dX0_exchange_78 : decode cX0_exchange 78 = .ok (.iload_n 2, 1) := by decide +kernel
theorem dX0_exchange_79 : decode cX0_exchange 79 = .ok (.invokevirtual 134, 3) := by decide +kernel
theorem dX0_exchange_82 : decode cX0_exchange 82 = .ok (.iconst 0, 1) := by decide +kernel
theorem dX0_exchange_83 : decode cX0_exchange 83 = .ok (.ireturn, 1) := by decide +kernel
theorem dX0_claim_0 : decode cX0_claim 0 = .ok (.aload_n 0, 1) := by decide +kernel
theorem dX0_claim_1 : decode cX0_claim 1 = .ok (.getfield 7, 3) := by decide +kernel
theorem dX0_claim_4 : decode cX0_claim 4 = .ok (.iload_n 1, 1) := by decide +kernel
theorem dX0_claim_5 : decode cX0_claim 5 = .ok (.iaload, 1) := by decide +kernel
theorem dX0_claim_6 : decode cX0_claim 6 = .ok (.iconst 1, 1) := by decide +kernel
theorem dX0_claim_7 : decode cX0_claim 7 = .ok (.if_icmp .ne 18, 3) := by decide +kernel
theorem dX0_claim_10 : decode cX0_claim 10 = .ok (.aload_n 0, 1) := by decide +kernel
theorem dX0_claim_11 : decode cX0_claim 11 = .ok (.getfield 19, 3) := by decide +kernel
theorem dX0_claim_14 : decode cX0_claim 14 = .ok (.aload_n 0, 1) := by decide +kernel
theorem dX0_claim_15 : decode cX0_claim 15 = .ok (.getfield 13, 3) := by decide +kernel
theorem dX0_claim_18 : decode cX0_claim 18 = .ok (.iload_n 1, 1) := by decide +kernel
theorem dX0_claim_19 : decode cX0_claim 19 = .ok (.iaload, 1) := by decide +kernel
theorem dX0_claim_20 : decode cX0_claim 20 = .ok (.iload_n 1, 1) := by decide +kernel
theorem dX0_claim_21 : decode cX0_claim 21 = .ok (.iastore, 1) := by decide +kernel
theorem dX0_claim_22 : decode cX0_claim 22 = .ok (.goto 50, 3) := by decide +kernel
theorem dX0_claim_25 : decode cX0_claim 25 = .ok (.aload_n 0, 1) := by decide +kernel
theorem dX0_claim_26 : decode cX0_claim 26 = .ok (.getfield 7, 3) := by decide +kernel
theorem dX0_claim_29 : decode cX0_claim 29 = .ok (.iload_n 1, 1) := by decide +kernel
theorem dX0_claim_30 : decode cX0_claim 30 = .ok (.iaload, 1) := by decide +kernel
theorem dX0_claim_31 : decode cX0_claim 31 = .ok (.iconst 2, 1) := by decide +kernel
theorem dX0_claim_32 : decode cX0_claim 32 = .ok (.if_icmp .ne 18, 3) := by decide +kernel
theorem dX0_claim_35 : decode cX0_claim 35 = .ok (.aload_n 0, 1) := by decide +kernel
theorem dX0_claim_36 : decode cX0_claim 36 = .ok (.getfield 28, 3) := by decide +kernel
theorem dX0_claim_39 : decode cX0_claim 39 = .ok (.aload_n 0, 1) := by decide +kernel
theorem dX0_claim_40 : decode cX0_claim 40 = .ok (.getfield 13, 3) := by decide +kernel
theorem dX0_claim_43 : decode cX0_claim 43 = .ok (.iload_n 1, 1) := by decide +kernel
theorem dX0_claim_44 : decode cX0_claim 44 = .ok (.iaload, 1) := by decide +kernel
theorem dX0_claim_45 : decode cX0_claim 45 = .ok (.iload_n 1, 1) := by decide +kernel
theorem dX0_claim_46 : decode cX0_claim 46 = .ok (.iastore, 1) := by decide +kernel
theorem dX0_claim_47 : decode cX0_claim 47 = .ok (.goto 25, 3) := by decide +kernel
theorem dX0_claim_50 : decode cX0_claim 50 = .ok (.aload_n 0, 1) := by decide +kernel
theorem dX0_claim_51 : decode cX0_claim 51 = .ok (.getfield 7, 3) := by decide +kernel
theorem dX0_claim_54 : decode cX0_claim 54 = .ok (.iload_n 1, 1) := by decide +kernel
theorem dX0_claim_55 : decode cX0_claim 55 = .ok (.iaload, 1) := by decide +kernel
theorem dX0_claim_56 : decode cX0_claim 56 = .ok (.iconst 3, 1) := by decide +kernel
theorem dX0_claim_57 : decode cX0_claim 57 = .ok (.if_icmp .ne 15, 3) := by decide +kernel
theorem dX0_claim_60 : decode cX0_claim 60 = .ok (.aload_n 0, 1) := by decide +kernel
theorem dX0_claim_61 : decode cX0_claim 61 = .ok (.getfield 40, 3) := by decide +kernel
theorem dX0_claim_64 : decode cX0_claim 64 = .ok (.aload_n 0, 1) := by decide +kernel
theorem dX0_claim_65 : decode cX0_claim 65 = .ok (.getfield 13, 3) := by decide +kernel
theorem dX0_claim_68 : decode cX0_claim 68 = .ok (.iload_n 1, 1) := by decide +kernel
theorem dX0_claim_69 : decode cX0_claim 69 = .ok (.iaload, 1) := by decide +kernel
theorem dX0_claim_70 : decode cX0_claim 70 = .ok (.iload_n 1, 1) := by decide +kernel
theorem dX0_claim_71 : decode cX0_claim 71 = .ok (.iastore, 1) := by decide +kernel
theorem dX0_claim_72 : decode cX0_claim 72 = .ok (.return_, 1) := by decide +kernel
theorem dX0_move_0 : decode cX0_move 0 = .ok (.aload_n 0, 1) := by decide +kernel
theorem dX0_move_1 : decode cX0_move 1 = .ok (.iload_n 1, 1) := by decide +kernel
theorem dX0_move_2 : decode cX0_move 2 = .ok (.invokevirtual 122, 3) := by decide +kernel
theorem dX0_move_5 : decode cX0_move 5 = .ok (.ifCond .ne 19, 3) := by decide +kernel
theorem dX0_move_8 : decode cX0_move 8 = .ok (.aload_n 0, 1) := by decide +kernel
theorem dX0_move_9 : decode cX0_move 9 = .ok (.iload_n 2, 1) := by decide +kernel
theorem dX0_move_10 : decode cX0_move 10 = .ok (.invokevirtual 125, 3) := by decide +kernel
theorem dX0_move_13 : decode cX0_move 13 = .ok (.ifCond .ne 11, 3) := by decide +kernel
theorem dX0_move_16 : decode cX0_move 16 = .ok (.aload_n 0, 1) := by decide +kernel
theorem dX0_move_17 : decode cX0_move 17 = .ok (.iload_n 3, 1) := by decide +kernel
theorem dX0_move_18 : decode cX0_move 18 = .ok (.invokevirtual 125, 3) := by decide +kernel
theorem dX0_move_21 : decode cX0_move 21 = .ok (.ifCond .eq 5, 3) := by decide +kernel
theorem dX0_move_24 : decode cX0_move 24 = .ok (.iconst (-1), 1) := by decide +kernel
theorem dX0_move_25 : decode cX0_move 25 = .ok (.ireturn, 1) := by decide +kernel
theorem dX0_move_26 : decode cX0_move 26 = .ok (.iload 4, 2) := by decide +kernel
theorem dX0_move_28 : decode cX0_move 28 = .ok (.ifCond .lt 28, 3) := by decide +kernel
theorem dX0_move_31 : decode cX0_move 31 = .ok (.iload 4, 2) := by decide +kernel
theorem dX0_move_33 : decode cX0_move 33 = .ok (.bipush 16, 2) := by decide +kernel
theorem dX0_move_35 : decode cX0_move 35 = .ok (.if_icmp .gt 21, 3) := by decide +kernel
theorem dX0_move_38 : decode cX0_move 38 = .ok (.iload_n 2, 1) := by decide +kernel
theorem dX0_move_39 : decode cX0_move 39 = .ok (.iload 4, 2) := by decide +kernel
theorem dX0_move_41 : decode cX0_move 41 = .ok (.iadd, 1) := by decide +kernel
theorem dX0_move_42 : decode cX0_move 42 = .ok (.bipush 16, 2) := by decide +kernel
theorem dX0_move_44 : decode cX0_move 44 = .ok (.if_icmp .gt 12, 3) := by decide +kernel
theorem dX0_move_47 : decode cX0_move 47 = .ok (.iload_n 3, 1) := by decide +kernel
theorem dX0_move_48 : decode cX0_move 48 = .ok (.iload 4, 2) := by decide +kernel
theorem dX0_move_50 : decode cX0_move 50 = .ok (.iadd, 1) := by decide +kernel
theorem dX0_move_51 : decode cX0_move 51 = .ok (.bipush 16, 2) := by decide +kernel
theorem dX0_move_53 : decode cX0_move 53 = .ok (.if_icmp .le 5, 3) := by decide +kernel
theorem dX0_move_56 : decode cX0_move 56 = .ok (.iconst (-1), 1) := by decide +kernel
theorem dX0_move_57 : decode cX0_move 57 = .ok (.ireturn, 1) := by decide +kernel
theorem dX0_move_58 : decode cX0_move 58 = .ok (.aload_n 0, 1) := by decide +kernel
theorem dX0_move_59 : decode cX0_move 59 = .ok (.iload_n 1, 1) := by decide +kernel
theorem dX0_move_60 : decode cX0_move 60 = .ok (.invokevirtual 119, 3) := by decide +kernel
theorem dX0_move_63 : decode cX0_move 63 = .ok (.istore 5, 2) := by decide +kernel
theorem dX0_move_65 : decode cX0_move 65 = .ok (.iconst 0, 1) := by decide +kernel
theorem dX0_move_66 : decode cX0_move 66 = .ok (.istore 6, 2) := by decide +kernel
theorem dX0_move_68 : decode cX0_move 68 = .ok (.iload 6, 2) := by decide +kernel
theorem dX0_move_70 : decode cX0_move 70 = .ok (.iload 4, 2) := by decide +kernel
theorem dX0_move_72 : decode cX0_move 72 = .ok (.if_icmp .ge 33, 3) := by decide +kernel
theorem dX0_move_75 : decode cX0_move 75 = .ok (.aload_n 0, 1) := by decide +kernel
theorem dX0_move_76 : decode cX0_move 76 = .ok (.getfield 16, 3) := by decide +kernel
theorem dX0_move_79 : decode cX0_move 79 = .ok (.iload 5, 2) := by decide +kernel
theorem dX0_move_81 : decode cX0_move 81 = .ok (.iload_n 3, 1) := by decide +kernel
theorem dX0_move_82 : decode cX0_move 82 = .ok (.iadd, 1) := by decide +kernel
theorem dX0_move_83 : decode cX0_move 83 = .ok (.iload 6, 2) := by decide +kernel
theorem dX0_move_85 : decode cX0_move 85 = .ok (.iadd, 1) := by decide +kernel
theorem dX0_move_86 : decode cX0_move 86 = .ok (.aload_n 0, 1) := by decide +kernel
theorem dX0_move_87 : decode cX0_move 87 = .ok (.getfield 16, 3) := by decide +kernel
theorem dX0_move_90 : decode cX0_move 90 = .ok (.iload 5, 2) := by decide +kernel
theorem dX0_move_92 : decode cX0_move 92 = .ok (.iload_n 2, 1) := by decide +kernel
theorem dX0_move_93 : decode cX0_move 93 = .ok (.iadd, 1) := by decide +kernel
theorem dX0_move_94 : decode cX0_move 94 = .ok (.iload 6, 2) := by decide +kernel
theorem dX0_move_96 : decode cX0_move 96 = .ok (.iadd, 1) := by decide +kernel
theorem dX0_move_97 : decode cX0_move 97 = .ok (.iaload, 1) := by decide +kernel
theorem dX0_move_98 : decode cX0_move 98 = .ok (.iastore, 1) := by decide +kernel
theorem dX0_move_99 : decode cX0_move 99 = .ok (.iinc 6 1, 3) := by decide +kernel
theorem dX0_move_102 : decode cX0_move 102 = .ok (.goto (-34), 3) := by decide +kernel
theorem dX0_move_105 : decode cX0_move 105 = .ok (.iconst 0, 1) := by decide +kernel
theorem dX0_move_106 : decode cX0_move 106 = .ok (.ireturn, 1) := by decide +kernel
theorem dX0_mix_0 : decode cX0_mix 0 = .ok (.aload_n 0, 1) := by decide +kernel
theorem dX0_mix_1 : decode cX0_mix 1 = .ok (.iload_n 1, 1) := by decide +kernel
theorem dX0_mix_2 : decode cX0_mix 2 = .ok (.invokevirtual 122, 3) := by decide +kernel
theorem dX0_mix_5 : decode cX0_mix 5 = .ok (.ifCond .ne 11, 3) := by decide +kernel
theorem dX0_mix_8 : decode cX0_mix 8 = .ok (.aload_n 0, 1) := by decide +kernel
theorem dX0_mix_9 : decode cX0_mix 9 = .ok (.iload_n 2, 1) := by decide +kernel
theorem dX0_mix_10 : decode cX0_mix 10 = .ok (.invokevirtual 122, 3) := by decide +kernel
theorem dX0_mix_13 : decode cX0_mix 13 = .ok (.ifCond .eq 5, 3) := by decide +kernel
theorem dX0_mix_16 : decode cX0_mix 16 = .ok (.iconst (-1), 1) := by decide +kernel
theorem dX0_mix_17 : decode cX0_mix 17 = .ok (.ireturn, 1) := by decide +kernel
theorem dX0_mix_18 : decode cX0_mix 18 = .ok (.aload_n 0, 1) := by decide +kernel
theorem dX0_mix_19 : decode cX0_mix 19 = .ok (.iload_n 2, 1) := by decide +kernel
theorem dX0_mix_20 : decode cX0_mix 20 = .ok (.invokevirtual 131, 3) := by decide +kernel
theorem dX0_mix_23 : decode cX0_mix 23 = .ok (.aload_n 0, 1) := by decide +kernel
theorem dX0_mix_24 : decode cX0_mix 24 = .ok (.iload_n 1, 1) := by decide +kernel
theorem dX0_mix_25 : decode cX0_mix 25 = .ok (.invokevirtual 119, 3) := by decide +kernel
theorem dX0_mix_28 : decode cX0_mix 28 = .ok (.istore_n 3, 1) := by decide +kernel
theorem dX0_mix_29 : decode cX0_mix 29 = .ok (.iconst 0, 1) := by decide +kernel
theorem dX0_mix_30 : decode cX0_mix 30 = .ok (.istore 4, 2) := by decide +kernel
theorem dX0_mix_32 : decode cX0_mix 32 = .ok (.iload 4, 2) := by decide +kernel
theorem dX0_mix_34 : decode cX0_mix 34 = .ok (.bipush 16, 2) := by decide +kernel
theorem dX0_mix_36 : decode cX0_mix 36 = .ok (.if_icmp .ge 35, 3) := by decide +kernel
theorem dX0_mix_39 : decode cX0_mix 39 = .ok (.aload_n 0, 1) := by decide +kernel
theorem dX0_mix_40 : decode cX0_mix 40 = .ok (.getfield 16, 3) := by decide +kernel
theorem dX0_mix_43 : decode cX0_mix 43 = .ok (.iload_n 3, 1) := by decide +kernel
theorem dX0_mix_44 : decode cX0_mix 44 = .ok (.iload 4, 2) := by decide +kernel
theorem dX0_mix_46 : decode cX0_mix 46 = .ok (.iadd, 1) := by decide +kernel
theorem dX0_mix_47 : decode cX0_mix 47 = .ok (.aload_n 0, 1) := by decide +kernel
theorem dX0_mix_48 : decode cX0_mix 48 = .ok (.getfield 16, 3) := by decide +kernel
theorem dX0_mix_51 : decode cX0_mix 51 = .ok (.iload_n 3, 1) := by decide +kernel
theorem dX0_mix_52 : decode cX0_mix 52 = .ok (.iload 4, 2) := by decide +kernel
theorem dX0_mix_54 : decode cX0_mix 54 = .ok (.iadd, 1) := by decide +kernel
theorem dX0_mix_55 : decode cX0_mix 55 = .ok (.iaload, 1) := by decide +kernel
theorem dX0_mix_56 : decode cX0_mix 56 = .ok (.aload_n 0, 1) := by decide +kernel
theorem dX0_mix_57 : decode cX0_mix 57 = .ok (.getfield 49, 3) := by decide +kernel
theorem dX0_mix_60 : decode cX0_mix 60 = .ok (.iload 4, 2) := by decide +kernel
theorem dX0_mix_62 : decode cX0_mix 62 = .ok (.iaload, 1) := by decide +kernel
theorem dX0_mix_63 : decode cX0_mix 63 = .ok (.ixor, 1) := by decide +kernel
theorem dX0_mix_64 : decode cX0_mix 64 = .ok (.iastore, 1) := by decide +kernel
theorem dX0_mix_65 : decode cX0_mix 65 = .ok (.iinc 4 1, 3) := by decide +kernel
theorem dX0_mix_68 : decode cX0_mix 68 = .ok (.goto (-36), 3) := by decide +kernel
theorem dX0_mix_71 : decode cX0_mix 71 = .ok (.iconst 0, 1) := by decide +kernel
theorem dX0_mix_72 : decode cX0_mix 72 = .ok (.ireturn, 1) := by decide +kernel
theorem dX0_drop_0 : decode cX0_drop 0 = .ok (.aload_n 0, 1) := by decide +kernel
theorem dX0_drop_1 : decode cX0_drop 1 = .ok (.iload_n 1, 1) := by decide +kernel
theorem dX0_drop_2 : decode cX0_drop 2 = .ok (.invokevirtual 122, 3) := by decide +kernel
theorem dX0_drop_5 : decode cX0_drop 5 = .ok (.ifCond .eq 5, 3) := by decide +kernel
theorem dX0_drop_8 : decode cX0_drop 8 = .ok (.iconst (-1), 1) := by decide +kernel
theorem dX0_drop_9 : decode cX0_drop 9 = .ok (.ireturn, 1) := by decide +kernel
theorem dX0_drop_10 : decode cX0_drop 10 = .ok (.aload_n 0, 1) := by decide +kernel
theorem dX0_drop_11 : decode cX0_drop 11 = .ok (.iload_n 1, 1) := by decide +kernel
theorem dX0_drop_12 : decode cX0_drop 12 = .ok (.invokevirtual 116, 3) := by decide +kernel
theorem dX0_drop_15 : decode cX0_drop 15 = .ok (.iconst 0, 1) := by decide +kernel
theorem dX0_drop_16 : decode cX0_drop 16 = .ok (.ireturn, 1) := by decide +kernel
theorem dX0_sum_0 : decode cX0_sum 0 = .ok (.aload_n 0, 1) := by decide +kernel
theorem dX0_sum_1 : decode cX0_sum 1 = .ok (.iload_n 1, 1) := by decide +kernel
theorem dX0_sum_2 : decode cX0_sum 2 = .ok (.invokevirtual 122, 3) := by decide +kernel
theorem dX0_sum_5 : decode cX0_sum 5 = .ok (.ifCond .eq 5, 3) := by decide +kernel
theorem dX0_sum_8 : decode cX0_sum 8 = .ok (.iconst (-1), 1) := by decide +kernel
theorem dX0_sum_9 : decode cX0_sum 9 = .ok (.ireturn, 1) := by decide +kernel
theorem dX0_sum_10 : decode cX0_sum 10 = .ok (.aload_n 0, 1) := by decide +kernel
theorem dX0_sum_11 : decode cX0_sum 11 = .ok (.iload_n 1, 1) := by decide +kernel
theorem dX0_sum_12 : decode cX0_sum 12 = .ok (.invokevirtual 119, 3) := by decide +kernel
theorem dX0_sum_15 : decode cX0_sum 15 = .ok (.istore_n 2, 1) := by decide +kernel
theorem dX0_sum_16 : decode cX0_sum 16 = .ok (.iconst 0, 1) := by decide +kernel
theorem dX0_sum_17 : decode cX0_sum 17 = .ok (.istore_n 3, 1) := by decide +kernel
theorem dX0_sum_18 : decode cX0_sum 18 = .ok (.iconst 0, 1) := by decide +kernel
theorem dX0_sum_19 : decode cX0_sum 19 = .ok (.istore 4, 2) := by decide +kernel
theorem dX0_sum_21 : decode cX0_sum 21 = .ok (.iload 4, 2) := by decide +kernel
theorem dX0_sum_23 : decode cX0_sum 23 = .ok (.bipush 16, 2) := by decide +kernel
theorem dX0_sum_25 : decode cX0_sum 25 = .ok (.if_icmp .ge 26, 3) := by decide +kernel
theorem dX0_sum_28 : decode cX0_sum 28 = .ok (.iload_n 3, 1) := by decide +kernel
theorem dX0_sum_29 : decode cX0_sum 29 = .ok (.iload 4, 2) := by decide +kernel
theorem dX0_sum_31 : decode cX0_sum 31 = .ok (.iconst 1, 1) := by decide +kernel
theorem dX0_sum_32 : decode cX0_sum 32 = .ok (.iadd, 1) := by decide +kernel
theorem dX0_sum_33 : decode cX0_sum 33 = .ok (.aload_n 0, 1) := by decide +kernel
theorem dX0_sum_34 : decode cX0_sum 34 = .ok (.getfield 16, 3) := by decide +kernel
theorem dX0_sum_37 : decode cX0_sum 37 = .ok (.iload_n 2, 1) := by decide +kernel
theorem dX0_sum_38 : decode cX0_sum 38 = .ok (.iload 4, 2) := by decide +kernel
theorem dX0_sum_40 : decode cX0_sum 40 = .ok (.iadd, 1) := by decide +kernel
theorem dX0_sum_41 : decode cX0_sum 41 = .ok (.iaload, 1) := by decide +kernel
theorem dX0_sum_42 : decode cX0_sum 42 = .ok (.imul, 1) := by decide +kernel
theorem dX0_sum_43 : decode cX0_sum 43 = .ok (.iadd, 1) := by decide +kernel
theorem dX0_sum_44 : decode cX0_sum 44 = .ok (.istore_n 3, 1) := by decide +kernel
theorem dX0_sum_45 : decode cX0_sum 45 = .ok (.iinc 4 1, 3) := by decide +kernel
theorem dX0_sum_48 : decode cX0_sum 48 = .ok (.goto (-27), 3) := by decide +kernel
theorem dX0_sum_51 : decode cX0_sum 51 = .ok (.iload_n 3, 1) := by decide +kernel
theorem dX0_sum_52 : decode cX0_sum 52 = .ok (.ireturn, 1) := by decide +kernel
theorem dX0_differ_0 : decode cX0_differ 0 = .ok (.aload_n 0, 1) := by decide +kernel
theorem dX0_differ_1 : decode cX0_differ 1 = .ok (.iload_n 1, 1) := by decide +kernel
theorem dX0_differ_2 : decode cX0_differ 2 = .ok (.invokevirtual 122, 3) := by decide +kernel
theorem dX0_differ_5 : decode cX0_differ 5 = .ok (.ifCond .ne 11, 3) := by decide +kernel
theorem dX0_differ_8 : decode cX0_differ 8 = .ok (.aload_n 0, 1) := by decide +kernel
theorem dX0_differ_9 : decode cX0_differ 9 = .ok (.iload_n 2, 1) := by decide +kernel
theorem dX0_differ_10 : decode cX0_differ 10 = .ok (.invokevirtual 122, 3) := by decide +kernel
theorem dX0_differ_13 : decode cX0_differ 13 = .ok (.ifCond .eq 5, 3) := by decide +kernel
theorem dX0_differ_16 : decode cX0_differ 16 = .ok (.iconst (-1), 1) := by decide +kernel
theorem dX0_differ_17 : decode cX0_differ 17 = .ok (.ireturn, 1) := by decide +kernel
theorem dX0_differ_18 : decode cX0_differ 18 = .ok (.aload_n 0, 1) := by decide +kernel
theorem dX0_differ_19 : decode cX0_differ 19 = .ok (.iload_n 1, 1) := by decide +kernel
theorem dX0_differ_20 : decode cX0_differ 20 = .ok (.invokevirtual 131, 3) := by decide +kernel
theorem dX0_differ_23 : decode cX0_differ 23 = .ok (.aload_n 0, 1) := by decide +kernel
theorem dX0_differ_24 : decode cX0_differ 24 = .ok (.iload_n 2, 1) := by decide +kernel
theorem dX0_differ_25 : decode cX0_differ 25 = .ok (.invokevirtual 137, 3) := by decide +kernel
theorem dX0_differ_28 : decode cX0_differ 28 = .ok (.ireturn, 1) := by decide +kernel
theorem dX0_firstDifference_0 : decode cX0_firstDifference 0 = .ok (.aload_n 0, 1) := by decide +kernel
theorem dX0_firstDifference_1 : decode cX0_firstDifference 1 = .ok (.iload_n 1, 1) := by decide +kernel
theorem dX0_firstDifference_2 : decode cX0_firstDifference 2 = .ok (.invokevirtual 119, 3) := by decide +kernel
theorem dX0_firstDifference_5 : decode cX0_firstDifference 5 = .ok (.istore_n 2, 1) := by decide +kernel
theorem dX0_firstDifference_6 : decode cX0_firstDifference 6 = .ok (.iconst 0, 1) := by decide +kernel
theorem dX0_firstDifference_7 : decode cX0_firstDifference 7 = .ok (.istore_n 3, 1) := by decide +kernel
theorem dX0_firstDifference_8 : decode cX0_firstDifference 8 = .ok (.iload_n 3, 1) := by decide +kernel
theorem dX0_firstDifference_9 : decode cX0_firstDifference 9 = .ok (.bipush 16, 2) := by decide +kernel
theorem dX0_firstDifference_11 : decode cX0_firstDifference 11 = .ok (.if_icmp .ge 28, 3) := by decide +kernel
theorem dX0_firstDifference_14 : decode cX0_firstDifference 14 = .ok (.aload_n 0, 1) := by decide +kernel
theorem dX0_firstDifference_15 : decode cX0_firstDifference 15 = .ok (.getfield 16, 3) := by decide +kernel
theorem dX0_firstDifference_18 : decode cX0_firstDifference 18 = .ok (.iload_n 2, 1) := by decide +kernel
theorem dX0_firstDifference_19 : decode cX0_firstDifference 19 = .ok (.iload_n 3, 1) := by decide +kernel
theorem dX0_firstDifference_20 : decode cX0_firstDifference 20 = .ok (.iadd, 1) := by decide +kernel
theorem dX0_firstDifference_21 : decode cX0_firstDifference 21 = .ok (.iaload, 1) := by decide +kernel
theorem dX0_firstDifference_22 : decode cX0_firstDifference 22 = .ok (.aload_n 0, 1) := by decide +kernel
theorem dX0_firstDifference_23 : decode cX0_firstDifference 23 = .ok (.getfield 49, 3) := by decide +kernel
theorem dX0_firstDifference_26 : decode cX0_firstDifference 26 = .ok (.iload_n 3, 1) := by decide +kernel
theorem dX0_firstDifference_27 : decode cX0_firstDifference 27 = .ok (.iaload, 1) := by decide +kernel
theorem dX0_firstDifference_28 : decode cX0_firstDifference 28 = .ok (.if_icmp .eq 5, 3) := by decide +kernel
theorem dX0_firstDifference_31 : decode cX0_firstDifference 31 = .ok (.iload_n 3, 1) := by decide +kernel
theorem dX0_firstDifference_32 : decode cX0_firstDifference 32 = .ok (.ireturn, 1) := by decide +kernel
theorem dX0_firstDifference_33 : decode cX0_firstDifference 33 = .ok (.iinc 3 1, 3) := by decide +kernel
theorem dX0_firstDifference_36 : decode cX0_firstDifference 36 = .ok (.goto (-28), 3) := by decide +kernel
theorem dX0_firstDifference_39 : decode cX0_firstDifference 39 = .ok (.bipush (-4), 2) := by decide +kernel
theorem dX0_firstDifference_41 : decode cX0_firstDifference 41 = .ok (.ireturn, 1) := by decide +kernel
theorem dX0_find_0 : decode cX0_find 0 = .ok (.aload_n 0, 1) := by decide +kernel
theorem dX0_find_1 : decode cX0_find 1 = .ok (.iload_n 1, 1) := by decide +kernel
theorem dX0_find_2 : decode cX0_find 2 = .ok (.invokevirtual 122, 3) := by decide +kernel
theorem dX0_find_5 : decode cX0_find 5 = .ok (.ifCond .ne 19, 3) := by decide +kernel
theorem dX0_find_8 : decode cX0_find 8 = .ok (.aload_n 0, 1) := by decide +kernel
theorem dX0_find_9 : decode cX0_find 9 = .ok (.iload_n 2, 1) := by decide +kernel
theorem dX0_find_10 : decode cX0_find 10 = .ok (.invokevirtual 125, 3) := by decide +kernel
theorem dX0_find_13 : decode cX0_find 13 = .ok (.ifCond .ne 11, 3) := by decide +kernel
theorem dX0_find_16 : decode cX0_find 16 = .ok (.aload_n 0, 1) := by decide +kernel
theorem dX0_find_17 : decode cX0_find 17 = .ok (.iload_n 3, 1) := by decide +kernel
theorem dX0_find_18 : decode cX0_find 18 = .ok (.invokevirtual 128, 3) := by decide +kernel
theorem dX0_find_21 : decode cX0_find 21 = .ok (.ifCond .eq 5, 3) := by decide +kernel
theorem dX0_find_24 : decode cX0_find 24 = .ok (.iconst (-1), 1) := by decide +kernel
theorem dX0_find_25 : decode cX0_find 25 = .ok (.ireturn, 1) := by decide +kernel
theorem dX0_find_26 : decode cX0_find 26 = .ok (.aload_n 0, 1) := by decide +kernel
theorem dX0_find_27 : decode cX0_find 27 = .ok (.iload_n 1, 1) := by decide +kernel
theorem dX0_find_28 : decode cX0_find 28 = .ok (.invokevirtual 119, 3) := by decide +kernel
theorem dX0_find_31 : decode cX0_find 31 = .ok (.istore 4, 2) := by decide +kernel
theorem dX0_find_33 : decode cX0_find 33 = .ok (.iload_n 2, 1) := by decide +kernel
theorem dX0_find_34 : decode cX0_find 34 = .ok (.istore 5, 2) := by decide +kernel
theorem dX0_find_36 : decode cX0_find 36 = .ok (.iload 5, 2) := by decide +kernel
theorem dX0_find_38 : decode cX0_find 38 = .ok (.bipush 16, 2) := by decide +kernel
theorem dX0_find_40 : decode cX0_find 40 = .ok (.if_icmp .ge 26, 3) := by decide +kernel
theorem dX0_find_43 : decode cX0_find 43 = .ok (.aload_n 0, 1) := by decide +kernel
theorem dX0_find_44 : decode cX0_find 44 = .ok (.getfield 16, 3) := by decide +kernel
theorem dX0_find_47 : decode cX0_find 47 = .ok (.iload 4, 2) := by decide +kernel
theorem dX0_find_49 : decode cX0_find 49 = .ok (.iload 5, 2) := by decide +kernel
theorem dX0_find_51 : decode cX0_find 51 = .ok (.iadd, 1) := by decide +kernel
theorem dX0_find_52 : decode cX0_find 52 = .ok (.iaload, 1) := by decide +kernel
theorem dX0_find_53 : decode cX0_find 53 = .ok (.iload_n 3, 1) := by decide +kernel
theorem dX0_find_54 : decode cX0_find 54 = .ok (.if_icmp .ne 6, 3) := by decide +kernel
theorem dX0_find_57 : decode cX0_find 57 = .ok (.iload 5, 2) := by decide +kernel
theorem dX0_find_59 : decode cX0_find 59 = .ok (.ireturn, 1) := by decide +kernel
theorem dX0_find_60 : decode cX0_find 60 = .ok (.iinc 5 1, 3) := by decide +kernel
theorem dX0_find_63 : decode cX0_find 63 = .ok (.goto (-27), 3) := by decide +kernel
theorem dX0_find_66 : decode cX0_find 66 = .ok (.bipush (-4), 2) := by decide +kernel
theorem dX0_find_68 : decode cX0_find 68 = .ok (.ireturn, 1) := by decide +kernel
theorem dX0_blank_0 : decode cX0_blank 0 = .ok (.iconst 0, 1) := by decide +kernel
theorem dX0_blank_1 : decode cX0_blank 1 = .ok (.istore_n 1, 1) := by decide +kernel
theorem dX0_blank_2 : decode cX0_blank 2 = .ok (.iconst 0, 1) := by decide +kernel
theorem dX0_blank_3 : decode cX0_blank 3 = .ok (.istore_n 2, 1) := by decide +kernel
theorem dX0_blank_4 : decode cX0_blank 4 = .ok (.iload_n 2, 1) := by decide +kernel
theorem dX0_blank_5 : decode cX0_blank 5 = .ok (.bipush 12, 2) := by decide +kernel
theorem dX0_blank_7 : decode cX0_blank 7 = .ok (.if_icmp .ge 52, 3) := by decide +kernel
theorem dX0_blank_10 : decode cX0_blank 10 = .ok (.aload_n 0, 1) := by decide +kernel
theorem dX0_blank_11 : decode cX0_blank 11 = .ok (.getfield 7, 3) := by decide +kernel
theorem dX0_blank_14 : decode cX0_blank 14 = .ok (.iload_n 2, 1) := by decide +kernel
theorem dX0_blank_15 : decode cX0_blank 15 = .ok (.iaload, 1) := by decide +kernel
theorem dX0_blank_16 : decode cX0_blank 16 = .ok (.ifCond .ne 7, 3) := by decide +kernel
theorem dX0_blank_19 : decode cX0_blank 19 = .ok (.iconst 1, 1) := by decide +kernel
theorem dX0_blank_20 : decode cX0_blank 20 = .ok (.goto 4, 3) := by decide +kernel
theorem dX0_blank_23 : decode cX0_blank 23 = .ok (.iconst 0, 1) := by decide +kernel
theorem dX0_blank_24 : decode cX0_blank 24 = .ok (.istore_n 3, 1) := by decide +kernel
theorem dX0_blank_25 : decode cX0_blank 25 = .ok (.aload_n 0, 1) := by decide +kernel
theorem dX0_blank_26 : decode cX0_blank 26 = .ok (.getfield 7, 3) := by decide +kernel
theorem dX0_blank_29 : decode cX0_blank 29 = .ok (.iload_n 2, 1) := by decide +kernel
theorem dX0_blank_30 : decode cX0_blank 30 = .ok (.iaload, 1) := by decide +kernel
theorem dX0_blank_31 : decode cX0_blank 31 = .ok (.iconst 1, 1) := by decide +kernel
theorem dX0_blank_32 : decode cX0_blank 32 = .ok (.if_icmp .ne 14, 3) := by decide +kernel
theorem dX0_blank_35 : decode cX0_blank 35 = .ok (.aload_n 0, 1) := by decide +kernel
theorem dX0_blank_36 : decode cX0_blank 36 = .ok (.aload_n 0, 1) := by decide +kernel
theorem dX0_blank_37 : decode cX0_blank 37 = .ok (.getfield 13, 3) := by decide +kernel
theorem dX0_blank_40 : decode cX0_blank 40 = .ok (.iload_n 2, 1) := by decide +kernel
theorem dX0_blank_41 : decode cX0_blank 41 = .ok (.iaload, 1) := by decide +kernel
theorem dX0_blank_42 : decode cX0_blank 42 = .ok (.invokevirtual 90, 3) := by decide +kernel
theorem dX0_blank_45 : decode cX0_blank 45 = .ok (.istore_n 3, 1) := by decide +kernel
theorem dX0_blank_46 : decode cX0_blank 46 = .ok (.iload_n 3, 1) := by decide +kernel
theorem dX0_blank_47 : decode cX0_blank 47 = .ok (.ifCond .eq 6, 3) := by decide +kernel
theorem dX0_blank_50 : decode cX0_blank 50 = .ok (.iinc 1 1, 3) := by decide +kernel
theorem dX0_blank_53 : decode cX0_blank 53 = .ok (.iinc 2 1, 3) := by decide +kernel
theorem dX0_blank_56 : decode cX0_blank 56 = .ok (.goto (-52), 3) := by decide +kernel
theorem dX0_blank_59 : decode cX0_blank 59 = .ok (.iload_n 1, 1) := by decide +kernel
theorem dX0_blank_60 : decode cX0_blank 60 = .ok (.ireturn, 1) := by decide +kernel
theorem dX0_twin_0 : decode cX0_twin 0 = .ok (.aload_n 0, 1) := by decide +kernel
theorem dX0_twin_1 : decode cX0_twin 1 = .ok (.iload_n 1, 1) := by decide +kernel
theorem dX0_twin_2 : decode cX0_twin 2 = .ok (.invokevirtual 122, 3) := by decide +kernel
theorem dX0_twin_5 : decode cX0_twin 5 = .ok (.ifCond .eq 5, 3) := by decide +kernel
theorem dX0_twin_8 : decode cX0_twin 8 = .ok (.iconst (-1), 1) := by decide +kernel
theorem dX0_twin_9 : decode cX0_twin 9 = .ok (.ireturn, 1) := by decide +kernel
theorem dX0_twin_10 : decode cX0_twin 10 = .ok (.aload_n 0, 1) := by decide +kernel
theorem dX0_twin_11 : decode cX0_twin 11 = .ok (.iload_n 1, 1) := by decide +kernel
theorem dX0_twin_12 : decode cX0_twin 12 = .ok (.invokevirtual 131, 3) := by decide +kernel
theorem dX0_twin_15 : decode cX0_twin 15 = .ok (.iconst 0, 1) := by decide +kernel
theorem dX0_twin_16 : decode cX0_twin 16 = .ok (.istore_n 2, 1) := by decide +kernel
theorem dX0_twin_17 : decode cX0_twin 17 = .ok (.iload_n 2, 1) := by decide +kernel
theorem dX0_twin_18 : decode cX0_twin 18 = .ok (.bipush 12, 2) := by decide +kernel
theorem dX0_twin_20 : decode cX0_twin 20 = .ok (.if_icmp .ge 28, 3) := by decide +kernel
theorem dX0_twin_23 : decode cX0_twin 23 = .ok (.iload_n 2, 1) := by decide +kernel
theorem dX0_twin_24 : decode cX0_twin 24 = .ok (.iload_n 1, 1) := by decide +kernel
theorem dX0_twin_25 : decode cX0_twin 25 = .ok (.if_icmp .eq 17, 3) := by decide +kernel
theorem dX0_twin_28 : decode cX0_twin 28 = .ok (.aload_n 0, 1) := by decide +kernel
theorem dX0_twin_29 : decode cX0_twin 29 = .ok (.iload_n 2, 1) := by decide +kernel
theorem dX0_twin_30 : decode cX0_twin 30 = .ok (.invokevirtual 137, 3) := by decide +kernel
theorem dX0_twin_33 : decode cX0_twin 33 = .ok (.istore_n 3, 1) := by decide +kernel
theorem dX0_twin_34 : decode cX0_twin 34 = .ok (.iload_n 3, 1) := by decide +kernel
theorem dX0_twin_35 : decode cX0_twin 35 = .ok (.bipush (-4), 2) := by decide +kernel
theorem dX0_twin_37 : decode cX0_twin 37 = .ok (.if_icmp .ne 5, 3) := by decide +kernel
theorem dX0_twin_40 : decode cX0_twin 40 = .ok (.iload_n 2, 1) := by decide +kernel
theorem dX0_twin_41 : decode cX0_twin 41 = .ok (.ireturn, 1) := by decide +kernel
theorem dX0_twin_42 : decode cX0_twin 42 = .ok (.iinc 2 1, 3) := by decide +kernel
theorem dX0_twin_45 : decode cX0_twin 45 = .ok (.goto (-28), 3) := by decide +kernel
theorem dX0_twin_48 : decode cX0_twin 48 = .ok (.bipush (-4), 2) := by decide +kernel
theorem dX0_twin_50 : decode cX0_twin 50 = .ok (.ireturn, 1) := by decide +kernel
theorem dX0_away_0 : decode cX0_away 0 = .ok (.aload_n 0, 1) := by decide +kernel
theorem dX0_away_1 : decode cX0_away 1 = .ok (.iload_n 1, 1) := by decide +kernel
theorem dX0_away_2 : decode cX0_away 2 = .ok (.invokevirtual 122, 3) := by decide +kernel
theorem dX0_away_5 : decode cX0_away 5 = .ok (.ifCond .eq 5, 3) := by decide +kernel
theorem dX0_away_8 : decode cX0_away 8 = .ok (.iconst (-1), 1) := by decide +kernel
theorem dX0_away_9 : decode cX0_away 9 = .ok (.ireturn, 1) := by decide +kernel
theorem dX0_away_10 : decode cX0_away 10 = .ok (.aload_n 0, 1) := by decide +kernel
theorem dX0_away_11 : decode cX0_away 11 = .ok (.getfield 7, 3) := by decide +kernel
theorem dX0_away_14 : decode cX0_away 14 = .ok (.iload_n 1, 1) := by decide +kernel
theorem dX0_away_15 : decode cX0_away 15 = .ok (.iaload, 1) := by decide +kernel
theorem dX0_away_16 : decode cX0_away 16 = .ok (.iconst 1, 1) := by decide +kernel
theorem dX0_away_17 : decode cX0_away 17 = .ok (.if_icmp .ne 13, 3) := by decide +kernel
theorem dX0_away_20 : decode cX0_away 20 = .ok (.aload_n 0, 1) := by decide +kernel
theorem dX0_away_21 : decode cX0_away 21 = .ok (.aload_n 0, 1) := by decide +kernel
theorem dX0_away_22 : decode cX0_away 22 = .ok (.getfield 13, 3) := by decide +kernel
theorem dX0_away_25 : decode cX0_away 25 = .ok (.iload_n 1, 1) := by decide +kernel
theorem dX0_away_26 : decode cX0_away 26 = .ok (.iaload, 1) := by decide +kernel
theorem dX0_away_27 : decode cX0_away 27 = .ok (.invokevirtual 110, 3) := by decide +kernel
theorem dX0_away_30 : decode cX0_away 30 = .ok (.iconst 0, 1) := by decide +kernel
theorem dX0_away_31 : decode cX0_away 31 = .ok (.ireturn, 1) := by decide +kernel
theorem dX0_flush_0 : decode cX0_flush 0 = .ok (.iconst 0, 1) := by decide +kernel
theorem dX0_flush_1 : decode cX0_flush 1 = .ok (.istore_n 2, 1) := by decide +kernel
theorem dX0_flush_2 : decode cX0_flush 2 = .ok (.iload_n 2, 1) := by decide +kernel
theorem dX0_flush_3 : decode cX0_flush 3 = .ok (.iload_n 1, 1) := by decide +kernel
theorem dX0_flush_4 : decode cX0_flush 4 = .ok (.if_icmp .ge 28, 3) := by decide +kernel
theorem dX0_flush_7 : decode cX0_flush 7 = .ok (.iload_n 2, 1) := by decide +kernel
theorem dX0_flush_8 : decode cX0_flush 8 = .ok (.iconst 4, 1) := by decide +kernel
theorem dX0_flush_9 : decode cX0_flush 9 = .ok (.if_icmp .ge 23, 3) := by decide +kernel
theorem dX0_flush_12 : decode cX0_flush 12 = .ok (.aload_n 0, 1) := by decide +kernel
theorem dX0_flush_13 : decode cX0_flush 13 = .ok (.invokevirtual 100, 3) := by decide +kernel
theorem dX0_flush_16 : decode cX0_flush 16 = .ok (.istore_n 3, 1) := by decide +kernel
theorem dX0_flush_17 : decode cX0_flush 17 = .ok (.iload_n 3, 1) := by decide +kernel
theorem dX0_flush_18 : decode cX0_flush 18 = .ok (.ifCond .lt 8, 3) := by decide +kernel
theorem dX0_flush_21 : decode cX0_flush 21 = .ok (.aload_n 0, 1) := by decide +kernel
theorem dX0_flush_22 : decode cX0_flush 22 = .ok (.iload_n 3, 1) := by decide +kernel
theorem dX0_flush_23 : decode cX0_flush 23 = .ok (.invokevirtual 104, 3) := by decide +kernel
theorem dX0_flush_26 : decode cX0_flush 26 = .ok (.iinc 2 1, 3) := by decide +kernel
theorem dX0_flush_29 : decode cX0_flush 29 = .ok (.goto (-27), 3) := by decide +kernel
theorem dX0_flush_32 : decode cX0_flush 32 = .ok (.return_, 1) := by decide +kernel
theorem dX0_rest_0 : decode cX0_rest 0 = .ok (.iconst 0, 1) := by decide +kernel
theorem dX0_rest_1 : decode cX0_rest 1 = .ok (.istore_n 2, 1) := by decide +kernel
theorem dX0_rest_2 : decode cX0_rest 2 = .ok (.iload_n 2, 1) := by decide +kernel
theorem dX0_rest_3 : decode cX0_rest 3 = .ok (.iload_n 1, 1) := by decide +kernel
theorem dX0_rest_4 : decode cX0_rest 4 = .ok (.if_icmp .ge 21, 3) := by decide +kernel
theorem dX0_rest_7 : decode cX0_rest 7 = .ok (.iload_n 2, 1) := by decide +kernel
theorem dX0_rest_8 : decode cX0_rest 8 = .ok (.bipush 12, 2) := by decide +kernel
theorem dX0_rest_10 : decode cX0_rest 10 = .ok (.if_icmp .ge 15, 3) := by decide +kernel
theorem dX0_rest_13 : decode cX0_rest 13 = .ok (.aload_n 0, 1) := by decide +kernel
theorem dX0_rest_14 : decode cX0_rest 14 = .ok (.iload_n 2, 1) := by decide +kernel
theorem dX0_rest_15 : decode cX0_rest 15 = .ok (.invokevirtual 119, 3) := by decide +kernel
theorem dX0_rest_18 : decode cX0_rest 18 = .ok (.pop, 1) := by decide +kernel
theorem dX0_rest_19 : decode cX0_rest 19 = .ok (.iinc 2 1, 3) := by decide +kernel
theorem dX0_rest_22 : decode cX0_rest 22 = .ok (.goto (-20), 3) := by decide +kernel
theorem dX0_rest_25 : decode cX0_rest 25 = .ok (.return_, 1) := by decide +kernel
end
section
set_option maxRecDepth 100000
theorem dX1_init_0 : decode cX1_init 0 = .ok (.aload_n 0, 1) := by decide +kernel
theorem dX1_init_1 : decode cX1_init 1 = .ok (.invokespecial 1, 3) := by decide +kernel
theorem dX1_init_4 : decode cX1_init 4 = .ok (.aload_n 0, 1) := by decide +kernel
theorem dX1_init_5 : decode cX1_init 5 = .ok (.sipush 192, 3) := by decide +kernel
theorem dX1_init_8 : decode cX1_init 8 = .ok (.newarray .int, 2) := by decide +kernel
theorem dX1_init_10 : decode cX1_init 10 = .ok (.putfield 7, 3) := by decide +kernel
theorem dX1_init_13 : decode cX1_init 13 = .ok (.return_, 1) := by decide +kernel
theorem dX1_write_0 : decode cX1_write 0 = .ok (.aload_n 0, 1) := by decide +kernel
theorem dX1_write_1 : decode cX1_write 1 = .ok (.iload_n 1, 1) := by decide +kernel
theorem dX1_write_2 : decode cX1_write 2 = .ok (.invokevirtual 13, 3) := by decide +kernel
theorem dX1_write_5 : decode cX1_write 5 = .ok (.ifCond .eq 19, 3) := by decide +kernel
theorem dX1_write_8 : decode cX1_write 8 = .ok (.aload_n 0, 1) := by decide +kernel
theorem dX1_write_9 : decode cX1_write 9 = .ok (.iload_n 2, 1) := by decide +kernel
theorem dX1_write_10 : decode cX1_write 10 = .ok (.invokevirtual 17, 3) := by decide +kernel
theorem dX1_write_13 : decode cX1_write 13 = .ok (.ifCond .eq 11, 3) := by decide +kernel
theorem dX1_write_16 : decode cX1_write 16 = .ok (.aload_n 0, 1) := by decide +kernel
theorem dX1_write_17 : decode cX1_write 17 = .ok (.iload_n 3, 1) := by decide +kernel
theorem dX1_write_18 : decode cX1_write 18 = .ok (.invokevirtual 20, 3) := by decide +kernel
theorem dX1_write_21 : decode cX1_write 21 = .ok (.ifCond .ne 5, 3) := by decide +kernel
theorem dX1_write_24 : decode cX1_write 24 = .ok (.iconst (-1), 1) := by decide +kernel
theorem dX1_write_25 : decode cX1_write 25 = .ok (.ireturn, 1) := by decide +kernel
theorem dX1_write_26 : decode cX1_write 26 = .ok (.aload_n 0, 1) := by decide +kernel
theorem dX1_write_27 : decode cX1_write 27 = .ok (.getfield 7, 3) := by decide +kernel
theorem dX1_write_30 : decode cX1_write 30 = .ok (.bipush 16, 2) := by decide +kernel
theorem dX1_write_32 : decode cX1_write 32 = .ok (.iload_n 1, 1) := by decide +kernel
theorem dX1_write_33 : decode cX1_write 33 = .ok (.imul, 1) := by decide +kernel
theorem dX1_write_34 : decode cX1_write 34 = .ok (.iload_n 2, 1) := by decide +kernel
theorem dX1_write_35 : decode cX1_write 35 = .ok (.iadd, 1) := by decide +kernel
theorem dX1_write_36 : decode cX1_write 36 = .ok (.iaload, 1) := by decide +kernel
theorem dX1_write_37 : decode cX1_write 37 = .ok (.istore 4, 2) := by decide +kernel
theorem dX1_write_39 : decode cX1_write 39 = .ok (.aload_n 0, 1) := by decide +kernel
theorem dX1_write_40 : decode cX1_write 40 = .ok (.getfield 7, 3) := by decide +kernel
theorem dX1_write_43 : decode cX1_write 43 = .ok (.bipush 16, 2) := by decide +kernel
theorem dX1_write_45 : decode cX1_write 45 = .ok (.iload_n 1, 1) := by decide +kernel
theorem dX1_write_46 : decode cX1_write 46 = .ok (.imul, 1) := by decide +kernel
theorem dX1_write_47 : decode cX1_write 47 = .ok (.iload_n 2, 1) := by decide +kernel
theorem dX1_write_48 : decode cX1_write 48 = .ok (.iadd, 1) := by decide +kernel
theorem dX1_write_49 : decode cX1_write 49 = .ok (.iload_n 3, 1) := by decide +kernel
theorem dX1_write_50 : decode cX1_write 50 = .ok (.iastore, 1) := by decide +kernel
theorem dX1_write_51 : decode cX1_write 51 = .ok (.iload 4, 2) := by decide +kernel
theorem dX1_write_53 : decode cX1_write 53 = .ok (.ireturn, 1) := by decide +kernel
theorem dX1_isPage_0 : decode cX1_isPage 0 = .ok (.iload_n 1, 1) := by decide +kernel
theorem dX1_isPage_1 : decode cX1_isPage 1 = .ok (.ifCond .lt 13, 3) := by decide +kernel
theorem dX1_isPage_4 : decode cX1_isPage 4 = .ok (.iload_n 1, 1) := by decide +kernel
theorem dX1_isPage_5 : decode cX1_isPage 5 = .ok (.bipush 11, 2) := by decide +kernel
theorem dX1_isPage_7 : decode cX1_isPage 7 = .ok (.if_icmp .gt 7, 3) := by decide +kernel
theorem dX1_isPage_10 : decode cX1_isPage 10 = .ok (.iconst 1, 1) := by decide +kernel
theorem dX1_isPage_11 : decode cX1_isPage 11 = .ok (.goto 4, 3) := by decide +kernel
theorem dX1_isPage_14 : decode cX1_isPage 14 = .ok (.iconst 0, 1) := by decide +kernel
theorem dX1_isPage_15 : decode cX1_isPage 15 = .ok (.ireturn, 1) := by decide +kernel
theorem dX1_isPlace_0 : decode cX1_isPlace 0 = .ok (.iload_n 1, 1) := by decide +kernel
theorem dX1_isPlace_1 : decode cX1_isPlace 1 = .ok (.ifCond .lt 13, 3) := by decide +kernel
theorem dX1_isPlace_4 : decode cX1_isPlace 4 = .ok (.iload_n 1, 1) := by decide +kernel
theorem dX1_isPlace_5 : decode cX1_isPlace 5 = .ok (.bipush 15, 2) := by decide +kernel
theorem dX1_isPlace_7 : decode cX1_isPlace 7 = .ok (.if_icmp .gt 7, 3) := by decide +kernel
theorem dX1_isPlace_10 : decode cX1_isPlace 10 = .ok (.iconst 1, 1) := by decide +kernel
theorem dX1_isPlace_11 : decode cX1_isPlace 11 = .ok (.goto 4, 3) := by decide +kernel
theorem dX1_isPlace_14 : decode cX1_isPlace 14 = .ok (.iconst 0, 1) := by decide +kernel
theorem dX1_isPlace_15 : decode cX1_isPlace 15 = .ok (.ireturn, 1) := by decide +kernel
theorem dX1_isByte_0 : decode cX1_isByte 0 = .ok (.iload_n 1, 1) := by decide +kernel
theorem dX1_isByte_1 : decode cX1_isByte 1 = .ok (.ifCond .lt 14, 3) := by decide +kernel
theorem dX1_isByte_4 : decode cX1_isByte 4 = .ok (.iload_n 1, 1) := by decide +kernel
theorem dX1_isByte_5 : decode cX1_isByte 5 = .ok (.sipush 255, 3) := by decide +kernel
theorem dX1_isByte_8 : decode cX1_isByte 8 = .ok (.if_icmp .gt 7, 3) := by decide +kernel
theorem dX1_isByte_11 : decode cX1_isByte 11 = .ok (.iconst 1, 1) := by decide +kernel
theorem dX1_isByte_12 : decode cX1_isByte 12 = .ok (.goto 4, 3) := by decide +kernel
theorem dX1_isByte_15 : decode cX1_isByte 15 = .ok (.iconst 0, 1) := by decide +kernel
theorem dX1_isByte_16 : decode cX1_isByte 16 = .ok (.ireturn, 1) := by decide +kernel
theorem dX1_read_0 : decode cX1_read 0 = .ok (.aload_n 0, 1) := by decide +kernel
theorem dX1_read_1 : decode cX1_read 1 = .ok (.iload_n 1, 1) := by decide +kernel
theorem dX1_read_2 : decode cX1_read 2 = .ok (.invokevirtual 13, 3) := by decide +kernel
theorem dX1_read_5 : decode cX1_read 5 = .ok (.ifCond .eq 25, 3) := by decide +kernel
theorem dX1_read_8 : decode cX1_read 8 = .ok (.aload_n 0, 1) := by decide +kernel
theorem dX1_read_9 : decode cX1_read 9 = .ok (.iload_n 2, 1) := by decide +kernel
theorem dX1_read_10 : decode cX1_read 10 = .ok (.invokevirtual 17, 3) := by decide +kernel
theorem dX1_read_13 : decode cX1_read 13 = .ok (.ifCond .eq 17, 3) := by decide +kernel
theorem dX1_read_16 : decode cX1_read 16 = .ok (.aload_n 0, 1) := by decide +kernel
theorem dX1_read_17 : decode cX1_read 17 = .ok (.getfield 7, 3) := by decide +kernel
theorem dX1_read_20 : decode cX1_read 20 = .ok (.bipush 16, 2) := by decide +kernel
theorem dX1_read_22 : decode cX1_read 22 = .ok (.iload_n 1, 1) := by decide +kernel
theorem dX1_read_23 : decode cX1_read 23 = .ok (.imul, 1) := by decide +kernel
theorem dX1_read_24 : decode cX1_read 24 = .ok (.iload_n 2, 1) := by decide +kernel
theorem dX1_read_25 : decode cX1_read 25 = .ok (.iadd, 1) := by decide +kernel
theorem dX1_read_26 : decode cX1_read 26 = .ok (.iaload, 1) := by decide +kernel
theorem dX1_read_27 : decode cX1_read 27 = .ok (.goto 4, 3) := by decide +kernel
theorem dX1_read_30 : decode cX1_read 30 = .ok (.iconst (-1), 1) := by decide +kernel
theorem dX1_read_31 : decode cX1_read 31 = .ok (.ireturn, 1) := by decide +kernel
theorem dX1_fill_0 : decode cX1_fill 0 = .ok (.aload_n 0, 1) := by decide +kernel
theorem dX1_fill_1 : decode cX1_fill 1 = .ok (.iload_n 1, 1) := by decide +kernel
theorem dX1_fill_2 : decode cX1_fill 2 = .ok (.invokevirtual 13, 3) := by decide +kernel
theorem dX1_fill_5 : decode cX1_fill 5 = .ok (.ifCond .eq 28, 3) := by decide +kernel
theorem dX1_fill_8 : decode cX1_fill 8 = .ok (.aload_n 0, 1) := by decide +kernel
theorem dX1_fill_9 : decode cX1_fill 9 = .ok (.iload_n 2, 1) := by decide +kernel
theorem dX1_fill_10 : decode cX1_fill 10 = .ok (.invokevirtual 17, 3) := by decide +kernel
theorem dX1_fill_13 : decode cX1_fill 13 = .ok (.ifCond .eq 20, 3) := by decide +kernel
theorem dX1_fill_16 : decode cX1_fill 16 = .ok (.aload_n 0, 1) := by decide +kernel
theorem dX1_fill_17 : decode cX1_fill 17 = .ok (.iload_n 3, 1) := by decide +kernel
theorem dX1_fill_18 : decode cX1_fill 18 = .ok (.invokevirtual 17, 3) := by decide +kernel
theorem dX1_fill_21 : decode cX1_fill 21 = .ok (.ifCond .eq 12, 3) := by decide +kernel
theorem dX1_fill_24 : decode cX1_fill 24 = .ok (.aload_n 0, 1) := by decide +kernel
theorem dX1_fill_25 : decode cX1_fill 25 = .ok (.iload 4, 2) := by decide +kernel
theorem dX1_fill_27 : decode cX1_fill 27 = .ok (.invokevirtual 20, 3) := by decide +kernel
theorem dX1_fill_30 : decode cX1_fill 30 = .ok (.ifCond .ne 5, 3) := by decide +kernel
theorem dX1_fill_33 : decode cX1_fill 33 = .ok (.iconst (-1), 1) := by decide +kernel
theorem dX1_fill_34 : decode cX1_fill 34 = .ok (.ireturn, 1) := by decide +kernel
theorem dX1_fill_35 : decode cX1_fill 35 = .ok (.iconst 0, 1) := by decide +kernel
theorem dX1_fill_36 : decode cX1_fill 36 = .ok (.istore 5, 2) := by decide +kernel
theorem dX1_fill_38 : decode cX1_fill 38 = .ok (.iload_n 2, 1) := by decide +kernel
theorem dX1_fill_39 : decode cX1_fill 39 = .ok (.istore 6, 2) := by decide +kernel
theorem dX1_fill_41 : decode cX1_fill 41 = .ok (.iload 6, 2) := by decide +kernel
theorem dX1_fill_43 : decode cX1_fill 43 = .ok (.iload_n 3, 1) := by decide +kernel
theorem dX1_fill_44 : decode cX1_fill 44 = .ok (.if_icmp .gt 26, 3) := by decide +kernel
theorem dX1_fill_47 : decode cX1_fill 47 = .ok (.aload_n 0, 1) := by decide +kernel
theorem dX1_fill_48 : decode cX1_fill 48 = .ok (.getfield 7, 3) := by decide +kernel
theorem dX1_fill_51 : decode cX1_fill 51 = .ok (.bipush 16, 2) := by decide +kernel
theorem dX1_fill_53 : decode cX1_fill 53 = .ok (.iload_n 1, 1) := by decide +kernel
theorem dX1_fill_54 : decode cX1_fill 54 = .ok (.imul, 1) := by decide +kernel
theorem dX1_fill_55 : decode cX1_fill 55 = .ok (.iload 6, 2) := by decide +kernel
theorem dX1_fill_57 : decode cX1_fill 57 = .ok (.iadd, 1) := by decide +kernel
theorem dX1_fill_58 : decode cX1_fill 58 = .ok (.iload 4, 2) := by decide +kernel
theorem dX1_fill_60 : decode cX1_fill 60 = .ok (.iastore, 1) := by decide +kernel
theorem dX1_fill_61 : decode cX1_fill 61 = .ok (.iinc 5 1, 3) := by decide +kernel
theorem dX1_fill_64 : decode cX1_fill 64 = .ok (.iinc 6 1, 3) := by decide +kernel
theorem dX1_fill_67 : decode cX1_fill 67 = .ok (.goto (-26), 3) := by decide +kernel
theorem dX1_fill_70 : decode cX1_fill 70 = .ok (.iload 5, 2) := by decide +kernel
theorem dX1_fill_72 : decode cX1_fill 72 = .ok (.ireturn, 1) := by decide +kernel
theorem dX1_copy_0 : decode cX1_copy 0 = .ok (.aload_n 0, 1) := by decide +kernel
theorem dX1_copy_1 : decode cX1_copy 1 = .ok (.iload_n 1, 1) := by decide +kernel
theorem dX1_copy_2 : decode cX1_copy 2 = .ok (.invokevirtual 13, 3) := by decide +kernel
theorem dX1_copy_5 : decode cX1_copy 5 = .ok (.ifCond .eq 11, 3) := by decide +kernel
theorem dX1_copy_8 : decode cX1_copy 8 = .ok (.aload_n 0, 1) := by decide +kernel
theorem dX1_copy_9 : decode cX1_copy 9 = .ok (.iload_n 2, 1) := by decide +kernel
theorem dX1_copy_10 : decode cX1_copy 10 = .ok (.invokevirtual 13, 3) := by decide +kernel
theorem dX1_copy_13 : decode cX1_copy 13 = .ok (.ifCond .ne 5, 3) := by decide +kernel
theorem dX1_copy_16 : decode cX1_copy 16 = .ok (.iconst (-1), 1) := by decide +kernel
theorem dX1_copy_17 : decode cX1_copy 17 = .ok (.ireturn, 1) := by decide +kernel
theorem dX1_copy_18 : decode cX1_copy 18 = .ok (.iconst 0, 1) := by decide +kernel
theorem dX1_copy_19 : decode cX1_copy 19 = .ok (.istore_n 3, 1) := by decide +kernel
theorem dX1_copy_20 : decode cX1_copy 20 = .ok (.iconst 0, 1) := by decide +kernel
theorem dX1_copy_21 : decode cX1_copy 21 = .ok (.istore 4, 2) := by decide +kernel
theorem dX1_copy_23 : decode cX1_copy 23 = .ok (.iload 4, 2) := by decide +kernel
theorem dX1_copy_25 : decode cX1_copy 25 = .ok (.bipush 16, 2) := by decide +kernel
theorem dX1_copy_27 : decode cX1_copy 27 = .ok (.if_icmp .ge 63, 3) := by decide +kernel
theorem dX1_copy_30 : decode cX1_copy 30 = .ok (.aload_n 0, 1) := by decide +kernel
theorem dX1_copy_31 : decode cX1_copy 31 = .ok (.getfield 7, 3) := by decide +kernel
theorem dX1_copy_34 : decode cX1_copy 34 = .ok (.bipush 16, 2) := by decide +kernel
theorem dX1_copy_36 : decode cX1_copy 36 = .ok (.iload_n 1, 1) := by decide +kernel
theorem dX1_copy_37 : decode cX1_copy 37 = .ok (.imul, 1) := by decide +kernel
theorem dX1_copy_38 : decode cX1_copy 38 = .ok (.iload 4, 2) := by decide +kernel
theorem dX1_copy_40 : decode cX1_copy 40 = .ok (.iadd, 1) := by decide +kernel
theorem dX1_copy_41 : decode cX1_copy 41 = .ok (.iaload, 1) := by decide +kernel
theorem dX1_copy_42 : decode cX1_copy 42 = .ok (.aload_n 0, 1) := by decide +kernel
theorem dX1_copy_43 : decode cX1_copy 43 = .ok (.getfield 7, 3) := by decide +kernel
theorem dX1_copy_46 : decode cX1_copy 46 = .ok (.bipush 16, 2) := by decide +kernel
theorem dX1_copy_48 : decode cX1_copy 48 = .ok (.iload_n 2, 1) := by decide +kernel
theorem dX1_copy_49 : decode cX1_copy 49 = .ok (.imul, 1) := by decide +kernel
theorem dX1_copy_50 : decode cX1_copy 50 = .ok (.iload 4, 2) := by decide +kernel
theorem dX1_copy_52 : decode cX1_copy 52 = .ok (.iadd, 1) := by decide +kernel
theorem dX1_copy_53 : decode cX1_copy 53 = .ok (.iaload, 1) := by decide +kernel
theorem dX1_copy_54 : decode cX1_copy 54 = .ok (.if_icmp .eq 30, 3) := by decide +kernel
theorem dX1_copy_57 : decode cX1_copy 57 = .ok (.aload_n 0, 1) := by decide +kernel
theorem dX1_copy_58 : decode cX1_copy 58 = .ok (.getfield 7, 3) := by decide +kernel
theorem dX1_copy_61 : decode cX1_copy 61 = .ok (.bipush 16, 2) := by decide +kernel
theorem dX1_copy_63 : decode cX1_copy 63 = .ok (.iload_n 1, 1) := by decide +kernel
theorem dX1_copy_64 : decode cX1_copy 64 = .ok (.imul, 1) := by decide +kernel
theorem dX1_copy_65 : decode cX1_copy 65 = .ok (.iload 4, 2) := by decide +kernel
theorem dX1_copy_67 : decode cX1_copy 67 = .ok (.iadd, 1) := by decide +kernel
theorem dX1_copy_68 : decode cX1_copy 68 = .ok (.aload_n 0, 1) := by decide +kernel
theorem dX1_copy_69 : decode cX1_copy 69 = .ok (.getfield 7, 3) := by decide +kernel
theorem dX1_copy_72 : decode cX1_copy 72 = .ok (.bipush 16, 2) := by decide +kernel
theorem dX1_copy_74 : decode cX1_copy 74 = .ok (.iload_n 2, 1) := by decide +kernel
theorem dX1_copy_75 : decode cX1_copy 75 = .ok (.imul, 1) := by decide +kernel
theorem dX1_copy_76 : decode cX1_copy 76 = .ok (.iload 4, 2) := by decide +kernel
theorem dX1_copy_78 : decode cX1_copy 78 = .ok (.iadd, 1) := by decide +kernel
theorem dX1_copy_79 : decode cX1_copy 79 = .ok (.iaload, 1) := by decide +kernel
theorem dX1_copy_80 : decode cX1_copy 80 = .ok (.iastore, 1) := by decide +kernel
theorem dX1_copy_81 : decode cX1_copy 81 = .ok (.iinc 3 1, 3) := by decide +kernel
theorem dX1_copy_84 : decode cX1_copy 84 = .ok (.iinc 4 1, 3) := by decide +kernel
theorem dX1_copy_87 : decode cX1_copy 87 = .ok (.goto (-64), 3) := by decide +kernel
theorem dX1_copy_90 : decode cX1_copy 90 = .ok (.iload_n 3, 1) := by decide +kernel
theorem dX1_copy_91 : decode cX1_copy 91 = .ok (.ireturn, 1) := by decide +kernel
theorem dX1_exchange_0 : decode cX1_exchange 0 = .ok (.aload_n 0, 1) := by decide +kernel
theorem dX1_exchange_1 : decode cX1_exchange 1 = .ok (.iload_n 1, 1) := by decide +kernel
theorem dX1_exchange_2 : decode cX1_exchange 2 = .ok (.invokevirtual 13, 3) := by decide +kernel
theorem dX1_exchange_5 : decode cX1_exchange 5 = .ok (.ifCond .eq 11, 3) := by decide +kernel
theorem dX1_exchange_8 : decode cX1_exchange 8 = .ok (.aload_n 0, 1) := by decide +kernel
theorem dX1_exchange_9 : decode cX1_exchange 9 = .ok (.iload_n 2, 1) := by decide +kernel
theorem dX1_exchange_10 : decode cX1_exchange 10 = .ok (.invokevirtual 13, 3) := by decide +kernel
theorem dX1_exchange_13 : decode cX1_exchange 13 = .ok (.ifCond .ne 5, 3) := by decide +kernel
theorem dX1_exchange_16 : decode cX1_exchange 16 = .ok (.iconst (-1), 1) := by decide +kernel
theorem dX1_exchange_17 : decode cX1_exchange 17 = .ok (.ireturn, 1) := by decide +kernel
theorem dX1_exchange_18 : decode cX1_exchange 18 = .ok (.iconst 0, 1) := by decide +kernel
theorem dX1_exchange_19 : decode cX1_exchange 19 = .ok (.istore_n 3, 1) := by decide +kernel
theorem dX1_exchange_20 : decode cX1_exchange 20 = .ok (.iload_n 3, 1) := by decide +kernel
theorem dX1_exchange_21 : decode cX1_exchange 21 = .ok (.bipush 16, 2) := by decide +kernel
theorem dX1_exchange_23 : decode cX1_exchange 23 = .ok (.if_icmp .ge 57, 3) := by decide +kernel
theorem dX1_exchange_26 : decode cX1_exchange 26 = .ok (.aload_n 0, 1) := by decide +kernel
theorem dX1_exchange_27 : decode cX1_exchange 27 = .ok (.getfield 7, 3) := by decide +kernel
theorem dX1_exchange_30 : decode cX1_exchange 30 = .ok (.bipush 16, 2) := by decide +kernel
theorem dX1_exchange_32 : decode cX1_exchange 32 = .ok (.iload_n 1, 1) := by decide +kernel
theorem dX1_exchange_33 : decode cX1_exchange 33 = .ok (.imul, 1) := by decide +kernel
theorem dX1_exchange_34 : decode cX1_exchange 34 = .ok (.iload_n 3, 1) := by decide +kernel
theorem dX1_exchange_35 : decode cX1_exchange 35 = .ok (.iadd, 1) := by decide +kernel
theorem dX1_exchange_36 : decode cX1_exchange 36 = .ok (.iaload, 1) := by decide +kernel
theorem dX1_exchange_37 : decode cX1_exchange 37 = .ok (.istore 4, 2) := by decide +kernel
theorem dX1_exchange_39 : decode cX1_exchange 39 = .ok (.aload_n 0, 1) := by decide +kernel
theorem dX1_exchange_40 : decode cX1_exchange 40 = .ok (.getfield 7, 3) := by decide +kernel
theorem dX1_exchange_43 : decode cX1_exchange 43 = .ok (.bipush 16, 2) := by decide +kernel
theorem dX1_exchange_45 : decode cX1_exchange 45 = .ok (.iload_n 1, 1) := by decide +kernel
theorem dX1_exchange_46 : decode cX1_exchange 46 = .ok (.imul, 1) := by decide +kernel
theorem dX1_exchange_47 : decode cX1_exchange 47 = .ok (.iload_n 3, 1) := by decide +kernel
theorem dX1_exchange_48 : decode cX1_exchange 48 = .ok (.iadd, 1) := by decide +kernel
theorem dX1_exchange_49 : decode cX1_exchange 49 = .ok (.aload_n 0, 1) := by decide +kernel
theorem dX1_exchange_50 : decode cX1_exchange 50 = .ok (.getfield 7, 3) := by decide +kernel
theorem dX1_exchange_53 : decode cX1_exchange 53 = .ok (.bipush 16, 2) := by decide +kernel
theorem dX1_exchange_55 : decode cX1_exchange 55 = .ok (.iload_n 2, 1) := by decide +kernel
theorem dX1_exchange_56 : decode cX1_exchange 56 = .ok (.imul, 1) := by decide +kernel
theorem dX1_exchange_57 : decode cX1_exchange 57 = .ok (.iload_n 3, 1) := by decide +kernel
theorem dX1_exchange_58 : decode cX1_exchange 58 = .ok (.iadd, 1) := by decide +kernel
theorem dX1_exchange_59 : decode cX1_exchange 59 = .ok (.iaload, 1) := by decide +kernel
theorem dX1_exchange_60 : decode cX1_exchange 60 = .ok (.iastore, 1) := by decide +kernel
theorem dX1_exchange_61 : decode cX1_exchange 61 = .ok (.aload_n 0, 1) := by decide +kernel
theorem dX1_exchange_62 : decode cX1_exchange 62 = .ok (.getfield 7, 3) := by decide +kernel
theorem dX1_exchange_65 : decode cX1_exchange 65 = .ok (.bipush 16, 2) := by decide +kernel
theorem dX1_exchange_67 : decode cX1_exchange 67 = .ok (.iload_n 2, 1) := by decide +kernel
theorem dX1_exchange_68 : decode cX1_exchange 68 = .ok (.imul, 1) := by decide +kernel
theorem dX1_exchange_69 : decode cX1_exchange 69 = .ok (.iload_n 3, 1) := by decide +kernel
theorem dX1_exchange_70 : decode cX1_exchange 70 = .ok (.iadd, 1) := by decide +kernel
theorem dX1_exchange_71 : decode cX1_exchange 71 = .ok (.iload 4, 2) := by decide +kernel
theorem dX1_exchange_73 : decode cX1_exchange 73 = .ok (.iastore, 1) := by decide +kernel
theorem dX1_exchange_74 : decode cX1_exchange 74 = .ok (.iinc 3 1, 3) := by decide +kernel
theorem dX1_exchange_77 : decode cX1_exchange 77 = .ok (.goto (-57), 3) := by decide +kernel
theorem dX1_exchange_80 : decode cX1_exchange 80 = .ok (.iconst 0, 1) := by decide +kernel
theorem dX1_exchange_81 : decode cX1_exchange 81 = .ok (.ireturn, 1) := by decide +kernel
theorem dX1_move_0 : decode cX1_move 0 = .ok (.aload_n 0, 1) := by decide +kernel
theorem dX1_move_1 : decode cX1_move 1 = .ok (.iload_n 1, 1) := by decide +kernel
theorem dX1_move_2 : decode cX1_move 2 = .ok (.invokevirtual 13, 3) := by decide +kernel
theorem dX1_move_5 : decode cX1_move 5 = .ok (.ifCond .eq 49, 3) := by decide +kernel
theorem dX1_move_8 : decode cX1_move 8 = .ok (.aload_n 0, 1) := by decide +kernel
theorem dX1_move_9 : decode cX1_move 9 = .ok (.iload_n 2, 1) := by decide +kernel
theorem dX1_move_10 : decode cX1_move 10 = .ok (.invokevirtual 17, 3) := by decide +kernel
theorem dX1_move_13 : decode cX1_move 13 = .ok (.ifCond .eq 41, 3) := by decide +kernel
theorem dX1_move_16 : decode cX1_move 16 = .ok (.aload_n 0, 1) := by decide +kernel
theorem dX1_move_17 : decode cX1_move 17 = .ok (.iload_n 3, 1) := by decide +kernel
theorem dX1_move_18 : decode cX1_move 18 = .ok (.invokevirtual 17, 3) := by decide +kernel
theorem dX1_move_21 : decode cX1_move 21 = .ok (.ifCond .eq 33, 3) := by decide +kernel
theorem dX1_move_24 : decode cX1_move 24 = .ok (.iload 4, 2) := by decide +kernel
theorem dX1_move_26 : decode cX1_move 26 = .ok (.ifCond .lt 28, 3) := by decide +kernel
theorem dX1_move_29 : decode cX1_move 29 = .ok (.iload 4, 2) := by decide +kernel
theorem dX1_move_31 : decode cX1_move 31 = .ok (.bipush 16, 2) := by decide +kernel
theorem dX1_move_33 : decode cX1_move 33 = .ok (.if_icmp .gt 21, 3) := by decide +kernel
theorem dX1_move_36 : decode cX1_move 36 = .ok (.iload_n 2, 1) := by decide +kernel
theorem dX1_move_37 : decode cX1_move 37 = .ok (.iload 4, 2) := by decide +kernel
theorem dX1_move_39 : decode cX1_move 39 = .ok (.iadd, 1) := by decide +kernel
theorem dX1_move_40 : decode cX1_move 40 = .ok (.bipush 16, 2) := by decide +kernel
theorem dX1_move_42 : decode cX1_move 42 = .ok (.if_icmp .gt 12, 3) := by decide +kernel
theorem dX1_move_45 : decode cX1_move 45 = .ok (.iload_n 3, 1) := by decide +kernel
theorem dX1_move_46 : decode cX1_move 46 = .ok (.iload 4, 2) := by decide +kernel
theorem dX1_move_48 : decode cX1_move 48 = .ok (.iadd, 1) := by decide +kernel
theorem dX1_move_49 : decode cX1_move 49 = .ok (.bipush 16, 2) := by decide +kernel
theorem dX1_move_51 : decode cX1_move 51 = .ok (.if_icmp .le 5, 3) := by decide +kernel
theorem dX1_move_54 : decode cX1_move 54 = .ok (.iconst (-1), 1) := by decide +kernel
theorem dX1_move_55 : decode cX1_move 55 = .ok (.ireturn, 1) := by decide +kernel
theorem dX1_move_56 : decode cX1_move 56 = .ok (.iconst 0, 1) := by decide +kernel
theorem dX1_move_57 : decode cX1_move 57 = .ok (.istore 5, 2) := by decide +kernel
theorem dX1_move_59 : decode cX1_move 59 = .ok (.iload 5, 2) := by decide +kernel
theorem dX1_move_61 : decode cX1_move 61 = .ok (.iload 4, 2) := by decide +kernel
theorem dX1_move_63 : decode cX1_move 63 = .ok (.if_icmp .ge 37, 3) := by decide +kernel
theorem dX1_move_66 : decode cX1_move 66 = .ok (.aload_n 0, 1) := by decide +kernel
theorem dX1_move_67 : decode cX1_move 67 = .ok (.getfield 7, 3) := by decide +kernel
theorem dX1_move_70 : decode cX1_move 70 = .ok (.bipush 16, 2) := by decide +kernel
theorem dX1_move_72 : decode cX1_move 72 = .ok (.iload_n 1, 1) := by decide +kernel
theorem dX1_move_73 : decode cX1_move 73 = .ok (.imul, 1) := by decide +kernel
theorem dX1_move_74 : decode cX1_move 74 = .ok (.iload_n 3, 1) := by decide +kernel
theorem dX1_move_75 : decode cX1_move 75 = .ok (.iadd, 1) := by decide +kernel
theorem dX1_move_76 : decode cX1_move 76 = .ok (.iload 5, 2) := by decide +kernel
theorem dX1_move_78 : decode cX1_move 78 = .ok (.iadd, 1) := by decide +kernel
theorem dX1_move_79 : decode cX1_move 79 = .ok (.aload_n 0, 1) := by decide +kernel
theorem dX1_move_80 : decode cX1_move 80 = .ok (.getfield 7, 3) := by decide +kernel
theorem dX1_move_83 : decode cX1_move 83 = .ok (.bipush 16, 2) := by decide +kernel
theorem dX1_move_85 : decode cX1_move 85 = .ok (.iload_n 1, 1) := by decide +kernel
theorem dX1_move_86 : decode cX1_move 86 = .ok (.imul, 1) := by decide +kernel
theorem dX1_move_87 : decode cX1_move 87 = .ok (.iload_n 2, 1) := by decide +kernel
theorem dX1_move_88 : decode cX1_move 88 = .ok (.iadd, 1) := by decide +kernel
theorem dX1_move_89 : decode cX1_move 89 = .ok (.iload 5, 2) := by decide +kernel
theorem dX1_move_91 : decode cX1_move 91 = .ok (.iadd, 1) := by decide +kernel
theorem dX1_move_92 : decode cX1_move 92 = .ok (.iaload, 1) := by decide +kernel
theorem dX1_move_93 : decode cX1_move 93 = .ok (.iastore, 1) := by decide +kernel
theorem dX1_move_94 : decode cX1_move 94 = .ok (.iinc 5 1, 3) := by decide +kernel
theorem dX1_move_97 : decode cX1_move 97 = .ok (.goto (-38), 3) := by decide +kernel
theorem dX1_move_100 : decode cX1_move 100 = .ok (.iconst 0, 1) := by decide +kernel
theorem dX1_move_101 : decode cX1_move 101 = .ok (.ireturn, 1) := by decide +kernel
theorem dX1_mix_0 : decode cX1_mix 0 = .ok (.aload_n 0, 1) := by decide +kernel
theorem dX1_mix_1 : decode cX1_mix 1 = .ok (.iload_n 1, 1) := by decide +kernel
theorem dX1_mix_2 : decode cX1_mix 2 = .ok (.invokevirtual 13, 3) := by decide +kernel
theorem dX1_mix_5 : decode cX1_mix 5 = .ok (.ifCond .eq 11, 3) := by decide +kernel
theorem dX1_mix_8 : decode cX1_mix 8 = .ok (.aload_n 0, 1) := by decide +kernel
theorem dX1_mix_9 : decode cX1_mix 9 = .ok (.iload_n 2, 1) := by decide +kernel
theorem dX1_mix_10 : decode cX1_mix 10 = .ok (.invokevirtual 13, 3) := by decide +kernel
theorem dX1_mix_13 : decode cX1_mix 13 = .ok (.ifCond .ne 5, 3) := by decide +kernel
theorem dX1_mix_16 : decode cX1_mix 16 = .ok (.iconst (-1), 1) := by decide +kernel
theorem dX1_mix_17 : decode cX1_mix 17 = .ok (.ireturn, 1) := by decide +kernel
theorem dX1_mix_18 : decode cX1_mix 18 = .ok (.iconst 0, 1) := by decide +kernel
theorem dX1_mix_19 : decode cX1_mix 19 = .ok (.istore_n 3, 1) := by decide +kernel
theorem dX1_mix_20 : decode cX1_mix 20 = .ok (.iload_n 3, 1) := by decide +kernel
theorem dX1_mix_21 : decode cX1_mix 21 = .ok (.bipush 16, 2) := by decide +kernel
theorem dX1_mix_23 : decode cX1_mix 23 = .ok (.if_icmp .ge 43, 3) := by decide +kernel
theorem dX1_mix_26 : decode cX1_mix 26 = .ok (.aload_n 0, 1) := by decide +kernel
theorem dX1_mix_27 : decode cX1_mix 27 = .ok (.getfield 7, 3) := by decide +kernel
theorem dX1_mix_30 : decode cX1_mix 30 = .ok (.bipush 16, 2) := by decide +kernel
theorem dX1_mix_32 : decode cX1_mix 32 = .ok (.iload_n 1, 1) := by decide +kernel
theorem dX1_mix_33 : decode cX1_mix 33 = .ok (.imul, 1) := by decide +kernel
theorem dX1_mix_34 : decode cX1_mix 34 = .ok (.iload_n 3, 1) := by decide +kernel
theorem dX1_mix_35 : decode cX1_mix 35 = .ok (.iadd, 1) := by decide +kernel
theorem dX1_mix_36 : decode cX1_mix 36 = .ok (.aload_n 0, 1) := by decide +kernel
theorem dX1_mix_37 : decode cX1_mix 37 = .ok (.getfield 7, 3) := by decide +kernel
theorem dX1_mix_40 : decode cX1_mix 40 = .ok (.bipush 16, 2) := by decide +kernel
theorem dX1_mix_42 : decode cX1_mix 42 = .ok (.iload_n 1, 1) := by decide +kernel
theorem dX1_mix_43 : decode cX1_mix 43 = .ok (.imul, 1) := by decide +kernel
theorem dX1_mix_44 : decode cX1_mix 44 = .ok (.iload_n 3, 1) := by decide +kernel
theorem dX1_mix_45 : decode cX1_mix 45 = .ok (.iadd, 1) := by decide +kernel
theorem dX1_mix_46 : decode cX1_mix 46 = .ok (.iaload, 1) := by decide +kernel
theorem dX1_mix_47 : decode cX1_mix 47 = .ok (.aload_n 0, 1) := by decide +kernel
theorem dX1_mix_48 : decode cX1_mix 48 = .ok (.getfield 7, 3) := by decide +kernel
theorem dX1_mix_51 : decode cX1_mix 51 = .ok (.bipush 16, 2) := by decide +kernel
theorem dX1_mix_53 : decode cX1_mix 53 = .ok (.iload_n 2, 1) := by decide +kernel
theorem dX1_mix_54 : decode cX1_mix 54 = .ok (.imul, 1) := by decide +kernel
theorem dX1_mix_55 : decode cX1_mix 55 = .ok (.iload_n 3, 1) := by decide +kernel
theorem dX1_mix_56 : decode cX1_mix 56 = .ok (.iadd, 1) := by decide +kernel
theorem dX1_mix_57 : decode cX1_mix 57 = .ok (.iaload, 1) := by decide +kernel
theorem dX1_mix_58 : decode cX1_mix 58 = .ok (.ixor, 1) := by decide +kernel
theorem dX1_mix_59 : decode cX1_mix 59 = .ok (.iastore, 1) := by decide +kernel
theorem dX1_mix_60 : decode cX1_mix 60 = .ok (.iinc 3 1, 3) := by decide +kernel
theorem dX1_mix_63 : decode cX1_mix 63 = .ok (.goto (-43), 3) := by decide +kernel
theorem dX1_mix_66 : decode cX1_mix 66 = .ok (.iconst 0, 1) := by decide +kernel
theorem dX1_mix_67 : decode cX1_mix 67 = .ok (.ireturn, 1) := by decide +kernel
theorem dX1_drop_0 : decode cX1_drop 0 = .ok (.aload_n 0, 1) := by decide +kernel
theorem dX1_drop_1 : decode cX1_drop 1 = .ok (.iload_n 1, 1) := by decide +kernel
theorem dX1_drop_2 : decode cX1_drop 2 = .ok (.invokevirtual 13, 3) := by decide +kernel
theorem dX1_drop_5 : decode cX1_drop 5 = .ok (.ifCond .ne 5, 3) := by decide +kernel
theorem dX1_drop_8 : decode cX1_drop 8 = .ok (.iconst (-1), 1) := by decide +kernel
theorem dX1_drop_9 : decode cX1_drop 9 = .ok (.ireturn, 1) := by decide +kernel
theorem dX1_drop_10 : decode cX1_drop 10 = .ok (.iconst 0, 1) := by decide +kernel
theorem dX1_drop_11 : decode cX1_drop 11 = .ok (.istore_n 2, 1) := by decide +kernel
theorem dX1_drop_12 : decode cX1_drop 12 = .ok (.iload_n 2, 1) := by decide +kernel
theorem dX1_drop_13 : decode cX1_drop 13 = .ok (.bipush 16, 2) := by decide +kernel
theorem dX1_drop_15 : decode cX1_drop 15 = .ok (.if_icmp .ge 21, 3) := by decide +kernel
theorem dX1_drop_18 : decode cX1_drop 18 = .ok (.aload_n 0, 1) := by decide +kernel
theorem dX1_drop_19 : decode cX1_drop 19 = .ok (.getfield 7, 3) := by decide +kernel
theorem dX1_drop_22 : decode cX1_drop 22 = .ok (.bipush 16, 2) := by decide +kernel
theorem dX1_drop_24 : decode cX1_drop 24 = .ok (.iload_n 1, 1) := by decide +kernel
theorem dX1_drop_25 : decode cX1_drop 25 = .ok (.imul, 1) := by decide +kernel
theorem dX1_drop_26 : decode cX1_drop 26 = .ok (.iload_n 2, 1) := by decide +kernel
theorem dX1_drop_27 : decode cX1_drop 27 = .ok (.iadd, 1) := by decide +kernel
theorem dX1_drop_28 : decode cX1_drop 28 = .ok (.iconst 0, 1) := by decide +kernel
theorem dX1_drop_29 : decode cX1_drop 29 = .ok (.iastore, 1) := by decide +kernel
theorem dX1_drop_30 : decode cX1_drop 30 = .ok (.iinc 2 1, 3) := by decide +kernel
theorem dX1_drop_33 : decode cX1_drop 33 = .ok (.goto (-21), 3) := by decide +kernel
theorem dX1_drop_36 : decode cX1_drop 36 = .ok (.iconst 0, 1) := by decide +kernel
theorem dX1_drop_37 : decode cX1_drop 37 = .ok (.ireturn, 1) := by decide +kernel
theorem dX1_sum_0 : decode cX1_sum 0 = .ok (.aload_n 0, 1) := by decide +kernel
theorem dX1_sum_1 : decode cX1_sum 1 = .ok (.iload_n 1, 1) := by decide +kernel
theorem dX1_sum_2 : decode cX1_sum 2 = .ok (.invokevirtual 13, 3) := by decide +kernel
theorem dX1_sum_5 : decode cX1_sum 5 = .ok (.ifCond .ne 5, 3) := by decide +kernel
theorem dX1_sum_8 : decode cX1_sum 8 = .ok (.iconst (-1), 1) := by decide +kernel
theorem dX1_sum_9 : decode cX1_sum 9 = .ok (.ireturn, 1) := by decide +kernel
theorem dX1_sum_10 : decode cX1_sum 10 = .ok (.iconst 0, 1) := by decide +kernel
theorem dX1_sum_11 : decode cX1_sum 11 = .ok (.istore_n 2, 1) := by decide +kernel
theorem dX1_sum_12 : decode cX1_sum 12 = .ok (.iconst 0, 1) := by decide +kernel
theorem dX1_sum_13 : decode cX1_sum 13 = .ok (.istore_n 3, 1) := by decide +kernel
theorem dX1_sum_14 : decode cX1_sum 14 = .ok (.iload_n 3, 1) := by decide +kernel
theorem dX1_sum_15 : decode cX1_sum 15 = .ok (.bipush 16, 2) := by decide +kernel
theorem dX1_sum_17 : decode cX1_sum 17 = .ok (.if_icmp .ge 27, 3) := by decide +kernel
theorem dX1_sum_20 : decode cX1_sum 20 = .ok (.iload_n 2, 1) := by decide +kernel
theorem dX1_sum_21 : decode cX1_sum 21 = .ok (.iload_n 3, 1) := by decide +kernel
theorem dX1_sum_22 : decode cX1_sum 22 = .ok (.iconst 1, 1) := by decide +kernel
theorem dX1_sum_23 : decode cX1_sum 23 = .ok (.iadd, 1) := by decide +kernel
theorem dX1_sum_24 : decode cX1_sum 24 = .ok (.aload_n 0, 1) := by decide +kernel
theorem dX1_sum_25 : decode cX1_sum 25 = .ok (.getfield 7, 3) := by decide +kernel
theorem dX1_sum_28 : decode cX1_sum 28 = .ok (.bipush 16, 2) := by decide +kernel
theorem dX1_sum_30 : decode cX1_sum 30 = .ok (.iload_n 1, 1) := by decide +kernel
theorem dX1_sum_31 : decode cX1_sum 31 = .ok (.imul, 1) := by decide +kernel
theorem dX1_sum_32 : decode cX1_sum 32 = .ok (.iload_n 3, 1) := by decide +kernel
theorem dX1_sum_33 : decode cX1_sum 33 = .ok (.iadd, 1) := by decide +kernel
theorem dX1_sum_34 : decode cX1_sum 34 = .ok (.iaload, 1) := by decide +kernel
theorem dX1_sum_35 : decode cX1_sum 35 = .ok (.imul, 1) := by decide +kernel
theorem dX1_sum_36 : decode cX1_sum 36 = .ok (.iadd, 1) := by decide +kernel
theorem dX1_sum_37 : decode cX1_sum 37 = .ok (.istore_n 2, 1) := by decide +kernel
theorem dX1_sum_38 : decode cX1_sum 38 = .ok (.iinc 3 1, 3) := by decide +kernel
theorem dX1_sum_41 : decode cX1_sum 41 = .ok (.goto (-27), 3) := by decide +kernel
theorem dX1_sum_44 : decode cX1_sum 44 = .ok (.iload_n 2, 1) := by decide +kernel
theorem dX1_sum_45 : decode cX1_sum 45 = .ok (.ireturn, 1) := by decide +kernel
theorem dX1_differ_0 : decode cX1_differ 0 = .ok (.aload_n 0, 1) := by decide +kernel
theorem dX1_differ_1 : decode cX1_differ 1 = .ok (.iload_n 1, 1) := by decide +kernel
theorem dX1_differ_2 : decode cX1_differ 2 = .ok (.invokevirtual 13, 3) := by decide +kernel
theorem dX1_differ_5 : decode cX1_differ 5 = .ok (.ifCond .eq 11, 3) := by decide +kernel
theorem dX1_differ_8 : decode cX1_differ 8 = .ok (.aload_n 0, 1) := by decide +kernel
theorem dX1_differ_9 : decode cX1_differ 9 = .ok (.iload_n 2, 1) := by decide +kernel
theorem dX1_differ_10 : decode cX1_differ 10 = .ok (.invokevirtual 13, 3) := by decide +kernel
theorem dX1_differ_13 : decode cX1_differ 13 = .ok (.ifCond .ne 5, 3) := by decide +kernel
theorem dX1_differ_16 : decode cX1_differ 16 = .ok (.iconst (-1), 1) := by decide +kernel
theorem dX1_differ_17 : decode cX1_differ 17 = .ok (.ireturn, 1) := by decide +kernel
theorem dX1_differ_18 : decode cX1_differ 18 = .ok (.iconst 0, 1) := by decide +kernel
theorem dX1_differ_19 : decode cX1_differ 19 = .ok (.istore_n 3, 1) := by decide +kernel
theorem dX1_differ_20 : decode cX1_differ 20 = .ok (.iload_n 3, 1) := by decide +kernel
theorem dX1_differ_21 : decode cX1_differ 21 = .ok (.bipush 16, 2) := by decide +kernel
theorem dX1_differ_23 : decode cX1_differ 23 = .ok (.if_icmp .ge 36, 3) := by decide +kernel
theorem dX1_differ_26 : decode cX1_differ 26 = .ok (.aload_n 0, 1) := by decide +kernel
theorem dX1_differ_27 : decode cX1_differ 27 = .ok (.getfield 7, 3) := by decide +kernel
theorem dX1_differ_30 : decode cX1_differ 30 = .ok (.bipush 16, 2) := by decide +kernel
theorem dX1_differ_32 : decode cX1_differ 32 = .ok (.iload_n 1, 1) := by decide +kernel
theorem dX1_differ_33 : decode cX1_differ 33 = .ok (.imul, 1) := by decide +kernel
theorem dX1_differ_34 : decode cX1_differ 34 = .ok (.iload_n 3, 1) := by decide +kernel
theorem dX1_differ_35 : decode cX1_differ 35 = .ok (.iadd, 1) := by decide +kernel
theorem dX1_differ_36 : decode cX1_differ 36 = .ok (.iaload, 1) := by decide +kernel
theorem dX1_differ_37 : decode cX1_differ 37 = .ok (.aload_n 0, 1) := by decide +kernel
theorem dX1_differ_38 : decode cX1_differ 38 = .ok (.getfield 7, 3) := by decide +kernel
theorem dX1_differ_41 : decode cX1_differ 41 = .ok (.bipush 16, 2) := by decide +kernel
theorem dX1_differ_43 : decode cX1_differ 43 = .ok (.iload_n 2, 1) := by decide +kernel
theorem dX1_differ_44 : decode cX1_differ 44 = .ok (.imul, 1) := by decide +kernel
theorem dX1_differ_45 : decode cX1_differ 45 = .ok (.iload_n 3, 1) := by decide +kernel
theorem dX1_differ_46 : decode cX1_differ 46 = .ok (.iadd, 1) := by decide +kernel
theorem dX1_differ_47 : decode cX1_differ 47 = .ok (.iaload, 1) := by decide +kernel
theorem dX1_differ_48 : decode cX1_differ 48 = .ok (.if_icmp .eq 5, 3) := by decide +kernel
theorem dX1_differ_51 : decode cX1_differ 51 = .ok (.iload_n 3, 1) := by decide +kernel
theorem dX1_differ_52 : decode cX1_differ 52 = .ok (.ireturn, 1) := by decide +kernel
theorem dX1_differ_53 : decode cX1_differ 53 = .ok (.iinc 3 1, 3) := by decide +kernel
theorem dX1_differ_56 : decode cX1_differ 56 = .ok (.goto (-36), 3) := by decide +kernel
theorem dX1_differ_59 : decode cX1_differ 59 = .ok (.bipush (-4), 2) := by decide +kernel
theorem dX1_differ_61 : decode cX1_differ 61 = .ok (.ireturn, 1) := by decide +kernel
theorem dX1_find_0 : decode cX1_find 0 = .ok (.aload_n 0, 1) := by decide +kernel
theorem dX1_find_1 : decode cX1_find 1 = .ok (.iload_n 1, 1) := by decide +kernel
theorem dX1_find_2 : decode cX1_find 2 = .ok (.invokevirtual 13, 3) := by decide +kernel
theorem dX1_find_5 : decode cX1_find 5 = .ok (.ifCond .eq 19, 3) := by decide +kernel
theorem dX1_find_8 : decode cX1_find 8 = .ok (.aload_n 0, 1) := by decide +kernel
theorem dX1_find_9 : decode cX1_find 9 = .ok (.iload_n 2, 1) := by decide +kernel
theorem dX1_find_10 : decode cX1_find 10 = .ok (.invokevirtual 17, 3) := by decide +kernel
theorem dX1_find_13 : decode cX1_find 13 = .ok (.ifCond .eq 11, 3) := by decide +kernel
theorem dX1_find_16 : decode cX1_find 16 = .ok (.aload_n 0, 1) := by decide +kernel
theorem dX1_find_17 : decode cX1_find 17 = .ok (.iload_n 3, 1) := by decide +kernel
theorem dX1_find_18 : decode cX1_find 18 = .ok (.invokevirtual 20, 3) := by decide +kernel
theorem dX1_find_21 : decode cX1_find 21 = .ok (.ifCond .ne 5, 3) := by decide +kernel
theorem dX1_find_24 : decode cX1_find 24 = .ok (.iconst (-1), 1) := by decide +kernel
theorem dX1_find_25 : decode cX1_find 25 = .ok (.ireturn, 1) := by decide +kernel
theorem dX1_find_26 : decode cX1_find 26 = .ok (.iload_n 2, 1) := by decide +kernel
theorem dX1_find_27 : decode cX1_find 27 = .ok (.istore 4, 2) := by decide +kernel
theorem dX1_find_29 : decode cX1_find 29 = .ok (.iload 4, 2) := by decide +kernel
theorem dX1_find_31 : decode cX1_find 31 = .ok (.bipush 16, 2) := by decide +kernel
theorem dX1_find_33 : decode cX1_find 33 = .ok (.if_icmp .ge 28, 3) := by decide +kernel
theorem dX1_find_36 : decode cX1_find 36 = .ok (.aload_n 0, 1) := by decide +kernel
theorem dX1_find_37 : decode cX1_find 37 = .ok (.getfield 7, 3) := by decide +kernel
theorem dX1_find_40 : decode cX1_find 40 = .ok (.bipush 16, 2) := by decide +kernel
theorem dX1_find_42 : decode cX1_find 42 = .ok (.iload_n 1, 1) := by decide +kernel
theorem dX1_find_43 : decode cX1_find 43 = .ok (.imul, 1) := by decide +kernel
theorem dX1_find_44 : decode cX1_find 44 = .ok (.iload 4, 2) := by decide +kernel
theorem dX1_find_46 : decode cX1_find 46 = .ok (.iadd, 1) := by decide +kernel
theorem dX1_find_47 : decode cX1_find 47 = .ok (.iaload, 1) := by decide +kernel
theorem dX1_find_48 : decode cX1_find 48 = .ok (.iload_n 3, 1) := by decide +kernel
theorem dX1_find_49 : decode cX1_find 49 = .ok (.if_icmp .ne 6, 3) := by decide +kernel
theorem dX1_find_52 : decode cX1_find 52 = .ok (.iload 4, 2) := by decide +kernel
theorem dX1_find_54 : decode cX1_find 54 = .ok (.ireturn, 1) := by decide +kernel
theorem dX1_find_55 : decode cX1_find 55 = .ok (.iinc 4 1, 3) := by decide +kernel
theorem dX1_find_58 : decode cX1_find 58 = .ok (.goto (-29), 3) := by decide +kernel
theorem dX1_find_61 : decode cX1_find 61 = .ok (.bipush (-4), 2) := by decide +kernel
theorem dX1_find_63 : decode cX1_find 63 = .ok (.ireturn, 1) := by decide +kernel
theorem dX1_blank_0 : decode cX1_blank 0 = .ok (.iconst 0, 1) := by decide +kernel
theorem dX1_blank_1 : decode cX1_blank 1 = .ok (.istore_n 1, 1) := by decide +kernel
theorem dX1_blank_2 : decode cX1_blank 2 = .ok (.iconst 0, 1) := by decide +kernel
theorem dX1_blank_3 : decode cX1_blank 3 = .ok (.istore_n 2, 1) := by decide +kernel
theorem dX1_blank_4 : decode cX1_blank 4 = .ok (.iload_n 2, 1) := by decide +kernel
theorem dX1_blank_5 : decode cX1_blank 5 = .ok (.bipush 12, 2) := by decide +kernel
theorem dX1_blank_7 : decode cX1_blank 7 = .ok (.if_icmp .ge 20, 3) := by decide +kernel
theorem dX1_blank_10 : decode cX1_blank 10 = .ok (.aload_n 0, 1) := by decide +kernel
theorem dX1_blank_11 : decode cX1_blank 11 = .ok (.iload_n 2, 1) := by decide +kernel
theorem dX1_blank_12 : decode cX1_blank 12 = .ok (.invokevirtual 23, 3) := by decide +kernel
theorem dX1_blank_15 : decode cX1_blank 15 = .ok (.ifCond .ne 6, 3) := by decide +kernel
theorem dX1_blank_18 : decode cX1_blank 18 = .ok (.iinc 1 1, 3) := by decide +kernel
theorem dX1_blank_21 : decode cX1_blank 21 = .ok (.iinc 2 1, 3) := by decide +kernel
theorem dX1_blank_24 : decode cX1_blank 24 = .ok (.goto (-20), 3) := by decide +kernel
theorem dX1_blank_27 : decode cX1_blank 27 = .ok (.iload_n 1, 1) := by decide +kernel
theorem dX1_blank_28 : decode cX1_blank 28 = .ok (.ireturn, 1) := by decide +kernel
theorem dX1_twin_0 : decode cX1_twin 0 = .ok (.aload_n 0, 1) := by decide +kernel
theorem dX1_twin_1 : decode cX1_twin 1 = .ok (.iload_n 1, 1) := by decide +kernel
theorem dX1_twin_2 : decode cX1_twin 2 = .ok (.invokevirtual 13, 3) := by decide +kernel
theorem dX1_twin_5 : decode cX1_twin 5 = .ok (.ifCond .ne 5, 3) := by decide +kernel
theorem dX1_twin_8 : decode cX1_twin 8 = .ok (.iconst (-1), 1) := by decide +kernel
theorem dX1_twin_9 : decode cX1_twin 9 = .ok (.ireturn, 1) := by decide +kernel
theorem dX1_twin_10 : decode cX1_twin 10 = .ok (.iconst 0, 1) := by decide +kernel
theorem dX1_twin_11 : decode cX1_twin 11 = .ok (.istore_n 2, 1) := by decide +kernel
theorem dX1_twin_12 : decode cX1_twin 12 = .ok (.iload_n 2, 1) := by decide +kernel
theorem dX1_twin_13 : decode cX1_twin 13 = .ok (.bipush 12, 2) := by decide +kernel
theorem dX1_twin_15 : decode cX1_twin 15 = .ok (.if_icmp .ge 27, 3) := by decide +kernel
theorem dX1_twin_18 : decode cX1_twin 18 = .ok (.iload_n 2, 1) := by decide +kernel
theorem dX1_twin_19 : decode cX1_twin 19 = .ok (.iload_n 1, 1) := by decide +kernel
theorem dX1_twin_20 : decode cX1_twin 20 = .ok (.if_icmp .eq 16, 3) := by decide +kernel
theorem dX1_twin_23 : decode cX1_twin 23 = .ok (.aload_n 0, 1) := by decide +kernel
theorem dX1_twin_24 : decode cX1_twin 24 = .ok (.iload_n 1, 1) := by decide +kernel
theorem dX1_twin_25 : decode cX1_twin 25 = .ok (.iload_n 2, 1) := by decide +kernel
theorem dX1_twin_26 : decode cX1_twin 26 = .ok (.invokevirtual 27, 3) := by decide +kernel
theorem dX1_twin_29 : decode cX1_twin 29 = .ok (.bipush (-4), 2) := by decide +kernel
theorem dX1_twin_31 : decode cX1_twin 31 = .ok (.if_icmp .ne 5, 3) := by decide +kernel
theorem dX1_twin_34 : decode cX1_twin 34 = .ok (.iload_n 2, 1) := by decide +kernel
theorem dX1_twin_35 : decode cX1_twin 35 = .ok (.ireturn, 1) := by decide +kernel
theorem dX1_twin_36 : decode cX1_twin 36 = .ok (.iinc 2 1, 3) := by decide +kernel
theorem dX1_twin_39 : decode cX1_twin 39 = .ok (.goto (-27), 3) := by decide +kernel
theorem dX1_twin_42 : decode cX1_twin 42 = .ok (.bipush (-4), 2) := by decide +kernel
theorem dX1_twin_44 : decode cX1_twin 44 = .ok (.ireturn, 1) := by decide +kernel
theorem dX1_away_0 : decode cX1_away 0 = .ok (.aload_n 0, 1) := by decide +kernel
theorem dX1_away_1 : decode cX1_away 1 = .ok (.iload_n 1, 1) := by decide +kernel
theorem dX1_away_2 : decode cX1_away 2 = .ok (.invokevirtual 13, 3) := by decide +kernel
theorem dX1_away_5 : decode cX1_away 5 = .ok (.ifCond .eq 7, 3) := by decide +kernel
theorem dX1_away_8 : decode cX1_away 8 = .ok (.iconst 0, 1) := by decide +kernel
theorem dX1_away_9 : decode cX1_away 9 = .ok (.goto 4, 3) := by decide +kernel
theorem dX1_away_12 : decode cX1_away 12 = .ok (.iconst (-1), 1) := by decide +kernel
theorem dX1_away_13 : decode cX1_away 13 = .ok (.ireturn, 1) := by decide +kernel
theorem dX1_flush_0 : decode cX1_flush 0 = .ok (.return_, 1) := by decide +kernel
theorem dX1_rest_0 : decode cX1_rest 0 = .ok (.return_, 1) := by decide +kernel
end
section
set_option maxRecDepth 100000
theorem dL_law_0 : decode cL_law 0 = .ok (.new 7, 3) := by decide +kernel
theorem dL_law_3 : decode cL_law 3 = .ok (.dup, 1) := by decide +kernel
theorem dL_law_4 : decode cL_law 4 = .ok (.invokespecial 9, 3) := by decide +kernel
theorem dL_law_7 : decode cL_law 7 = .ok (.astore_n 1, 1) := by decide +kernel
theorem dL_law_8 : decode cL_law 8 = .ok (.new 10, 3) := by decide +kernel
theorem dL_law_11 : decode cL_law 11 = .ok (.dup, 1) := by decide +kernel
theorem dL_law_12 : decode cL_law 12 = .ok (.invokespecial 12, 3) := by decide +kernel
theorem dL_law_15 : decode cL_law 15 = .ok (.astore_n 2, 1) := by decide +kernel
theorem dL_law_16 : decode cL_law 16 = .ok (.iconst 0, 1) := by decide +kernel
theorem dL_law_17 : decode cL_law 17 = .ok (.istore_n 3, 1) := by decide +kernel
theorem dL_law_18 : decode cL_law 18 = .ok (.iload_n 3, 1) := by decide +kernel
theorem dL_law_19 : decode cL_law 19 = .ok (.aload_n 0, 1) := by decide +kernel
theorem dL_law_20 : decode cL_law 20 = .ok (.arraylength, 1) := by decide +kernel
theorem dL_law_21 : decode cL_law 21 = .ok (.iconst 5, 1) := by decide +kernel
theorem dL_law_22 : decode cL_law 22 = .ok (.isub, 1) := by decide +kernel
theorem dL_law_23 : decode cL_law 23 = .ok (.if_icmp .gt 599, 3) := by decide +kernel
theorem dL_law_26 : decode cL_law 26 = .ok (.aload_n 0, 1) := by decide +kernel
theorem dL_law_27 : decode cL_law 27 = .ok (.iload_n 3, 1) := by decide +kernel
theorem dL_law_28 : decode cL_law 28 = .ok (.iaload, 1) := by decide +kernel
theorem dL_law_29 : decode cL_law 29 = .ok (.bipush 15, 2) := by decide +kernel
theorem dL_law_31 : decode cL_law 31 = .ok (.iand, 1) := by decide +kernel
theorem dL_law_32 : decode cL_law 32 = .ok (.tableswitch 584 0 15 #[80, 123, 156, 209, 242, 275, 328, 361, 384, 407, 440, 483, 496, 519, 542, 563], 80) := by decide +kernel
theorem dL_law_112 : decode cL_law 112 = .ok (.aload_n 1, 1) := by decide +kernel
theorem dL_law_113 : decode cL_law 113 = .ok (.aload_n 0, 1) := by decide +kernel
theorem dL_law_114 : decode cL_law 114 = .ok (.iload_n 3, 1) := by decide +kernel
theorem dL_law_115 : decode cL_law 115 = .ok (.iconst 1, 1) := by decide +kernel
theorem dL_law_116 : decode cL_law 116 = .ok (.iadd, 1) := by decide +kernel
theorem dL_law_117 : decode cL_law 117 = .ok (.iaload, 1) := by decide +kernel
theorem dL_law_118 : decode cL_law 118 = .ok (.aload_n 0, 1) := by decide +kernel
theorem dL_law_119 : decode cL_law 119 = .ok (.iload_n 3, 1) := by decide +kernel
theorem dL_law_120 : decode cL_law 120 = .ok (.iconst 2, 1) := by decide +kernel
theorem dL_law_121 : decode cL_law 121 = .ok (.iadd, 1) := by decide +kernel
theorem dL_law_122 : decode cL_law 122 = .ok (.iaload, 1) := by decide +kernel
theorem dL_law_123 : decode cL_law 123 = .ok (.aload_n 0, 1) := by decide +kernel
theorem dL_law_124 : decode cL_law 124 = .ok (.iload_n 3, 1) := by decide +kernel
theorem dL_law_125 : decode cL_law 125 = .ok (.iconst 3, 1) := by decide +kernel
theorem dL_law_126 : decode cL_law 126 = .ok (.iadd, 1) := by decide +kernel
theorem dL_law_127 : decode cL_law 127 = .ok (.iaload, 1) := by decide +kernel
theorem dL_law_128 : decode cL_law 128 = .ok (.invokevirtual 13, 3) := by decide +kernel
theorem dL_law_131 : decode cL_law 131 = .ok (.aload_n 2, 1) := by decide +kernel
theorem dL_law_132 : decode cL_law 132 = .ok (.aload_n 0, 1) := by decide +kernel
theorem dL_law_133 : decode cL_law 133 = .ok (.iload_n 3, 1) := by decide +kernel
theorem dL_law_134 : decode cL_law 134 = .ok (.iconst 1, 1) := by decide +kernel
theorem dL_law_135 : decode cL_law 135 = .ok (.iadd, 1) := by decide +kernel
theorem dL_law_136 : decode cL_law 136 = .ok (.iaload, 1) := by decide +kernel
theorem dL_law_137 : decode cL_law 137 = .ok (.aload_n 0, 1) := by decide +kernel
theorem dL_law_138 : decode cL_law 138 = .ok (.iload_n 3, 1) := by decide +kernel
theorem dL_law_139 : decode cL_law 139 = .ok (.iconst 2, 1) := by decide +kernel
theorem dL_law_140 : decode cL_law 140 = .ok (.iadd, 1) := by decide +kernel
theorem dL_law_141 : decode cL_law 141 = .ok (.iaload, 1) := by decide +kernel
theorem dL_law_142 : decode cL_law 142 = .ok (.aload_n 0, 1) := by decide +kernel
theorem dL_law_143 : decode cL_law 143 = .ok (.iload_n 3, 1) := by decide +kernel
theorem dL_law_144 : decode cL_law 144 = .ok (.iconst 3, 1) := by decide +kernel
theorem dL_law_145 : decode cL_law 145 = .ok (.iadd, 1) := by decide +kernel
theorem dL_law_146 : decode cL_law 146 = .ok (.iaload, 1) := by decide +kernel
theorem dL_law_147 : decode cL_law 147 = .ok (.invokevirtual 17, 3) := by decide +kernel
theorem dL_law_150 : decode cL_law 150 = .ok (.if_icmp .eq 466, 3) := by decide +kernel
theorem dL_law_153 : decode cL_law 153 = .ok (.iconst 0, 1) := by decide +kernel
theorem dL_law_154 : decode cL_law 154 = .ok (.ireturn, 1) := by decide +kernel
theorem dL_law_155 : decode cL_law 155 = .ok (.aload_n 1, 1) := by decide +kernel
theorem dL_law_156 : decode cL_law 156 = .ok (.aload_n 0, 1) := by decide +kernel
theorem dL_law_157 : decode cL_law 157 = .ok (.iload_n 3, 1) := by decide +kernel
theorem dL_law_158 : decode cL_law 158 = .ok (.iconst 1, 1) := by decide +kernel
theorem dL_law_159 : decode cL_law 159 = .ok (.iadd, 1) := by decide +kernel
theorem dL_law_160 : decode cL_law 160 = .ok (.iaload, 1) := by decide +kernel
theorem dL_law_161 : decode cL_law 161 = .ok (.aload_n 0, 1) := by decide +kernel
theorem dL_law_162 : decode cL_law 162 = .ok (.iload_n 3, 1) := by decide +kernel
theorem dL_law_163 : decode cL_law 163 = .ok (.iconst 2, 1) := by decide +kernel
theorem dL_law_164 : decode cL_law 164 = .ok (.iadd, 1) := by decide +kernel
theorem dL_law_165 : decode cL_law 165 = .ok (.iaload, 1) := by decide +kernel
theorem dL_law_166 : decode cL_law 166 = .ok (.invokevirtual 18, 3) := by decide +kernel
theorem dL_law_169 : decode cL_law 169 = .ok (.aload_n 2, 1) := by decide +kernel
theorem dL_law_170 : decode cL_law 170 = .ok (.aload_n 0, 1) := by decide +kernel
theorem dL_law_171 : decode cL_law 171 = .ok (.iload_n 3, 1) := by decide +kernel
theorem dL_law_172 : decode cL_law 172 = .ok (.iconst 1, 1) := by decide +kernel
theorem dL_law_173 : decode cL_law 173 = .ok (.iadd, 1) := by decide +kernel
theorem dL_law_174 : decode cL_law 174 = .ok (.iaload, 1) := by decide +kernel
theorem dL_law_175 : decode cL_law 175 = .ok (.aload_n 0, 1) := by decide +kernel
theorem dL_law_176 : decode cL_law 176 = .ok (.iload_n 3, 1) := by decide +kernel
theorem dL_law_177 : decode cL_law 177 = .ok (.iconst 2, 1) := by decide +kernel
theorem dL_law_178 : decode cL_law 178 = .ok (.iadd, 1) := by decide +kernel
theorem dL_law_179 : decode cL_law 179 = .ok (.iaload, 1) := by decide +kernel
theorem dL_law_180 : decode cL_law 180 = .ok (.invokevirtual 22, 3) := by decide +kernel
theorem dL_law_183 : decode cL_law 183 = .ok (.if_icmp .eq 433, 3) := by decide +kernel
theorem dL_law_186 : decode cL_law 186 = .ok (.iconst 0, 1) := by decide +kernel
theorem dL_law_187 : decode cL_law 187 = .ok (.ireturn, 1) := by decide +kernel
theorem dL_law_188 : decode cL_law 188 = .ok (.aload_n 1, 1) := by decide +kernel
theorem dL_law_189 : decode cL_law 189 = .ok (.aload_n 0, 1) := by decide +kernel
theorem dL_law_190 : decode cL_law 190 = .ok (.iload_n 3, 1) := by decide +kernel
theorem dL_law_191 : decode cL_law 191 = .ok (.iconst 1, 1) := by decide +kernel
theorem dL_law_192 : decode cL_law 192 = .ok (.iadd, 1) := by decide +kernel
theorem dL_law_193 : decode cL_law 193 = .ok (.iaload, 1) := by decide +kernel
theorem dL_law_194 : decode cL_law 194 = .ok (.aload_n 0, 1) := by decide +kernel
theorem dL_law_195 : decode cL_law 195 = .ok (.iload_n 3, 1) := by decide +kernel
theorem dL_law_196 : decode cL_law 196 = .ok (.iconst 2, 1) := by decide +kernel
theorem dL_law_197 : decode cL_law 197 = .ok (.iadd, 1) := by decide +kernel
theorem dL_law_198 : decode cL_law 198 = .ok (.iaload, 1) := by decide +kernel
theorem dL_law_199 : decode cL_law 199 = .ok (.aload_n 0, 1) := by decide +kernel
theorem dL_law_200 : decode cL_law 200 = .ok (.iload_n 3, 1) := by decide +kernel
theorem dL_law_201 : decode cL_law 201 = .ok (.iconst 3, 1) := by decide +kernel
theorem dL_law_202 : decode cL_law 202 = .ok (.iadd, 1) := by decide +kernel
theorem dL_law_203 : decode cL_law 203 = .ok (.iaload, 1) := by decide +kernel
theorem dL_law_204 : decode cL_law 204 = .ok (.aload_n 0, 1) := by decide +kernel
theorem dL_law_205 : decode cL_law 205 = .ok (.iload_n 3, 1) := by decide +kernel
theorem dL_law_206 : decode cL_law 206 = .ok (.iconst 4, 1) := by decide +kernel
theorem dL_law_207 : decode cL_law 207 = .ok (.iadd, 1) := by decide +kernel
theorem dL_law_208 : decode cL_law 208 = .ok (.iaload, 1) := by decide +kernel
theorem dL_law_209 : decode cL_law 209 = .ok (.invokevirtual 23, 3) := by decide +kernel
theorem dL_law_212 : decode cL_law 212 = .ok (.aload_n 2, 1) := by decide +kernel
theorem dL_law_213 : decode cL_law 213 = .ok (.aload_n 0, 1) := by decide +kernel
theorem dL_law_214 : decode cL_law 214 = .ok (.iload_n 3, 1) := by decide +kernel
theorem dL_law_215 : decode cL_law 215 = .ok (.iconst 1, 1) := by decide +kernel
theorem dL_law_216 : decode cL_law 216 = .ok (.iadd, 1) := by decide +kernel
theorem dL_law_217 : decode cL_law 217 = .ok (.iaload, 1) := by decide +kernel
theorem dL_law_218 : decode cL_law 218 = .ok (.aload_n 0, 1) := by decide +kernel
theorem dL_law_219 : decode cL_law 219 = .ok (.iload_n 3, 1) := by decide +kernel
theorem dL_law_220 : decode cL_law 220 = .ok (.iconst 2, 1) := by decide +kernel
theorem dL_law_221 : decode cL_law 221 = .ok (.iadd, 1) := by decide +kernel
theorem dL_law_222 : decode cL_law 222 = .ok (.iaload, 1) := by decide +kernel
theorem dL_law_223 : decode cL_law 223 = .ok (.aload_n 0, 1) := by decide +kernel
theorem dL_law_224 : decode cL_law 224 = .ok (.iload_n 3, 1) := by decide +kernel
theorem dL_law_225 : decode cL_law 225 = .ok (.iconst 3, 1) := by decide +kernel
theorem dL_law_226 : decode cL_law 226 = .ok (.iadd, 1) := by decide +kernel
theorem dL_law_227 : decode cL_law 227 = .ok (.iaload, 1) := by decide +kernel
theorem dL_law_228 : decode cL_law 228 = .ok (.aload_n 0, 1) := by decide +kernel
theorem dL_law_229 : decode cL_law 229 = .ok (.iload_n 3, 1) := by decide +kernel
theorem dL_law_230 : decode cL_law 230 = .ok (.iconst 4, 1) := by decide +kernel
theorem dL_law_231 : decode cL_law 231 = .ok (.iadd, 1) := by decide +kernel
theorem dL_law_232 : decode cL_law 232 = .ok (.iaload, 1) := by decide +kernel
theorem dL_law_233 : decode cL_law 233 = .ok (.invokevirtual 27, 3) := by decide +kernel
theorem dL_law_236 : decode cL_law 236 = .ok (.if_icmp .eq 380, 3) := by decide +kernel
theorem dL_law_239 : decode cL_law 239 = .ok (.iconst 0, 1) := by decide +kernel
theorem dL_law_240 : decode cL_law 240 = .ok (.ireturn, 1) := by decide +kernel
theorem dL_law_241 : decode cL_law 241 = .ok (.aload_n 1, 1) := by decide +kernel
theorem dL_law_242 : decode cL_law 242 = .ok (.aload_n 0, 1) := by decide +kernel
theorem dL_law_243 : decode cL_law 243 = .ok (.iload_n 3, 1) := by decide +kernel
theorem dL_law_244 : decode cL_law 244 = .ok (.iconst 1, 1) := by decide +kernel
theorem dL_law_245 : decode cL_law 245 = .ok (.iadd, 1) := by decide +kernel
theorem dL_law_246 : decode cL_law 246 = .ok (.iaload, 1) := by decide +kernel
theorem dL_law_247 : decode cL_law 247 = .ok (.aload_n 0, 1) := by decide +kernel
theorem dL_law_248 : decode cL_law 248 = .ok (.iload_n 3, 1) := by decide +kernel
theorem dL_law_249 : decode cL_law 249 = .ok (.iconst 2, 1) := by decide +kernel
theorem dL_law_250 : decode cL_law 250 = .ok (.iadd, 1) := by decide +kernel
theorem dL_law_251 : decode cL_law 251 = .ok (.iaload, 1) := by decide +kernel
theorem dL_law_252 : decode cL_law 252 = .ok (.invokevirtual 28, 3) := by decide +kernel
theorem dL_law_255 : decode cL_law 255 = .ok (.aload_n 2, 1) := by decide +kernel
theorem dL_law_256 : decode cL_law 256 = .ok (.aload_n 0, 1) := by decide +kernel
theorem dL_law_257 : decode cL_law 257 = .ok (.iload_n 3, 1) := by decide +kernel
theorem dL_law_258 : decode cL_law 258 = .ok (.iconst 1, 1) := by decide +kernel
theorem dL_law_259 : decode cL_law 259 = .ok (.iadd, 1) := by decide +kernel
theorem dL_law_260 : decode cL_law 260 = .ok (.iaload, 1) := by decide +kernel
theorem dL_law_261 : decode cL_law 261 = .ok (.aload_n 0, 1) := by decide +kernel
theorem dL_law_262 : decode cL_law 262 = .ok (.iload_n 3, 1) := by decide +kernel
theorem dL_law_263 : decode cL_law 263 = .ok (.iconst 2, 1) := by decide +kernel
theorem dL_law_264 : decode cL_law 264 = .ok (.iadd, 1) := by decide +kernel
theorem dL_law_265 : decode cL_law 265 = .ok (.iaload, 1) := by decide +kernel
theorem dL_law_266 : decode cL_law 266 = .ok (.invokevirtual 31, 3) := by decide +kernel
theorem dL_law_269 : decode cL_law 269 = .ok (.if_icmp .eq 347, 3) := by decide +kernel
theorem dL_law_272 : decode cL_law 272 = .ok (.iconst 0, 1) := by decide +kernel
theorem dL_law_273 : decode cL_law 273 = .ok (.ireturn, 1) := by decide +kernel
theorem dL_law_274 : decode cL_law 274 = .ok (.aload_n 1, 1) := by decide +kernel
theorem dL_law_275 : decode cL_law 275 = .ok (.aload_n 0, 1) := by decide +kernel
theorem dL_law_276 : decode cL_law 276 = .ok (.iload_n 3, 1) := by decide +kernel
theorem dL_law_277 : decode cL_law 277 = .ok (.iconst 1, 1) := by decide +kernel
theorem dL_law_278 : decode cL_law 278 = .ok (.iadd, 1) := by decide +kernel
theorem dL_law_279 : decode cL_law 279 = .ok (.iaload, 1) := by decide +kernel
theorem dL_law_280 : decode cL_law 280 = .ok (.aload_n 0, 1) := by decide +kernel
theorem dL_law_281 : decode cL_law 281 = .ok (.iload_n 3, 1) := by decide +kernel
theorem dL_law_282 : decode cL_law 282 = .ok (.iconst 2, 1) := by decide +kernel
theorem dL_law_283 : decode cL_law 283 = .ok (.iadd, 1) := by decide +kernel
theorem dL_law_284 : decode cL_law 284 = .ok (.iaload, 1) := by decide +kernel
theorem dL_law_285 : decode cL_law 285 = .ok (.invokevirtual 32, 3) := by decide +kernel
theorem dL_law_288 : decode cL_law 288 = .ok (.aload_n 2, 1) := by decide +kernel
theorem dL_law_289 : decode cL_law 289 = .ok (.aload_n 0, 1) := by decide +kernel
theorem dL_law_290 : decode cL_law 290 = .ok (.iload_n 3, 1) := by decide +kernel
theorem dL_law_291 : decode cL_law 291 = .ok (.iconst 1, 1) := by decide +kernel
theorem dL_law_292 : decode cL_law 292 = .ok (.iadd, 1) := by decide +kernel
theorem dL_law_293 : decode cL_law 293 = .ok (.iaload, 1) := by decide +kernel
theorem dL_law_294 : decode cL_law 294 = .ok (.aload_n 0, 1) := by decide +kernel
theorem dL_law_295 : decode cL_law 295 = .ok (.iload_n 3, 1) := by decide +kernel
theorem dL_law_296 : decode cL_law 296 = .ok (.iconst 2, 1) := by decide +kernel
theorem dL_law_297 : decode cL_law 297 = .ok (.iadd, 1) := by decide +kernel
theorem dL_law_298 : decode cL_law 298 = .ok (.iaload, 1) := by decide +kernel
theorem dL_law_299 : decode cL_law 299 = .ok (.invokevirtual 35, 3) := by decide +kernel
theorem dL_law_302 : decode cL_law 302 = .ok (.if_icmp .eq 314, 3) := by decide +kernel
theorem dL_law_305 : decode cL_law 305 = .ok (.iconst 0, 1) := by decide +kernel
theorem dL_law_306 : decode cL_law 306 = .ok (.ireturn, 1) := by decide +kernel
theorem dL_law_307 : decode cL_law 307 = .ok (.aload_n 1, 1) := by decide +kernel
theorem dL_law_308 : decode cL_law 308 = .ok (.aload_n 0, 1) := by decide +kernel
theorem dL_law_309 : decode cL_law 309 = .ok (.iload_n 3, 1) := by decide +kernel
theorem dL_law_310 : decode cL_law 310 = .ok (.iconst 1, 1) := by decide +kernel
theorem dL_law_311 : decode cL_law 311 = .ok (.iadd, 1) := by decide +kernel
theorem dL_law_312 : decode cL_law 312 = .ok (.iaload, 1) := by decide +kernel
theorem dL_law_313 : decode cL_law 313 = .ok (.aload_n 0, 1) := by decide +kernel
theorem dL_law_314 : decode cL_law 314 = .ok (.iload_n 3, 1) := by decide +kernel
theorem dL_law_315 : decode cL_law 315 = .ok (.iconst 2, 1) := by decide +kernel
theorem dL_law_316 : decode cL_law 316 = .ok (.iadd, 1) := by decide +kernel
theorem dL_law_317 : decode cL_law 317 = .ok (.iaload, 1) := by decide +kernel
theorem dL_law_318 : decode cL_law 318 = .ok (.aload_n 0, 1) := by decide +kernel
theorem dL_law_319 : decode cL_law 319 = .ok (.iload_n 3, 1) := by decide +kernel
theorem dL_law_320 : decode cL_law 320 = .ok (.iconst 3, 1) := by decide +kernel
theorem dL_law_321 : decode cL_law 321 = .ok (.iadd, 1) := by decide +kernel
theorem dL_law_322 : decode cL_law 322 = .ok (.iaload, 1) := by decide +kernel
theorem dL_law_323 : decode cL_law 323 = .ok (.aload_n 0, 1) := by decide +kernel
theorem dL_law_324 : decode cL_law 324 = .ok (.iload_n 3, 1) := by decide +kernel
theorem dL_law_325 : decode cL_law 325 = .ok (.iconst 4, 1) := by decide +kernel
theorem dL_law_326 : decode cL_law 326 = .ok (.iadd, 1) := by decide +kernel
theorem dL_law_327 : decode cL_law 327 = .ok (.iaload, 1) := by decide +kernel
theorem dL_law_328 : decode cL_law 328 = .ok (.invokevirtual 36, 3) := by decide +kernel
theorem dL_law_331 : decode cL_law 331 = .ok (.aload_n 2, 1) := by decide +kernel
theorem dL_law_332 : decode cL_law 332 = .ok (.aload_n 0, 1) := by decide +kernel
theorem dL_law_333 : decode cL_law 333 = .ok (.iload_n 3, 1) := by decide +kernel
theorem dL_law_334 : decode cL_law 334 = .ok (.iconst 1, 1) := by decide +kernel
theorem dL_law_335 : decode cL_law 335 = .ok (.iadd, 1) := by decide +kernel
theorem dL_law_336 : decode cL_law 336 = .ok (.iaload, 1) := by decide +kernel
theorem dL_law_337 : decode cL_law 337 = .ok (.aload_n 0, 1) := by decide +kernel
theorem dL_law_338 : decode cL_law 338 = .ok (.iload_n 3, 1) := by decide +kernel
theorem dL_law_339 : decode cL_law 339 = .ok (.iconst 2, 1) := by decide +kernel
theorem dL_law_340 : decode cL_law 340 = .ok (.iadd, 1) := by decide +kernel
theorem dL_law_341 : decode cL_law 341 = .ok (.iaload, 1) := by decide +kernel
end
section
set_option maxRecDepth 100000
theorem dL_law_342 : decode cL_law 342 = .ok (.aload_n 0, 1) := by decide +kernel
theorem dL_law_343 : decode cL_law 343 = .ok (.iload_n 3, 1) := by decide +kernel
theorem dL_law_344 : decode cL_law 344 = .ok (.iconst 3, 1) := by decide +kernel
theorem dL_law_345 : decode cL_law 345 = .ok (.iadd, 1) := by decide +kernel
theorem dL_law_346 : decode cL_law 346 = .ok (.iaload, 1) := by decide +kernel
theorem dL_law_347 : decode cL_law 347 = .ok (.aload_n 0, 1) := by decide +kernel
theorem dL_law_348 : decode cL_law 348 = .ok (.iload_n 3, 1) := by decide +kernel
theorem dL_law_349 : decode cL_law 349 = .ok (.iconst 4, 1) := by decide +kernel
theorem dL_law_350 : decode cL_law 350 = .ok (.iadd, 1) := by decide +kernel
theorem dL_law_351 : decode cL_law 351 = .ok (.iaload, 1) := by decide +kernel
theorem dL_law_352 : decode cL_law 352 = .ok (.invokevirtual 39, 3) := by decide +kernel
theorem dL_law_355 : decode cL_law 355 = .ok (.if_icmp .eq 261, 3) := by decide +kernel
theorem dL_law_358 : decode cL_law 358 = .ok (.iconst 0, 1) := by decide +kernel
theorem dL_law_359 : decode cL_law 359 = .ok (.ireturn, 1) := by decide +kernel
theorem dL_law_360 : decode cL_law 360 = .ok (.aload_n 1, 1) := by decide +kernel
theorem dL_law_361 : decode cL_law 361 = .ok (.aload_n 0, 1) := by decide +kernel
theorem dL_law_362 : decode cL_law 362 = .ok (.iload_n 3, 1) := by decide +kernel
theorem dL_law_363 : decode cL_law 363 = .ok (.iconst 1, 1) := by decide +kernel
theorem dL_law_364 : decode cL_law 364 = .ok (.iadd, 1) := by decide +kernel
theorem dL_law_365 : decode cL_law 365 = .ok (.iaload, 1) := by decide +kernel
theorem dL_law_366 : decode cL_law 366 = .ok (.aload_n 0, 1) := by decide +kernel
theorem dL_law_367 : decode cL_law 367 = .ok (.iload_n 3, 1) := by decide +kernel
theorem dL_law_368 : decode cL_law 368 = .ok (.iconst 2, 1) := by decide +kernel
theorem dL_law_369 : decode cL_law 369 = .ok (.iadd, 1) := by decide +kernel
theorem dL_law_370 : decode cL_law 370 = .ok (.iaload, 1) := by decide +kernel
theorem dL_law_371 : decode cL_law 371 = .ok (.invokevirtual 40, 3) := by decide +kernel
theorem dL_law_374 : decode cL_law 374 = .ok (.aload_n 2, 1) := by decide +kernel
theorem dL_law_375 : decode cL_law 375 = .ok (.aload_n 0, 1) := by decide +kernel
theorem dL_law_376 : decode cL_law 376 = .ok (.iload_n 3, 1) := by decide +kernel
theorem dL_law_377 : decode cL_law 377 = .ok (.iconst 1, 1) := by decide +kernel
theorem dL_law_378 : decode cL_law 378 = .ok (.iadd, 1) := by decide +kernel
theorem dL_law_379 : decode cL_law 379 = .ok (.iaload, 1) := by decide +kernel
theorem dL_law_380 : decode cL_law 380 = .ok (.aload_n 0, 1) := by decide +kernel
theorem dL_law_381 : decode cL_law 381 = .ok (.iload_n 3, 1) := by decide +kernel
theorem dL_law_382 : decode cL_law 382 = .ok (.iconst 2, 1) := by decide +kernel
theorem dL_law_383 : decode cL_law 383 = .ok (.iadd, 1) := by decide +kernel
theorem dL_law_384 : decode cL_law 384 = .ok (.iaload, 1) := by decide +kernel
theorem dL_law_385 : decode cL_law 385 = .ok (.invokevirtual 43, 3) := by decide +kernel
theorem dL_law_388 : decode cL_law 388 = .ok (.if_icmp .eq 228, 3) := by decide +kernel
theorem dL_law_391 : decode cL_law 391 = .ok (.iconst 0, 1) := by decide +kernel
theorem dL_law_392 : decode cL_law 392 = .ok (.ireturn, 1) := by decide +kernel
theorem dL_law_393 : decode cL_law 393 = .ok (.aload_n 1, 1) := by decide +kernel
theorem dL_law_394 : decode cL_law 394 = .ok (.aload_n 0, 1) := by decide +kernel
theorem dL_law_395 : decode cL_law 395 = .ok (.iload_n 3, 1) := by decide +kernel
theorem dL_law_396 : decode cL_law 396 = .ok (.iconst 1, 1) := by decide +kernel
theorem dL_law_397 : decode cL_law 397 = .ok (.iadd, 1) := by decide +kernel
theorem dL_law_398 : decode cL_law 398 = .ok (.iaload, 1) := by decide +kernel
theorem dL_law_399 : decode cL_law 399 = .ok (.invokevirtual 44, 3) := by decide +kernel
theorem dL_law_402 : decode cL_law 402 = .ok (.aload_n 2, 1) := by decide +kernel
theorem dL_law_403 : decode cL_law 403 = .ok (.aload_n 0, 1) := by decide +kernel
theorem dL_law_404 : decode cL_law 404 = .ok (.iload_n 3, 1) := by decide +kernel
theorem dL_law_405 : decode cL_law 405 = .ok (.iconst 1, 1) := by decide +kernel
theorem dL_law_406 : decode cL_law 406 = .ok (.iadd, 1) := by decide +kernel
theorem dL_law_407 : decode cL_law 407 = .ok (.iaload, 1) := by decide +kernel
theorem dL_law_408 : decode cL_law 408 = .ok (.invokevirtual 48, 3) := by decide +kernel
theorem dL_law_411 : decode cL_law 411 = .ok (.if_icmp .eq 205, 3) := by decide +kernel
theorem dL_law_414 : decode cL_law 414 = .ok (.iconst 0, 1) := by decide +kernel
theorem dL_law_415 : decode cL_law 415 = .ok (.ireturn, 1) := by decide +kernel
theorem dL_law_416 : decode cL_law 416 = .ok (.aload_n 1, 1) := by decide +kernel
theorem dL_law_417 : decode cL_law 417 = .ok (.aload_n 0, 1) := by decide +kernel
theorem dL_law_418 : decode cL_law 418 = .ok (.iload_n 3, 1) := by decide +kernel
theorem dL_law_419 : decode cL_law 419 = .ok (.iconst 1, 1) := by decide +kernel
theorem dL_law_420 : decode cL_law 420 = .ok (.iadd, 1) := by decide +kernel
theorem dL_law_421 : decode cL_law 421 = .ok (.iaload, 1) := by decide +kernel
theorem dL_law_422 : decode cL_law 422 = .ok (.invokevirtual 49, 3) := by decide +kernel
theorem dL_law_425 : decode cL_law 425 = .ok (.aload_n 2, 1) := by decide +kernel
theorem dL_law_426 : decode cL_law 426 = .ok (.aload_n 0, 1) := by decide +kernel
theorem dL_law_427 : decode cL_law 427 = .ok (.iload_n 3, 1) := by decide +kernel
theorem dL_law_428 : decode cL_law 428 = .ok (.iconst 1, 1) := by decide +kernel
theorem dL_law_429 : decode cL_law 429 = .ok (.iadd, 1) := by decide +kernel
theorem dL_law_430 : decode cL_law 430 = .ok (.iaload, 1) := by decide +kernel
theorem dL_law_431 : decode cL_law 431 = .ok (.invokevirtual 52, 3) := by decide +kernel
theorem dL_law_434 : decode cL_law 434 = .ok (.if_icmp .eq 182, 3) := by decide +kernel
theorem dL_law_437 : decode cL_law 437 = .ok (.iconst 0, 1) := by decide +kernel
theorem dL_law_438 : decode cL_law 438 = .ok (.ireturn, 1) := by decide +kernel
theorem dL_law_439 : decode cL_law 439 = .ok (.aload_n 1, 1) := by decide +kernel
theorem dL_law_440 : decode cL_law 440 = .ok (.aload_n 0, 1) := by decide +kernel
theorem dL_law_441 : decode cL_law 441 = .ok (.iload_n 3, 1) := by decide +kernel
theorem dL_law_442 : decode cL_law 442 = .ok (.iconst 1, 1) := by decide +kernel
theorem dL_law_443 : decode cL_law 443 = .ok (.iadd, 1) := by decide +kernel
theorem dL_law_444 : decode cL_law 444 = .ok (.iaload, 1) := by decide +kernel
theorem dL_law_445 : decode cL_law 445 = .ok (.aload_n 0, 1) := by decide +kernel
theorem dL_law_446 : decode cL_law 446 = .ok (.iload_n 3, 1) := by decide +kernel
theorem dL_law_447 : decode cL_law 447 = .ok (.iconst 2, 1) := by decide +kernel
theorem dL_law_448 : decode cL_law 448 = .ok (.iadd, 1) := by decide +kernel
theorem dL_law_449 : decode cL_law 449 = .ok (.iaload, 1) := by decide +kernel
theorem dL_law_450 : decode cL_law 450 = .ok (.invokevirtual 53, 3) := by decide +kernel
theorem dL_law_453 : decode cL_law 453 = .ok (.aload_n 2, 1) := by decide +kernel
theorem dL_law_454 : decode cL_law 454 = .ok (.aload_n 0, 1) := by decide +kernel
theorem dL_law_455 : decode cL_law 455 = .ok (.iload_n 3, 1) := by decide +kernel
theorem dL_law_456 : decode cL_law 456 = .ok (.iconst 1, 1) := by decide +kernel
theorem dL_law_457 : decode cL_law 457 = .ok (.iadd, 1) := by decide +kernel
theorem dL_law_458 : decode cL_law 458 = .ok (.iaload, 1) := by decide +kernel
theorem dL_law_459 : decode cL_law 459 = .ok (.aload_n 0, 1) := by decide +kernel
theorem dL_law_460 : decode cL_law 460 = .ok (.iload_n 3, 1) := by decide +kernel
theorem dL_law_461 : decode cL_law 461 = .ok (.iconst 2, 1) := by decide +kernel
theorem dL_law_462 : decode cL_law 462 = .ok (.iadd, 1) := by decide +kernel
theorem dL_law_463 : decode cL_law 463 = .ok (.iaload, 1) := by decide +kernel
theorem dL_law_464 : decode cL_law 464 = .ok (.invokevirtual 56, 3) := by decide +kernel
theorem dL_law_467 : decode cL_law 467 = .ok (.if_icmp .eq 149, 3) := by decide +kernel
theorem dL_law_470 : decode cL_law 470 = .ok (.iconst 0, 1) := by decide +kernel
theorem dL_law_471 : decode cL_law 471 = .ok (.ireturn, 1) := by decide +kernel
theorem dL_law_472 : decode cL_law 472 = .ok (.aload_n 1, 1) := by decide +kernel
theorem dL_law_473 : decode cL_law 473 = .ok (.aload_n 0, 1) := by decide +kernel
theorem dL_law_474 : decode cL_law 474 = .ok (.iload_n 3, 1) := by decide +kernel
theorem dL_law_475 : decode cL_law 475 = .ok (.iconst 1, 1) := by decide +kernel
theorem dL_law_476 : decode cL_law 476 = .ok (.iadd, 1) := by decide +kernel
theorem dL_law_477 : decode cL_law 477 = .ok (.iaload, 1) := by decide +kernel
theorem dL_law_478 : decode cL_law 478 = .ok (.aload_n 0, 1) := by decide +kernel
theorem dL_law_479 : decode cL_law 479 = .ok (.iload_n 3, 1) := by decide +kernel
theorem dL_law_480 : decode cL_law 480 = .ok (.iconst 2, 1) := by decide +kernel
theorem dL_law_481 : decode cL_law 481 = .ok (.iadd, 1) := by decide +kernel
theorem dL_law_482 : decode cL_law 482 = .ok (.iaload, 1) := by decide +kernel
theorem dL_law_483 : decode cL_law 483 = .ok (.aload_n 0, 1) := by decide +kernel
theorem dL_law_484 : decode cL_law 484 = .ok (.iload_n 3, 1) := by decide +kernel
theorem dL_law_485 : decode cL_law 485 = .ok (.iconst 3, 1) := by decide +kernel
theorem dL_law_486 : decode cL_law 486 = .ok (.iadd, 1) := by decide +kernel
theorem dL_law_487 : decode cL_law 487 = .ok (.iaload, 1) := by decide +kernel
theorem dL_law_488 : decode cL_law 488 = .ok (.invokevirtual 57, 3) := by decide +kernel
theorem dL_law_491 : decode cL_law 491 = .ok (.aload_n 2, 1) := by decide +kernel
theorem dL_law_492 : decode cL_law 492 = .ok (.aload_n 0, 1) := by decide +kernel
theorem dL_law_493 : decode cL_law 493 = .ok (.iload_n 3, 1) := by decide +kernel
theorem dL_law_494 : decode cL_law 494 = .ok (.iconst 1, 1) := by decide +kernel
theorem dL_law_495 : decode cL_law 495 = .ok (.iadd, 1) := by decide +kernel
theorem dL_law_496 : decode cL_law 496 = .ok (.iaload, 1) := by decide +kernel
theorem dL_law_497 : decode cL_law 497 = .ok (.aload_n 0, 1) := by decide +kernel
theorem dL_law_498 : decode cL_law 498 = .ok (.iload_n 3, 1) := by decide +kernel
theorem dL_law_499 : decode cL_law 499 = .ok (.iconst 2, 1) := by decide +kernel
theorem dL_law_500 : decode cL_law 500 = .ok (.iadd, 1) := by decide +kernel
theorem dL_law_501 : decode cL_law 501 = .ok (.iaload, 1) := by decide +kernel
theorem dL_law_502 : decode cL_law 502 = .ok (.aload_n 0, 1) := by decide +kernel
theorem dL_law_503 : decode cL_law 503 = .ok (.iload_n 3, 1) := by decide +kernel
theorem dL_law_504 : decode cL_law 504 = .ok (.iconst 3, 1) := by decide +kernel
theorem dL_law_505 : decode cL_law 505 = .ok (.iadd, 1) := by decide +kernel
theorem dL_law_506 : decode cL_law 506 = .ok (.iaload, 1) := by decide +kernel
theorem dL_law_507 : decode cL_law 507 = .ok (.invokevirtual 60, 3) := by decide +kernel
theorem dL_law_510 : decode cL_law 510 = .ok (.if_icmp .eq 106, 3) := by decide +kernel
theorem dL_law_513 : decode cL_law 513 = .ok (.iconst 0, 1) := by decide +kernel
theorem dL_law_514 : decode cL_law 514 = .ok (.ireturn, 1) := by decide +kernel
theorem dL_law_515 : decode cL_law 515 = .ok (.aload_n 1, 1) := by decide +kernel
theorem dL_law_516 : decode cL_law 516 = .ok (.invokevirtual 61, 3) := by decide +kernel
theorem dL_law_519 : decode cL_law 519 = .ok (.aload_n 2, 1) := by decide +kernel
theorem dL_law_520 : decode cL_law 520 = .ok (.invokevirtual 65, 3) := by decide +kernel
theorem dL_law_523 : decode cL_law 523 = .ok (.if_icmp .eq 93, 3) := by decide +kernel
theorem dL_law_526 : decode cL_law 526 = .ok (.iconst 0, 1) := by decide +kernel
theorem dL_law_527 : decode cL_law 527 = .ok (.ireturn, 1) := by decide +kernel
theorem dL_law_528 : decode cL_law 528 = .ok (.aload_n 1, 1) := by decide +kernel
theorem dL_law_529 : decode cL_law 529 = .ok (.aload_n 0, 1) := by decide +kernel
theorem dL_law_530 : decode cL_law 530 = .ok (.iload_n 3, 1) := by decide +kernel
theorem dL_law_531 : decode cL_law 531 = .ok (.iconst 1, 1) := by decide +kernel
theorem dL_law_532 : decode cL_law 532 = .ok (.iadd, 1) := by decide +kernel
theorem dL_law_533 : decode cL_law 533 = .ok (.iaload, 1) := by decide +kernel
theorem dL_law_534 : decode cL_law 534 = .ok (.invokevirtual 66, 3) := by decide +kernel
theorem dL_law_537 : decode cL_law 537 = .ok (.aload_n 2, 1) := by decide +kernel
theorem dL_law_538 : decode cL_law 538 = .ok (.aload_n 0, 1) := by decide +kernel
theorem dL_law_539 : decode cL_law 539 = .ok (.iload_n 3, 1) := by decide +kernel
theorem dL_law_540 : decode cL_law 540 = .ok (.iconst 1, 1) := by decide +kernel
theorem dL_law_541 : decode cL_law 541 = .ok (.iadd, 1) := by decide +kernel
theorem dL_law_542 : decode cL_law 542 = .ok (.iaload, 1) := by decide +kernel
theorem dL_law_543 : decode cL_law 543 = .ok (.invokevirtual 69, 3) := by decide +kernel
theorem dL_law_546 : decode cL_law 546 = .ok (.if_icmp .eq 70, 3) := by decide +kernel
theorem dL_law_549 : decode cL_law 549 = .ok (.iconst 0, 1) := by decide +kernel
theorem dL_law_550 : decode cL_law 550 = .ok (.ireturn, 1) := by decide +kernel
theorem dL_law_551 : decode cL_law 551 = .ok (.aload_n 1, 1) := by decide +kernel
theorem dL_law_552 : decode cL_law 552 = .ok (.aload_n 0, 1) := by decide +kernel
theorem dL_law_553 : decode cL_law 553 = .ok (.iload_n 3, 1) := by decide +kernel
theorem dL_law_554 : decode cL_law 554 = .ok (.iconst 1, 1) := by decide +kernel
theorem dL_law_555 : decode cL_law 555 = .ok (.iadd, 1) := by decide +kernel
theorem dL_law_556 : decode cL_law 556 = .ok (.iaload, 1) := by decide +kernel
theorem dL_law_557 : decode cL_law 557 = .ok (.invokevirtual 70, 3) := by decide +kernel
theorem dL_law_560 : decode cL_law 560 = .ok (.aload_n 2, 1) := by decide +kernel
theorem dL_law_561 : decode cL_law 561 = .ok (.aload_n 0, 1) := by decide +kernel
theorem dL_law_562 : decode cL_law 562 = .ok (.iload_n 3, 1) := by decide +kernel
theorem dL_law_563 : decode cL_law 563 = .ok (.iconst 1, 1) := by decide +kernel
theorem dL_law_564 : decode cL_law 564 = .ok (.iadd, 1) := by decide +kernel
theorem dL_law_565 : decode cL_law 565 = .ok (.iaload, 1) := by decide +kernel
theorem dL_law_566 : decode cL_law 566 = .ok (.invokevirtual 73, 3) := by decide +kernel
theorem dL_law_569 : decode cL_law 569 = .ok (.if_icmp .eq 47, 3) := by decide +kernel
theorem dL_law_572 : decode cL_law 572 = .ok (.iconst 0, 1) := by decide +kernel
theorem dL_law_573 : decode cL_law 573 = .ok (.ireturn, 1) := by decide +kernel
theorem dL_law_574 : decode cL_law 574 = .ok (.aload_n 1, 1) := by decide +kernel
theorem dL_law_575 : decode cL_law 575 = .ok (.aload_n 0, 1) := by decide +kernel
theorem dL_law_576 : decode cL_law 576 = .ok (.iload_n 3, 1) := by decide +kernel
theorem dL_law_577 : decode cL_law 577 = .ok (.iconst 1, 1) := by decide +kernel
theorem dL_law_578 : decode cL_law 578 = .ok (.iadd, 1) := by decide +kernel
theorem dL_law_579 : decode cL_law 579 = .ok (.iaload, 1) := by decide +kernel
theorem dL_law_580 : decode cL_law 580 = .ok (.invokevirtual 74, 3) := by decide +kernel
theorem dL_law_583 : decode cL_law 583 = .ok (.aload_n 2, 1) := by decide +kernel
theorem dL_law_584 : decode cL_law 584 = .ok (.aload_n 0, 1) := by decide +kernel
theorem dL_law_585 : decode cL_law 585 = .ok (.iload_n 3, 1) := by decide +kernel
theorem dL_law_586 : decode cL_law 586 = .ok (.iconst 1, 1) := by decide +kernel
theorem dL_law_587 : decode cL_law 587 = .ok (.iadd, 1) := by decide +kernel
theorem dL_law_588 : decode cL_law 588 = .ok (.iaload, 1) := by decide +kernel
theorem dL_law_589 : decode cL_law 589 = .ok (.invokevirtual 78, 3) := by decide +kernel
theorem dL_law_592 : decode cL_law 592 = .ok (.goto 24, 3) := by decide +kernel
theorem dL_law_595 : decode cL_law 595 = .ok (.aload_n 1, 1) := by decide +kernel
theorem dL_law_596 : decode cL_law 596 = .ok (.aload_n 0, 1) := by decide +kernel
theorem dL_law_597 : decode cL_law 597 = .ok (.iload_n 3, 1) := by decide +kernel
theorem dL_law_598 : decode cL_law 598 = .ok (.iconst 1, 1) := by decide +kernel
theorem dL_law_599 : decode cL_law 599 = .ok (.iadd, 1) := by decide +kernel
theorem dL_law_600 : decode cL_law 600 = .ok (.iaload, 1) := by decide +kernel
theorem dL_law_601 : decode cL_law 601 = .ok (.invokevirtual 79, 3) := by decide +kernel
theorem dL_law_604 : decode cL_law 604 = .ok (.aload_n 2, 1) := by decide +kernel
theorem dL_law_605 : decode cL_law 605 = .ok (.aload_n 0, 1) := by decide +kernel
theorem dL_law_606 : decode cL_law 606 = .ok (.iload_n 3, 1) := by decide +kernel
theorem dL_law_607 : decode cL_law 607 = .ok (.iconst 1, 1) := by decide +kernel
theorem dL_law_608 : decode cL_law 608 = .ok (.iadd, 1) := by decide +kernel
theorem dL_law_609 : decode cL_law 609 = .ok (.iaload, 1) := by decide +kernel
theorem dL_law_610 : decode cL_law 610 = .ok (.invokevirtual 82, 3) := by decide +kernel
theorem dL_law_613 : decode cL_law 613 = .ok (.goto 3, 3) := by decide +kernel
theorem dL_law_616 : decode cL_law 616 = .ok (.iinc 3 5, 3) := by decide +kernel
theorem dL_law_619 : decode cL_law 619 = .ok (.goto (-601), 3) := by decide +kernel
theorem dL_law_622 : decode cL_law 622 = .ok (.iconst 1, 1) := by decide +kernel
theorem dL_law_623 : decode cL_law 623 = .ok (.ireturn, 1) := by decide +kernel
end
section
/-! THE ABSTRACT MACHINE: the world of both objects as one state Sg (array k, place j), the operand stack and the locals as ints or cells by their place in the world.
places: 0 kind 1 place 2 (object; its int clock) 3 frame 4 framePage 5 frameStamp 6 pool 7 poolPage 8 poolSize 9 poolStamp 10 slot 11 slotPage 12 packed 13 (the model's object; the int packedSize) 14 plain 15 held 16 the model's bytes -/
abbrev xV : Type := Int32 ⊕ Nat
abbrev xL : Type := List (Nat × xV)
abbrev Sg : Type := Nat → Nat → Int32
abbrev xK : Type := Nat → xL → List xV → Sg → Prop
def x_val (ad : Nat → Nat) (v : xV) : Value := match v with
  | .inl x => .int x
  | .inr k => .ref (ad k)
theorem x_cat (ad : Nat → Nat) (v : xV) : (x_val ad v).category = 1 := by cases v <;> rfl
def x_get : xL → Nat → Option xV
  | [], _ => none
  | q :: r, i => if q.1 = i then some q.2 else x_get r i
def x_set (lv : xL) (i : Nat) (v : xV) : xL := (i, v) :: lv.filter (fun q => !(q.1 == i))
def x_pick (lv : xL) (ks : List Nat) : xL := ks.filterMap (fun i => (x_get lv i).map (fun v => (i, v)))
def x_lv (ad : Nat → Nat) (lv : xL) : List (Nat × Value) := lv.map (fun q => (q.1, x_val ad q.2))
theorem x_get_mem {i : Nat} {v : xV} : ∀ {lv : xL}, x_get lv i = some v → (i, v) ∈ lv := by
  intro lv
  induction lv with
  | nil => intro h; cases h
  | cons q r ih =>
    intro h
    unfold x_get at h
    by_cases hq : q.1 = i
    · rw [if_pos hq] at h
      have e : q = (i, v) := by
        obtain ⟨a, b⟩ := q
        simp only [Option.some.injEq] at h
        subst h; subst hq; rfl
      rw [e]; exact List.mem_cons_self
    · rw [if_neg hq] at h
      exact List.mem_cons_of_mem _ (ih h)
theorem x_has_sub {ls : Array Slot} {nL : Nat} {l l' : List (Nat × Value)} (h : lv_has ls nL l) (hs : ∀ q ∈ l', q ∈ l) : lv_has ls nL l' := ⟨h.1, h.2.1, fun q hq => h.2.2 q (hs q hq)⟩
theorem x_at_get {ls : Array Slot} {nL : Nat} {ad : Nat → Nat} {lv : xL} {i : Nat} {v : xV} (h : lv_has ls nL (x_lv ad lv)) (hg : x_get lv i = some v) : ls[i]? = some (.val (x_val ad v)) :=
  h.2.2 (i, x_val ad v) (List.mem_map.mpr ⟨(i, v), x_get_mem hg, rfl⟩)
theorem x_has_set {ls : Array Slot} {nL : Nat} {ad : Nat → Nat} {lv : xL} {i : Nat} {v : xV} {w : Value} (hw : x_val ad v = w) (h : lv_has ls nL ((i, w) :: (x_lv ad lv).filter (fun q => !(q.1 == i) && !(q.1 + 1 == i && q.2.category == 2)))) : lv_has ls nL (x_lv ad (x_set lv i v)) := by
  refine x_has_sub h ?_
  intro q hq
  unfold x_lv x_set at hq
  rw [List.map_cons] at hq
  rcases List.mem_cons.mp hq with e | e
  · rw [e, hw]; exact List.mem_cons_self
  · obtain ⟨z, hz, ez⟩ := List.mem_map.mp e
    obtain ⟨h1, h2⟩ := List.mem_filter.mp hz
    refine List.mem_cons_of_mem _ (List.mem_filter.mpr ⟨List.mem_map.mpr ⟨z, h1, ez⟩, ?_⟩)
    subst ez
    have h3 : (z.1 == i) = false := by simpa using h2
    simp [h3, x_cat]
theorem x_has_pick {ls : Array Slot} {nL : Nat} {ad : Nat → Nat} {lv : xL} {ks : List Nat} (h : lv_has ls nL (x_lv ad lv)) : lv_has ls nL (x_lv ad (x_pick lv ks)) := by
  refine x_has_sub h ?_
  intro q hq
  obtain ⟨z, hz, ez⟩ := List.mem_map.mp hq
  obtain ⟨i, -, hi⟩ := List.mem_filterMap.mp hz
  cases hg : x_get lv i with
  | none => rw [hg] at hi; cases hi
  | some v =>
    rw [hg] at hi
    have e : z = (i, v) := by simpa using hi.symm
    exact List.mem_map.mpr ⟨z, by rw [e]; exact x_get_mem hg, ez⟩
def x_argsF : Nat → List Int32 → xL
  | _, [] => []
  | i, x :: xs => (i, .inl x) :: x_argsF (i + 1) xs
def x_args (th : Nat) (xs : List Int32) : xL := (0, .inr th) :: x_argsF 1 xs
theorem x_args_lv (ad : Nat → Nat) : ∀ (xs : List Int32) (i : Nat), lv_args i (xs.map Value.int) = x_lv ad (x_argsF i xs) := by
  intro xs
  induction xs with
  | nil => intro i; rfl
  | cons x xs ih =>
    intro i
    show (i, Value.int x) :: lv_args (i + 1) (xs.map Value.int) = (i, Value.int x) :: x_lv ad (x_argsF (i + 1) xs)
    rw [ih]
theorem x_args_has (ad : Nat → Nat) (th : Nat) (xs : List Int32) : lv_args 0 (Value.ref (ad th) :: xs.map Value.int) = x_lv ad (x_args th xs) := by
  show (0, Value.ref (ad th)) :: lv_args 1 (xs.map Value.int) = (0, Value.ref (ad th)) :: x_lv ad (x_argsF 1 xs)
  rw [x_args_lv]
theorem x_sl_len : ∀ (xs : List Int32), (lg_sl (xs.map Value.int)).length = xs.length := by
  intro xs
  induction xs with
  | nil => rfl
  | cons x xs ih =>
    show (Slot.val (.int x) :: lg_sl (xs.map Value.int)).length = _
    rw [List.length_cons, ih, List.length_cons]
theorem x_sl_len1 (a : Nat) (xs : List Int32) : (lg_sl (Value.ref a :: xs.map Value.int)).length = xs.length + 1 := by
  show (Slot.val (.ref a) :: lg_sl (xs.map Value.int)).length = _
  rw [List.length_cons, x_sl_len]
theorem x_room (ad : Nat → Nat) : ∀ (st : List xV), ((st.map (x_val ad)).map fun v => v.category).sum = st.length := by
  intro st
  induction st with
  | nil => rfl
  | cons v st ih =>
    rw [List.map_cons, List.map_cons, List.sum_cons, ih, x_cat, List.length_cons]
    omega
/-! the world -/
abbrev vwCl : List vw_C := [(RX0, TX0, 16), (RX1, TX1, 1)]
def sw_up (σ : Sg) (k j : Nat) (v : Int32) : Sg := fun a => if a = k then upd (σ k) j v else σ a
theorem sw_up_k (σ : Sg) (k j : Nat) (v : Int32) : sw_up σ k j v k = upd (σ k) j v := if_pos rfl
theorem sw_up_n {σ : Sg} {k j : Nat} {v : Int32} {a : Nat} (h : a ≠ k) : sw_up σ k j v a = σ a := if_neg h
theorem sw_up_s (σ : Sg) (k j : Nat) (v : Int32) : sw_up σ k j v k j = v := by rw [sw_up_k]; exact if_pos rfl
theorem sw_up_o {σ : Sg} {k j i : Nat} {v : Int32} (h : i ≠ j) : sw_up σ k j v k i = σ k i := by rw [sw_up_k]; exact if_neg h
def sw_o (ad : Nat → Nat) (σ : Sg) : List Value := [.ref (ad 0), .ref (ad 1), .int (σ 2 0), .ref (ad 3), .ref (ad 4), .ref (ad 5), .ref (ad 6), .ref (ad 7), .ref (ad 8), .ref (ad 9), .ref (ad 10), .ref (ad 11), .ref (ad 12), .int (σ 13 0), .ref (ad 14), .ref (ad 15)]
def sw_ls : List Nat := [12, 12, 0, 48, 3, 3, 64, 8, 8, 4, 192, 12, 24, 0, 16, 16, 192]
def sw_len (k : Nat) : Nat := sw_ls.getD k 0
def sw_w (ad : Nat → Nat) (d : ClassId) (σ : Sg) : va_W := [
  (ad 0, .inl (d, 12, .inl (σ 0))), (ad 1, .inl (d, 12, .inl (σ 1))), (ad 2, .inr (0, sw_o ad σ)), (ad 3, .inl (d, 48, .inl (σ 3))), (ad 4, .inl (d, 3, .inl (σ 4))), (ad 5, .inl (d, 3, .inl (σ 5))),
  (ad 6, .inl (d, 64, .inl (σ 6))), (ad 7, .inl (d, 8, .inl (σ 7))), (ad 8, .inl (d, 8, .inl (σ 8))), (ad 9, .inl (d, 4, .inl (σ 9))), (ad 10, .inl (d, 192, .inl (σ 10))), (ad 11, .inl (d, 12, .inl (σ 11))),
  (ad 12, .inl (d, 24, .inl (σ 12))), (ad 13, .inr (1, [.ref (ad 16)])), (ad 14, .inl (d, 16, .inl (σ 14))), (ad 15, .inl (d, 16, .inl (σ 15))), (ad 16, .inl (d, 192, .inl (σ 16)))]
theorem sw_len_le (k : Nat) : sw_len k ≤ 192 := by
  by_cases h : k < 17
  · exact (show ∀ k, k < 17 → sw_len k ≤ 192 by decide) k h
  · have e : sw_len k = 0 := by
      unfold sw_len
      rw [List.getD_eq_getElem?_getD, List.getElem?_eq_none (by show 17 ≤ k; omega)]
      rfl
    omega
theorem sw_len_lt {j k : Nat} (h : j < sw_len k) : k < 17 := by
  by_cases hk : k < 17
  · exact hk
  · have e : sw_len k = 0 := by
      unfold sw_len
      rw [List.getD_eq_getElem?_getD, List.getElem?_eq_none (by show 17 ≤ k; omega)]
      rfl
    omega
theorem sw_arr {ad : Nat → Nat} {d : ClassId} {σ : Sg} {j : Nat} : ∀ {k : Nat}, j < sw_len k → (sw_w ad d σ)[k]? = some (ad k, .inl (d, sw_len k, .inl (σ k))) := fun {k} h => match k, sw_len_lt h, h with
  | 0, _, h => rfl
  | 1, _, h => rfl
  | 2, _, h => absurd h (Nat.not_lt_zero _)
  | 3, _, h => rfl
  | 4, _, h => rfl
  | 5, _, h => rfl
  | 6, _, h => rfl
  | 7, _, h => rfl
  | 8, _, h => rfl
  | 9, _, h => rfl
  | 10, _, h => rfl
  | 11, _, h => rfl
  | 12, _, h => rfl
  | 13, _, h => absurd h (Nat.not_lt_zero _)
  | 14, _, h => rfl
  | 15, _, h => rfl
  | 16, _, h => rfl
  | n + 17, hk, _ => absurd hk (by omega)
theorem sw_set {ad : Nat → Nat} {d : ClassId} {σ : Sg} {j : Nat} {x : Int32} : ∀ {k : Nat}, j < sw_len k → (sw_w ad d σ).set k (ad k, .inl (d, sw_len k, .inl (upd (σ k) j x))) = sw_w ad d (sw_up σ k j x) := fun {k} h => match k, sw_len_lt h, h with
  | 0, _, h => rfl
  | 1, _, h => rfl
  | 2, _, h => absurd h (Nat.not_lt_zero _)
  | 3, _, h => rfl
  | 4, _, h => rfl
  | 5, _, h => rfl
  | 6, _, h => rfl
  | 7, _, h => rfl
  | 8, _, h => rfl
  | 9, _, h => rfl
  | 10, _, h => rfl
  | 11, _, h => rfl
  | 12, _, h => rfl
  | 13, _, h => absurd h (Nat.not_lt_zero _)
  | 14, _, h => rfl
  | 15, _, h => rfl
  | 16, _, h => rfl
  | n + 17, hk, _ => absurd hk (by omega)
theorem sw_setC {ad : Nat → Nat} {d : ClassId} {σ : Sg} {v : Int32} : (sw_w ad d σ).set 2 (ad 2, .inr (0, (sw_o ad σ).set 2 (.int v))) = sw_w ad d (sw_up σ 2 0 v) := rfl
theorem sw_setP {ad : Nat → Nat} {d : ClassId} {σ : Sg} {v : Int32} : (sw_w ad d σ).set 2 (ad 2, .inr (0, (sw_o ad σ).set 13 (.int v))) = sw_w ad d (sw_up σ 13 0 v) := rfl
/-! the machine at a configuration, and what a method's walk may use -/
def x_at (p : Program) (l : Launch) (e : Env) (R : Room) (s : State) (m : MethodId) (args : Array Value) (below : List Frame) (meth : Method) (c : Code) (cells slots : Nat) (Q : State → Prop) (dC : Nat → ClassId) (dI : Nat → Nat → Nat) (A : Nat → Prop) (ad : Nat → Nat) (d : ClassId) (nL : Nat) : xK :=
  fun pc lv st σ => ∀ (H : Heap) (locs : List Loc) (ls : Array Slot), va_P (dC, dI) vwCl (sw_w ad d σ) H → va_D A (sw_w ad d σ) → va_S A s.heap H locs → lv_has ls nL (x_lv ad lv) → W p l e R s m args below meth c H locs cells slots Q (F0 m pc ls (st.map (x_val ad)))
def xGood (l : Launch) (R : Room) (dC : Nat → ClassId) (dI : Nat → Nat → Nat) (ad : Nat → Nat) (d : ClassId) (own : String) (cc : ByteArray) (nL : Nat) (K : xK) : Prop :=
  ∃ (p : Program) (e : Env) (s : State) (m : MethodId) (args : Array Value) (below : List Frame) (meth : Method) (c : Code) (cells slots : Nat) (Q : State → Prop) (A : Nat → Prop),
    p.tables.exec = Jvm.exec ∧ c.code = cc ∧ c.maxLocals = nL ∧ s.vm.findClass own = some m.cls ∧ (∀ w ∈ lw_all, w.before args s = true) ∧ (∀ q : Nat, s.heap.size ≤ q → A q) ∧ va_K (dC, dI) vwCl [(d, .int)] s ∧ (cells ≤ R.cells ∧ slots ≤ R.slots) ∧ K = x_at p l e R s m args below meth c cells slots Q dC dI A ad d nL
section XR
variable {l : Launch} {R : Room} {dC : Nat → ClassId} {dI : Nat → Nat → Nat} {ad : Nat → Nat} {d : ClassId} {own : String} {cc : ByteArray} {nL : Nat} {K : xK} {lv : xL} {st : List xV} {σ : Sg}
theorem r_pick (G : xGood l R dC dI ad d own cc nL K) {pc : Nat} (ks : List Nat) (k : K pc (x_pick lv ks) st σ) : K pc lv st σ := by
  obtain ⟨p, e, s, m, args, below, meth, c, cells, slots, Q, A, hx, hb, hml, hown, hts, hA, hK, hf, rfl⟩ := G
  intro H locs ls hP hD hS hl
  exact k H locs ls hP hD hS (x_has_pick hl)
theorem r_aload (G : xGood l R dC dI ad d own cc nL K) (pc : Nat) {i : Fin 4} {k : Nat} (hd : decode cc pc = .ok (.aload_n i, 1)) (hg : x_get lv i.val = some (.inr k)) (kk : K (pc + 1) lv (.inr k :: st) σ) : K pc lv st σ := by
  obtain ⟨p, e, s, m, args, below, meth, c, cells, slots, Q, A, hx, hb, hml, hown, hts, hA, hK, hf, rfl⟩ := G
  intro H locs ls hP hD hS hl
  exact lv_aload_n hx hb hd rfl (x_at_get hl hg) (kk H locs ls hP hD hS hl)
theorem r_iload_n (G : xGood l R dC dI ad d own cc nL K) (pc : Nat) {i : Fin 4} {x : Int32} (hd : decode cc pc = .ok (.iload_n i, 1)) (hg : x_get lv i.val = some (.inl x)) (kk : K (pc + 1) lv (.inl x :: st) σ) : K pc lv st σ := by
  obtain ⟨p, e, s, m, args, below, meth, c, cells, slots, Q, A, hx, hb, hml, hown, hts, hA, hK, hf, rfl⟩ := G
  intro H locs ls hP hD hS hl
  exact lv_iload_n hx hb hd rfl (x_at_get hl hg) (kk H locs ls hP hD hS hl)
theorem r_iload (G : xGood l R dC dI ad d own cc nL K) (pc : Nat) {i : Nat} {x : Int32} (hd : decode cc pc = .ok (.iload i, 2)) (hg : x_get lv i = some (.inl x)) (kk : K (pc + 2) lv (.inl x :: st) σ) : K pc lv st σ := by
  obtain ⟨p, e, s, m, args, below, meth, c, cells, slots, Q, A, hx, hb, hml, hown, hts, hA, hK, hf, rfl⟩ := G
  intro H locs ls hP hD hS hl
  exact lv_iload hx hb hd (x_at_get hl hg) (kk H locs ls hP hD hS hl)
theorem r_istore_n (G : xGood l R dC dI ad d own cc nL K) (pc : Nat) {i : Fin 4} {x : Int32} (hd : decode cc pc = .ok (.istore_n i, 1)) (hi : i.val < nL) (kk : K (pc + 1) (x_set lv i.val (.inl x)) st σ) : K pc lv (.inl x :: st) σ := by
  obtain ⟨p, e, s, m, args, below, meth, c, cells, slots, Q, A, hx, hb, hml, hown, hts, hA, hK, hf, rfl⟩ := G
  intro H locs ls hP hD hS hl
  exact lv_istore_n hx hb hd rfl hl hi rfl (fun ls' hl' => kk H locs ls' hP hD hS (x_has_set rfl hl'))
theorem r_istore (G : xGood l R dC dI ad d own cc nL K) (pc : Nat) {i : Nat} {x : Int32} (hd : decode cc pc = .ok (.istore i, 2)) (hi : i < nL) (kk : K (pc + 2) (x_set lv i (.inl x)) st σ) : K pc lv (.inl x :: st) σ := by
  obtain ⟨p, e, s, m, args, below, meth, c, cells, slots, Q, A, hx, hb, hml, hown, hts, hA, hK, hf, rfl⟩ := G
  intro H locs ls hP hD hS hl
  exact lv_istore hx hb hd hl hi rfl (fun ls' hl' => kk H locs ls' hP hD hS (x_has_set rfl hl'))
theorem r_iinc (G : xGood l R dC dI ad d own cc nL K) (pc : Nat) {i : Nat} {n : Int} {x v : Int32} (hd : decode cc pc = .ok (.iinc i n, 3)) (hg : x_get lv i = some (.inl x)) (hv : x + Int32.ofInt n = v) (hi : i < nL) (kk : K (pc + 3) (x_set lv i (.inl v)) st σ) : K pc lv st σ := by
  obtain ⟨p, e, s, m, args, below, meth, c, cells, slots, Q, A, hx, hb, hml, hown, hts, hA, hK, hf, rfl⟩ := G
  intro H locs ls hP hD hS hl
  obtain ⟨k, hk⟩ := List.getElem?_of_mem (List.mem_map.mpr ⟨(i, .inl x), x_get_mem hg, rfl⟩ : (i, Value.int x) ∈ x_lv ad lv)
  exact lv_iinc (k := k) hx hb hd hl hk hv hi rfl (fun ls' hl' => kk H locs ls' hP hD hS (x_has_set rfl hl'))
theorem r_iconst (G : xGood l R dC dI ad d own cc nL K) (pc : Nat) (v : Int32) {n : Int} (hd : decode cc pc = .ok (.iconst n, 1)) (hv : Int32.ofInt n = v) (kk : K (pc + 1) lv (.inl v :: st) σ) : K pc lv st σ := by
  obtain ⟨p, e, s, m, args, below, meth, c, cells, slots, Q, A, hx, hb, hml, hown, hts, hA, hK, hf, rfl⟩ := G
  intro H locs ls hP hD hS hl
  exact lv_iconst hx hb hd hv (kk H locs ls hP hD hS hl)
theorem r_bipush (G : xGood l R dC dI ad d own cc nL K) (pc : Nat) (v : Int32) {n : Int} (hd : decode cc pc = .ok (.bipush n, 2)) (hv : (Int8.ofInt n).toInt32 = v) (kk : K (pc + 2) lv (.inl v :: st) σ) : K pc lv st σ := by
  obtain ⟨p, e, s, m, args, below, meth, c, cells, slots, Q, A, hx, hb, hml, hown, hts, hA, hK, hf, rfl⟩ := G
  intro H locs ls hP hD hS hl
  exact lv_bipush hx hb hd hv (kk H locs ls hP hD hS hl)
theorem r_sipush (G : xGood l R dC dI ad d own cc nL K) (pc : Nat) (v : Int32) {n : Int} (hd : decode cc pc = .ok (.sipush n, 3)) (hv : (Int16.ofInt n).toInt32 = v) (kk : K (pc + 3) lv (.inl v :: st) σ) : K pc lv st σ := by
  obtain ⟨p, e, s, m, args, below, meth, c, cells, slots, Q, A, hx, hb, hml, hown, hts, hA, hK, hf, rfl⟩ := G
  intro H locs ls hP hD hS hl
  exact lv_sipush hx hb hd hv (kk H locs ls hP hD hS hl)
theorem r_iadd (G : xGood l R dC dI ad d own cc nL K) (pc : Nat) {x y z : Int32} (hd : decode cc pc = .ok (.iadd, 1)) (hz : x + y = z) (kk : K (pc + 1) lv (.inl z :: st) σ) : K pc lv (.inl y :: .inl x :: st) σ := by
  obtain ⟨p, e, s, m, args, below, meth, c, cells, slots, Q, A, hx, hb, hml, hown, hts, hA, hK, hf, rfl⟩ := G
  intro H locs ls hP hD hS hl
  subst hz
  exact lv_iadd hx hb hd (kk H locs ls hP hD hS hl)
theorem r_isub (G : xGood l R dC dI ad d own cc nL K) (pc : Nat) {x y z : Int32} (hd : decode cc pc = .ok (.isub, 1)) (hz : x - y = z) (kk : K (pc + 1) lv (.inl z :: st) σ) : K pc lv (.inl y :: .inl x :: st) σ := by
  obtain ⟨p, e, s, m, args, below, meth, c, cells, slots, Q, A, hx, hb, hml, hown, hts, hA, hK, hf, rfl⟩ := G
  intro H locs ls hP hD hS hl
  subst hz
  exact lv_isub hx hb hd (kk H locs ls hP hD hS hl)
theorem r_imul (G : xGood l R dC dI ad d own cc nL K) (pc : Nat) {x y z : Int32} (hd : decode cc pc = .ok (.imul, 1)) (hz : x * y = z) (kk : K (pc + 1) lv (.inl z :: st) σ) : K pc lv (.inl y :: .inl x :: st) σ := by
  obtain ⟨p, e, s, m, args, below, meth, c, cells, slots, Q, A, hx, hb, hml, hown, hts, hA, hK, hf, rfl⟩ := G
  intro H locs ls hP hD hS hl
  subst hz
  exact lv_imul hx hb hd (kk H locs ls hP hD hS hl)
theorem r_iand (G : xGood l R dC dI ad d own cc nL K) (pc : Nat) {x y z : Int32} (hd : decode cc pc = .ok (.iand, 1)) (hz : x &&& y = z) (kk : K (pc + 1) lv (.inl z :: st) σ) : K pc lv (.inl y :: .inl x :: st) σ := by
  obtain ⟨p, e, s, m, args, below, meth, c, cells, slots, Q, A, hx, hb, hml, hown, hts, hA, hK, hf, rfl⟩ := G
  intro H locs ls hP hD hS hl
  subst hz
  exact lv_iand hx hb hd (kk H locs ls hP hD hS hl)
theorem r_ixor (G : xGood l R dC dI ad d own cc nL K) (pc : Nat) {x y z : Int32} (hd : decode cc pc = .ok (.ixor, 1)) (hz : x ^^^ y = z) (kk : K (pc + 1) lv (.inl z :: st) σ) : K pc lv (.inl y :: .inl x :: st) σ := by
  obtain ⟨p, e, s, m, args, below, meth, c, cells, slots, Q, A, hx, hb, hml, hown, hts, hA, hK, hf, rfl⟩ := G
  intro H locs ls hP hD hS hl
  subst hz
  exact lv_ixor hx hb hd (kk H locs ls hP hD hS hl)
theorem r_ishr (G : xGood l R dC dI ad d own cc nL K) (pc : Nat) {x y z : Int32} (hd : decode cc pc = .ok (.ishr, 1)) (hz : x >>> (y &&& 31) = z) (kk : K (pc + 1) lv (.inl z :: st) σ) : K pc lv (.inl y :: .inl x :: st) σ := by
  obtain ⟨p, e, s, m, args, below, meth, c, cells, slots, Q, A, hx, hb, hml, hown, hts, hA, hK, hf, rfl⟩ := G
  intro H locs ls hP hD hS hl
  subst hz
  exact lv_ishr hx hb hd (kk H locs ls hP hD hS hl)
theorem r_idiv (G : xGood l R dC dI ad d own cc nL K) (pc : Nat) {x y z : Int32} (hd : decode cc pc = .ok (.idiv, 1)) (hne : ¬ y = 0) (hz : x / y = z) (kk : K (pc + 1) lv (.inl z :: st) σ) : K pc lv (.inl y :: .inl x :: st) σ := by
  obtain ⟨p, e, s, m, args, below, meth, c, cells, slots, Q, A, hx, hb, hml, hown, hts, hA, hK, hf, rfl⟩ := G
  intro H locs ls hP hD hS hl
  subst hz
  exact lv_idiv hx hb hd hne (kk H locs ls hP hD hS hl)
theorem r_irem (G : xGood l R dC dI ad d own cc nL K) (pc : Nat) {x y z : Int32} (hd : decode cc pc = .ok (.irem, 1)) (hne : ¬ y = 0) (hz : x - x / y * y = z) (kk : K (pc + 1) lv (.inl z :: st) σ) : K pc lv (.inl y :: .inl x :: st) σ := by
  obtain ⟨p, e, s, m, args, below, meth, c, cells, slots, Q, A, hx, hb, hml, hown, hts, hA, hK, hf, rfl⟩ := G
  intro H locs ls hP hD hS hl
  subst hz
  exact lv_irem hx hb hd hne (kk H locs ls hP hD hS hl)
theorem r_dup (G : xGood l R dC dI ad d own cc nL K) (pc : Nat) {v : xV} (hd : decode cc pc = .ok (.dup, 1)) (kk : K (pc + 1) lv (v :: v :: st) σ) : K pc lv (v :: st) σ := by
  obtain ⟨p, e, s, m, args, below, meth, c, cells, slots, Q, A, hx, hb, hml, hown, hts, hA, hK, hf, rfl⟩ := G
  intro H locs ls hP hD hS hl
  exact lv_dup hx hb hd (x_cat ad v) (kk H locs ls hP hD hS hl)
theorem r_pop (G : xGood l R dC dI ad d own cc nL K) (pc : Nat) {v : xV} (hd : decode cc pc = .ok (.pop, 1)) (kk : K (pc + 1) lv st σ) : K pc lv (v :: st) σ := by
  obtain ⟨p, e, s, m, args, below, meth, c, cells, slots, Q, A, hx, hb, hml, hown, hts, hA, hK, hf, rfl⟩ := G
  intro H locs ls hP hD hS hl
  exact lv_pop hx hb hd (x_cat ad v) (kk H locs ls hP hD hS hl)
theorem r_goto (G : xGood l R dC dI ad d own cc nL K) (pc tgt : Nat) {off : Int} (hd : decode cc pc = .ok (.goto off, 3)) (ht : (pc : Int) + off = (tgt : Int)) (kk : K tgt lv st σ) : K pc lv st σ := by
  obtain ⟨p, e, s, m, args, below, meth, c, cells, slots, Q, A, hx, hb, hml, hown, hts, hA, hK, hf, rfl⟩ := G
  intro H locs ls hP hD hS hl
  exact lv_goto hx hb hd ht (kk H locs ls hP hD hS hl)
theorem r_icmp_eq (G : xGood l R dC dI ad d own cc nL K) (pc tgt : Nat) {x y : Int32} {off : Int} (hd : decode cc pc = .ok (.if_icmp .eq off, 3)) (ht : (pc : Int) + off = (tgt : Int)) (kt : x = y → K tgt lv st σ) (kf : ¬ (x = y) → K (pc + 3) lv st σ) : K pc lv (.inl y :: .inl x :: st) σ := by
  obtain ⟨p, e, s, m, args, below, meth, c, cells, slots, Q, A, hx, hb, hml, hown, hts, hA, hK, hf, rfl⟩ := G
  intro H locs ls hP hD hS hl
  exact lv_icmp_eq hx hb hd ht (fun h => kt h H locs ls hP hD hS hl) (fun h => kf h H locs ls hP hD hS hl)
theorem r_if_eq (G : xGood l R dC dI ad d own cc nL K) (pc tgt : Nat) {x : Int32} {off : Int} (hd : decode cc pc = .ok (.ifCond .eq off, 3)) (ht : (pc : Int) + off = (tgt : Int)) (kt : x = 0 → K tgt lv st σ) (kf : ¬ (x = 0) → K (pc + 3) lv st σ) : K pc lv (.inl x :: st) σ := by
  obtain ⟨p, e, s, m, args, below, meth, c, cells, slots, Q, A, hx, hb, hml, hown, hts, hA, hK, hf, rfl⟩ := G
  intro H locs ls hP hD hS hl
  exact lv_if_eq hx hb hd ht (fun h => kt h H locs ls hP hD hS hl) (fun h => kf h H locs ls hP hD hS hl)
theorem r_icmp_ne (G : xGood l R dC dI ad d own cc nL K) (pc tgt : Nat) {x y : Int32} {off : Int} (hd : decode cc pc = .ok (.if_icmp .ne off, 3)) (ht : (pc : Int) + off = (tgt : Int)) (kt : ¬ x = y → K tgt lv st σ) (kf : x = y → K (pc + 3) lv st σ) : K pc lv (.inl y :: .inl x :: st) σ := by
  obtain ⟨p, e, s, m, args, below, meth, c, cells, slots, Q, A, hx, hb, hml, hown, hts, hA, hK, hf, rfl⟩ := G
  intro H locs ls hP hD hS hl
  exact lv_icmp_ne hx hb hd ht (fun h => kt h H locs ls hP hD hS hl) (fun h => kf h H locs ls hP hD hS hl)
theorem r_if_ne (G : xGood l R dC dI ad d own cc nL K) (pc tgt : Nat) {x : Int32} {off : Int} (hd : decode cc pc = .ok (.ifCond .ne off, 3)) (ht : (pc : Int) + off = (tgt : Int)) (kt : ¬ x = 0 → K tgt lv st σ) (kf : x = 0 → K (pc + 3) lv st σ) : K pc lv (.inl x :: st) σ := by
  obtain ⟨p, e, s, m, args, below, meth, c, cells, slots, Q, A, hx, hb, hml, hown, hts, hA, hK, hf, rfl⟩ := G
  intro H locs ls hP hD hS hl
  exact lv_if_ne hx hb hd ht (fun h => kt h H locs ls hP hD hS hl) (fun h => kf h H locs ls hP hD hS hl)
theorem r_icmp_lt (G : xGood l R dC dI ad d own cc nL K) (pc tgt : Nat) {x y : Int32} {off : Int} (hd : decode cc pc = .ok (.if_icmp .lt off, 3)) (ht : (pc : Int) + off = (tgt : Int)) (kt : x < y → K tgt lv st σ) (kf : ¬ (x < y) → K (pc + 3) lv st σ) : K pc lv (.inl y :: .inl x :: st) σ := by
  obtain ⟨p, e, s, m, args, below, meth, c, cells, slots, Q, A, hx, hb, hml, hown, hts, hA, hK, hf, rfl⟩ := G
  intro H locs ls hP hD hS hl
  exact lv_icmp_lt hx hb hd ht (fun h => kt h H locs ls hP hD hS hl) (fun h => kf h H locs ls hP hD hS hl)
theorem r_if_lt (G : xGood l R dC dI ad d own cc nL K) (pc tgt : Nat) {x : Int32} {off : Int} (hd : decode cc pc = .ok (.ifCond .lt off, 3)) (ht : (pc : Int) + off = (tgt : Int)) (kt : x < 0 → K tgt lv st σ) (kf : ¬ (x < 0) → K (pc + 3) lv st σ) : K pc lv (.inl x :: st) σ := by
  obtain ⟨p, e, s, m, args, below, meth, c, cells, slots, Q, A, hx, hb, hml, hown, hts, hA, hK, hf, rfl⟩ := G
  intro H locs ls hP hD hS hl
  exact lv_if_lt hx hb hd ht (fun h => kt h H locs ls hP hD hS hl) (fun h => kf h H locs ls hP hD hS hl)
theorem r_icmp_ge (G : xGood l R dC dI ad d own cc nL K) (pc tgt : Nat) {x y : Int32} {off : Int} (hd : decode cc pc = .ok (.if_icmp .ge off, 3)) (ht : (pc : Int) + off = (tgt : Int)) (kt : y ≤ x → K tgt lv st σ) (kf : ¬ (y ≤ x) → K (pc + 3) lv st σ) : K pc lv (.inl y :: .inl x :: st) σ := by
  obtain ⟨p, e, s, m, args, below, meth, c, cells, slots, Q, A, hx, hb, hml, hown, hts, hA, hK, hf, rfl⟩ := G
  intro H locs ls hP hD hS hl
  exact lv_icmp_ge hx hb hd ht (fun h => kt h H locs ls hP hD hS hl) (fun h => kf h H locs ls hP hD hS hl)
theorem r_if_ge (G : xGood l R dC dI ad d own cc nL K) (pc tgt : Nat) {x : Int32} {off : Int} (hd : decode cc pc = .ok (.ifCond .ge off, 3)) (ht : (pc : Int) + off = (tgt : Int)) (kt : 0 ≤ x → K tgt lv st σ) (kf : ¬ (0 ≤ x) → K (pc + 3) lv st σ) : K pc lv (.inl x :: st) σ := by
  obtain ⟨p, e, s, m, args, below, meth, c, cells, slots, Q, A, hx, hb, hml, hown, hts, hA, hK, hf, rfl⟩ := G
  intro H locs ls hP hD hS hl
  exact lv_if_ge hx hb hd ht (fun h => kt h H locs ls hP hD hS hl) (fun h => kf h H locs ls hP hD hS hl)
theorem r_icmp_gt (G : xGood l R dC dI ad d own cc nL K) (pc tgt : Nat) {x y : Int32} {off : Int} (hd : decode cc pc = .ok (.if_icmp .gt off, 3)) (ht : (pc : Int) + off = (tgt : Int)) (kt : y < x → K tgt lv st σ) (kf : ¬ (y < x) → K (pc + 3) lv st σ) : K pc lv (.inl y :: .inl x :: st) σ := by
  obtain ⟨p, e, s, m, args, below, meth, c, cells, slots, Q, A, hx, hb, hml, hown, hts, hA, hK, hf, rfl⟩ := G
  intro H locs ls hP hD hS hl
  exact lv_icmp_gt hx hb hd ht (fun h => kt h H locs ls hP hD hS hl) (fun h => kf h H locs ls hP hD hS hl)
theorem r_if_gt (G : xGood l R dC dI ad d own cc nL K) (pc tgt : Nat) {x : Int32} {off : Int} (hd : decode cc pc = .ok (.ifCond .gt off, 3)) (ht : (pc : Int) + off = (tgt : Int)) (kt : 0 < x → K tgt lv st σ) (kf : ¬ (0 < x) → K (pc + 3) lv st σ) : K pc lv (.inl x :: st) σ := by
  obtain ⟨p, e, s, m, args, below, meth, c, cells, slots, Q, A, hx, hb, hml, hown, hts, hA, hK, hf, rfl⟩ := G
  intro H locs ls hP hD hS hl
  exact lv_if_gt hx hb hd ht (fun h => kt h H locs ls hP hD hS hl) (fun h => kf h H locs ls hP hD hS hl)
theorem r_icmp_le (G : xGood l R dC dI ad d own cc nL K) (pc tgt : Nat) {x y : Int32} {off : Int} (hd : decode cc pc = .ok (.if_icmp .le off, 3)) (ht : (pc : Int) + off = (tgt : Int)) (kt : x ≤ y → K tgt lv st σ) (kf : ¬ (x ≤ y) → K (pc + 3) lv st σ) : K pc lv (.inl y :: .inl x :: st) σ := by
  obtain ⟨p, e, s, m, args, below, meth, c, cells, slots, Q, A, hx, hb, hml, hown, hts, hA, hK, hf, rfl⟩ := G
  intro H locs ls hP hD hS hl
  exact lv_icmp_le hx hb hd ht (fun h => kt h H locs ls hP hD hS hl) (fun h => kf h H locs ls hP hD hS hl)
theorem r_if_le (G : xGood l R dC dI ad d own cc nL K) (pc tgt : Nat) {x : Int32} {off : Int} (hd : decode cc pc = .ok (.ifCond .le off, 3)) (ht : (pc : Int) + off = (tgt : Int)) (kt : x ≤ 0 → K tgt lv st σ) (kf : ¬ (x ≤ 0) → K (pc + 3) lv st σ) : K pc lv (.inl x :: st) σ := by
  obtain ⟨p, e, s, m, args, below, meth, c, cells, slots, Q, A, hx, hb, hml, hown, hts, hA, hK, hf, rfl⟩ := G
  intro H locs ls hP hD hS hl
  exact lv_if_le hx hb hd ht (fun h => kt h H locs ls hP hD hS hl) (fun h => kf h H locs ls hP hD hS hl)
theorem r_ald (G : xGood l R dC dI ad d own cc nL K) (pc N : Nat) {k : Nat} {i : Int32} {j : Nat} (hN : sw_len k = N) (hd : decode cc pc = .ok (.iaload, 1)) (hi : i = nI j) (hj : j < N) (kk : K (pc + 1) lv (.inl (σ k j) :: st) σ) : K pc lv (.inl i :: .inr k :: st) σ := by
  obtain ⟨p, e, s, m, args, below, meth, c, cells, slots, Q, A, hx, hb, hml, hown, hts, hA, hK, hf, rfl⟩ := G
  intro H locs ls hP hD hS hl
  subst hN; subst hi
  have hc : (nI j).toNatClampNeg = j := nI_clamp (by have := sw_len_le k; omega)
  refine va_iald hx hb hK hP k 0 (sw_arr hj) rfl (vp_in_nI hj (by have := sw_len_le k; omega)) hd ?_
  rw [hc]
  exact kk H locs ls hP hD hS hl
theorem r_ast (G : xGood l R dC dI ad d own cc nL K) (pc N : Nat) {k : Nat} {i x : Int32} {j : Nat} (hN : sw_len k = N) (hd : decode cc pc = .ok (.iastore, 1)) (hi : i = nI j) (hj : j < N) (kk : K (pc + 1) lv st (sw_up σ k j x)) : K pc lv (.inl x :: .inl i :: .inr k :: st) σ := by
  obtain ⟨p, e, s, m, args, below, meth, c, cells, slots, Q, A, hx, hb, hml, hown, hts, hA, hK, hf, rfl⟩ := G
  intro H locs ls hP hD hS hl
  subst hN; subst hi
  have hc : (nI j).toNatClampNeg = j := nI_clamp (by have := sw_len_le k; omega)
  refine va_iast hx hb hK hP hD hS k 0 (sw_arr hj) rfl (vp_in_nI hj (by have := sw_len_le k; omega)) hd (fun H1 locs1 hP1 hD1 hS1 => ?_)
  rw [hc, sw_set hj] at hP1 hD1
  exact kk H1 locs1 ls hP1 hD1 hS1 hl
end XR
section XF
variable {l : Launch} {R : Room} {dC : Nat → ClassId} {dI : Nat → Nat → Nat} {ad : Nat → Nat} {d : ClassId} {cc : ByteArray} {nL : Nat} {K : xK} {lv : xL} {st : List xV} {σ : Sg}
theorem r_f0 (G : xGood l R dC dI ad d RX0 cc nL K) (pc : Nat) (hd : decode cc pc = .ok (.getfield 7, 3)) (kk : K (pc + 3) lv (.inr 0 :: st) σ) : K pc lv (.inr 2 :: st) σ := by
  obtain ⟨p, e, s, m, args, below, meth, c, cells, slots, Q, A, hx, hb, hml, hown, hts, hA, hK, hf, rfl⟩ := G
  intro H locs ls hP hD hS hl
  exact va_get (D := (dC, dI)) (ci := 0) (v := .ref (ad 0)) (fs := sw_o ad σ) (C := RX0) (T := TX0) (N := 16) hx hb hts in_X0 hown hK hP 2 rfl rfl 0 (by decide) (hts _ q39) (fun _ h9 => h9) rfl hd (kk H locs ls hP hD hS hl)
theorem r_f1 (G : xGood l R dC dI ad d RX0 cc nL K) (pc : Nat) (hd : decode cc pc = .ok (.getfield 13, 3)) (kk : K (pc + 3) lv (.inr 1 :: st) σ) : K pc lv (.inr 2 :: st) σ := by
  obtain ⟨p, e, s, m, args, below, meth, c, cells, slots, Q, A, hx, hb, hml, hown, hts, hA, hK, hf, rfl⟩ := G
  intro H locs ls hP hD hS hl
  exact va_get (D := (dC, dI)) (ci := 0) (v := .ref (ad 1)) (fs := sw_o ad σ) (C := RX0) (T := TX0) (N := 16) hx hb hts in_X0 hown hK hP 2 rfl rfl 1 (by decide) (hts _ q40) (fun _ h9 => h9) rfl hd (kk H locs ls hP hD hS hl)
theorem r_f3 (G : xGood l R dC dI ad d RX0 cc nL K) (pc : Nat) (hd : decode cc pc = .ok (.getfield 16, 3)) (kk : K (pc + 3) lv (.inr 3 :: st) σ) : K pc lv (.inr 2 :: st) σ := by
  obtain ⟨p, e, s, m, args, below, meth, c, cells, slots, Q, A, hx, hb, hml, hown, hts, hA, hK, hf, rfl⟩ := G
  intro H locs ls hP hD hS hl
  exact va_get (D := (dC, dI)) (ci := 0) (v := .ref (ad 3)) (fs := sw_o ad σ) (C := RX0) (T := TX0) (N := 16) hx hb hts in_X0 hown hK hP 2 rfl rfl 3 (by decide) (hts _ q42) (fun _ h9 => h9) rfl hd (kk H locs ls hP hD hS hl)
theorem r_f4 (G : xGood l R dC dI ad d RX0 cc nL K) (pc : Nat) (hd : decode cc pc = .ok (.getfield 19, 3)) (kk : K (pc + 3) lv (.inr 4 :: st) σ) : K pc lv (.inr 2 :: st) σ := by
  obtain ⟨p, e, s, m, args, below, meth, c, cells, slots, Q, A, hx, hb, hml, hown, hts, hA, hK, hf, rfl⟩ := G
  intro H locs ls hP hD hS hl
  exact va_get (D := (dC, dI)) (ci := 0) (v := .ref (ad 4)) (fs := sw_o ad σ) (C := RX0) (T := TX0) (N := 16) hx hb hts in_X0 hown hK hP 2 rfl rfl 4 (by decide) (hts _ q43) (fun _ h9 => h9) rfl hd (kk H locs ls hP hD hS hl)
theorem r_f5 (G : xGood l R dC dI ad d RX0 cc nL K) (pc : Nat) (hd : decode cc pc = .ok (.getfield 22, 3)) (kk : K (pc + 3) lv (.inr 5 :: st) σ) : K pc lv (.inr 2 :: st) σ := by
  obtain ⟨p, e, s, m, args, below, meth, c, cells, slots, Q, A, hx, hb, hml, hown, hts, hA, hK, hf, rfl⟩ := G
  intro H locs ls hP hD hS hl
  exact va_get (D := (dC, dI)) (ci := 0) (v := .ref (ad 5)) (fs := sw_o ad σ) (C := RX0) (T := TX0) (N := 16) hx hb hts in_X0 hown hK hP 2 rfl rfl 5 (by decide) (hts _ q44) (fun _ h9 => h9) rfl hd (kk H locs ls hP hD hS hl)
theorem r_f6 (G : xGood l R dC dI ad d RX0 cc nL K) (pc : Nat) (hd : decode cc pc = .ok (.getfield 25, 3)) (kk : K (pc + 3) lv (.inr 6 :: st) σ) : K pc lv (.inr 2 :: st) σ := by
  obtain ⟨p, e, s, m, args, below, meth, c, cells, slots, Q, A, hx, hb, hml, hown, hts, hA, hK, hf, rfl⟩ := G
  intro H locs ls hP hD hS hl
  exact va_get (D := (dC, dI)) (ci := 0) (v := .ref (ad 6)) (fs := sw_o ad σ) (C := RX0) (T := TX0) (N := 16) hx hb hts in_X0 hown hK hP 2 rfl rfl 6 (by decide) (hts _ q45) (fun _ h9 => h9) rfl hd (kk H locs ls hP hD hS hl)
theorem r_f7 (G : xGood l R dC dI ad d RX0 cc nL K) (pc : Nat) (hd : decode cc pc = .ok (.getfield 28, 3)) (kk : K (pc + 3) lv (.inr 7 :: st) σ) : K pc lv (.inr 2 :: st) σ := by
  obtain ⟨p, e, s, m, args, below, meth, c, cells, slots, Q, A, hx, hb, hml, hown, hts, hA, hK, hf, rfl⟩ := G
  intro H locs ls hP hD hS hl
  exact va_get (D := (dC, dI)) (ci := 0) (v := .ref (ad 7)) (fs := sw_o ad σ) (C := RX0) (T := TX0) (N := 16) hx hb hts in_X0 hown hK hP 2 rfl rfl 7 (by decide) (hts _ q46) (fun _ h9 => h9) rfl hd (kk H locs ls hP hD hS hl)
theorem r_f8 (G : xGood l R dC dI ad d RX0 cc nL K) (pc : Nat) (hd : decode cc pc = .ok (.getfield 31, 3)) (kk : K (pc + 3) lv (.inr 8 :: st) σ) : K pc lv (.inr 2 :: st) σ := by
  obtain ⟨p, e, s, m, args, below, meth, c, cells, slots, Q, A, hx, hb, hml, hown, hts, hA, hK, hf, rfl⟩ := G
  intro H locs ls hP hD hS hl
  exact va_get (D := (dC, dI)) (ci := 0) (v := .ref (ad 8)) (fs := sw_o ad σ) (C := RX0) (T := TX0) (N := 16) hx hb hts in_X0 hown hK hP 2 rfl rfl 8 (by decide) (hts _ q47) (fun _ h9 => h9) rfl hd (kk H locs ls hP hD hS hl)
theorem r_f9 (G : xGood l R dC dI ad d RX0 cc nL K) (pc : Nat) (hd : decode cc pc = .ok (.getfield 34, 3)) (kk : K (pc + 3) lv (.inr 9 :: st) σ) : K pc lv (.inr 2 :: st) σ := by
  obtain ⟨p, e, s, m, args, below, meth, c, cells, slots, Q, A, hx, hb, hml, hown, hts, hA, hK, hf, rfl⟩ := G
  intro H locs ls hP hD hS hl
  exact va_get (D := (dC, dI)) (ci := 0) (v := .ref (ad 9)) (fs := sw_o ad σ) (C := RX0) (T := TX0) (N := 16) hx hb hts in_X0 hown hK hP 2 rfl rfl 9 (by decide) (hts _ q48) (fun _ h9 => h9) rfl hd (kk H locs ls hP hD hS hl)
theorem r_f10 (G : xGood l R dC dI ad d RX0 cc nL K) (pc : Nat) (hd : decode cc pc = .ok (.getfield 37, 3)) (kk : K (pc + 3) lv (.inr 10 :: st) σ) : K pc lv (.inr 2 :: st) σ := by
  obtain ⟨p, e, s, m, args, below, meth, c, cells, slots, Q, A, hx, hb, hml, hown, hts, hA, hK, hf, rfl⟩ := G
  intro H locs ls hP hD hS hl
  exact va_get (D := (dC, dI)) (ci := 0) (v := .ref (ad 10)) (fs := sw_o ad σ) (C := RX0) (T := TX0) (N := 16) hx hb hts in_X0 hown hK hP 2 rfl rfl 10 (by decide) (hts _ q49) (fun _ h9 => h9) rfl hd (kk H locs ls hP hD hS hl)
theorem r_f11 (G : xGood l R dC dI ad d RX0 cc nL K) (pc : Nat) (hd : decode cc pc = .ok (.getfield 40, 3)) (kk : K (pc + 3) lv (.inr 11 :: st) σ) : K pc lv (.inr 2 :: st) σ := by
  obtain ⟨p, e, s, m, args, below, meth, c, cells, slots, Q, A, hx, hb, hml, hown, hts, hA, hK, hf, rfl⟩ := G
  intro H locs ls hP hD hS hl
  exact va_get (D := (dC, dI)) (ci := 0) (v := .ref (ad 11)) (fs := sw_o ad σ) (C := RX0) (T := TX0) (N := 16) hx hb hts in_X0 hown hK hP 2 rfl rfl 11 (by decide) (hts _ q50) (fun _ h9 => h9) rfl hd (kk H locs ls hP hD hS hl)
theorem r_f12 (G : xGood l R dC dI ad d RX0 cc nL K) (pc : Nat) (hd : decode cc pc = .ok (.getfield 43, 3)) (kk : K (pc + 3) lv (.inr 12 :: st) σ) : K pc lv (.inr 2 :: st) σ := by
  obtain ⟨p, e, s, m, args, below, meth, c, cells, slots, Q, A, hx, hb, hml, hown, hts, hA, hK, hf, rfl⟩ := G
  intro H locs ls hP hD hS hl
  exact va_get (D := (dC, dI)) (ci := 0) (v := .ref (ad 12)) (fs := sw_o ad σ) (C := RX0) (T := TX0) (N := 16) hx hb hts in_X0 hown hK hP 2 rfl rfl 12 (by decide) (hts _ q51) (fun _ h9 => h9) rfl hd (kk H locs ls hP hD hS hl)
theorem r_f14 (G : xGood l R dC dI ad d RX0 cc nL K) (pc : Nat) (hd : decode cc pc = .ok (.getfield 46, 3)) (kk : K (pc + 3) lv (.inr 14 :: st) σ) : K pc lv (.inr 2 :: st) σ := by
  obtain ⟨p, e, s, m, args, below, meth, c, cells, slots, Q, A, hx, hb, hml, hown, hts, hA, hK, hf, rfl⟩ := G
  intro H locs ls hP hD hS hl
  exact va_get (D := (dC, dI)) (ci := 0) (v := .ref (ad 14)) (fs := sw_o ad σ) (C := RX0) (T := TX0) (N := 16) hx hb hts in_X0 hown hK hP 2 rfl rfl 14 (by decide) (hts _ q53) (fun _ h9 => h9) rfl hd (kk H locs ls hP hD hS hl)
theorem r_f15 (G : xGood l R dC dI ad d RX0 cc nL K) (pc : Nat) (hd : decode cc pc = .ok (.getfield 49, 3)) (kk : K (pc + 3) lv (.inr 15 :: st) σ) : K pc lv (.inr 2 :: st) σ := by
  obtain ⟨p, e, s, m, args, below, meth, c, cells, slots, Q, A, hx, hb, hml, hown, hts, hA, hK, hf, rfl⟩ := G
  intro H locs ls hP hD hS hl
  exact va_get (D := (dC, dI)) (ci := 0) (v := .ref (ad 15)) (fs := sw_o ad σ) (C := RX0) (T := TX0) (N := 16) hx hb hts in_X0 hown hK hP 2 rfl rfl 15 (by decide) (hts _ q54) (fun _ h9 => h9) rfl hd (kk H locs ls hP hD hS hl)
theorem r_f2 (G : xGood l R dC dI ad d RX0 cc nL K) (pc : Nat) (hd : decode cc pc = .ok (.getfield 87, 3)) (kk : K (pc + 3) lv (.inl (σ 2 0) :: st) σ) : K pc lv (.inr 2 :: st) σ := by
  obtain ⟨p, e, s, m, args, below, meth, c, cells, slots, Q, A, hx, hb, hml, hown, hts, hA, hK, hf, rfl⟩ := G
  intro H locs ls hP hD hS hl
  exact va_get (D := (dC, dI)) (ci := 0) (v := .int (σ 2 0)) (fs := sw_o ad σ) (C := RX0) (T := TX0) (N := 16) hx hb hts in_X0 hown hK hP 2 rfl rfl 2 (by decide) (hts _ q41) (fun _ h9 => h9) rfl hd (kk H locs ls hP hD hS hl)
theorem r_p2 (G : xGood l R dC dI ad d RX0 cc nL K) (pc : Nat) {x : Int32} (hd : decode cc pc = .ok (.putfield 87, 3)) (kk : K (pc + 3) lv st (sw_up σ 2 0 x)) : K pc lv (.inl x :: .inr 2 :: st) σ := by
  obtain ⟨p, e, s, m, args, below, meth, c, cells, slots, Q, A, hx, hb, hml, hown, hts, hA, hK, hf, rfl⟩ := G
  intro H locs ls hP hD hS hl
  refine va_put (D := (dC, dI)) (ci := 0) (v := .int x) (ty := .int) (fs := sw_o ad σ) (C := RX0) (T := TX0) (N := 16) hx hb hts in_X0 tyX0 tyX0_ok nmX0 hown hK hP hD hS 2 rfl rfl 2 (by decide) (hts _ q41) (fun _ h9 => h9) rfl (by decide +kernel) rfl rfl (Nat.le_of_ble_eq_true rfl) hd (fun H1 locs1 hP1 hD1 hS1 => ?_)
  rw [sw_setC] at hP1 hD1
  exact kk H1 locs1 ls hP1 hD1 hS1 hl
theorem r_f13 (G : xGood l R dC dI ad d RX0 cc nL K) (pc : Nat) (hd : decode cc pc = .ok (.getfield 52, 3)) (kk : K (pc + 3) lv (.inl (σ 13 0) :: st) σ) : K pc lv (.inr 2 :: st) σ := by
  obtain ⟨p, e, s, m, args, below, meth, c, cells, slots, Q, A, hx, hb, hml, hown, hts, hA, hK, hf, rfl⟩ := G
  intro H locs ls hP hD hS hl
  exact va_get (D := (dC, dI)) (ci := 0) (v := .int (σ 13 0)) (fs := sw_o ad σ) (C := RX0) (T := TX0) (N := 16) hx hb hts in_X0 hown hK hP 2 rfl rfl 13 (by decide) (hts _ q52) (fun _ h9 => h9) rfl hd (kk H locs ls hP hD hS hl)
theorem r_p13 (G : xGood l R dC dI ad d RX0 cc nL K) (pc : Nat) {x : Int32} (hd : decode cc pc = .ok (.putfield 52, 3)) (kk : K (pc + 3) lv st (sw_up σ 13 0 x)) : K pc lv (.inl x :: .inr 2 :: st) σ := by
  obtain ⟨p, e, s, m, args, below, meth, c, cells, slots, Q, A, hx, hb, hml, hown, hts, hA, hK, hf, rfl⟩ := G
  intro H locs ls hP hD hS hl
  refine va_put (D := (dC, dI)) (ci := 0) (v := .int x) (ty := .int) (fs := sw_o ad σ) (C := RX0) (T := TX0) (N := 16) hx hb hts in_X0 tyX0 tyX0_ok nmX0 hown hK hP hD hS 2 rfl rfl 13 (by decide) (hts _ q52) (fun _ h9 => h9) rfl (by decide +kernel) rfl rfl (Nat.le_of_ble_eq_true rfl) hd (fun H1 locs1 hP1 hD1 hS1 => ?_)
  rw [sw_setP] at hP1 hD1
  exact kk H1 locs1 ls hP1 hD1 hS1 hl
theorem r_f16 (G : xGood l R dC dI ad d RX1 cc nL K) (pc : Nat) (hd : decode cc pc = .ok (.getfield 7, 3)) (kk : K (pc + 3) lv (.inr 16 :: st) σ) : K pc lv (.inr 13 :: st) σ := by
  obtain ⟨p, e, s, m, args, below, meth, c, cells, slots, Q, A, hx, hb, hml, hown, hts, hA, hK, hf, rfl⟩ := G
  intro H locs ls hP hD hS hl
  exact va_get (D := (dC, dI)) (ci := 1) (v := .ref (ad 16)) (fs := [.ref (ad 16)]) (C := RX1) (T := TX1) (N := 1) hx hb hts in_X1 hown hK hP 13 rfl rfl 0 (by decide) (hts _ q259) (fun _ h9 => h9) rfl hd (kk H locs ls hP hD hS hl)
end XF
def xRetI (cc : ByteArray) (K : xK) (Po : Int32 → Sg → Prop) : Prop := ∀ (pc : Nat) (lv : xL) (v : Int32) (σ : Sg), decode cc pc = .ok (.ireturn, 1) → Po v σ → K pc lv [.inl v] σ
def xRetV (cc : ByteArray) (K : xK) (Po : Sg → Prop) : Prop := ∀ (pc : Nat) (lv : xL) (σ : Sg), decode cc pc = .ok (.return_, 1) → Po σ → K pc lv [] σ
def sw_here (dC : Nat → ClassId) (dI : Nat → Nat → Nat) (ad : Nat → Nat) (d : ClassId) (A : Nat → Prop) (σ : Sg) (t : State) : Prop := va_P (dC, dI) vwCl (sw_w ad d σ) t.heap ∧ va_K (dC, dI) vwCl [(d, .int)] t ∧ va_D A (sw_w ad d σ)
def sw_pre (dC : Nat → ClassId) (dI : Nat → Nat → Nat) (ad : Nat → Nat) (d : ClassId) (sz : Nat) (σ : Sg) (U : State) : Prop := U.heap.size = sz ∧ va_P (dC, dI) vwCl (sw_w ad d σ) U.heap ∧ va_K (dC, dI) vwCl [(d, .int)] U ∧ va_D (fun _ => True) (sw_w ad d σ)
/-- the contract of a method with an int or boolean answer: n int arguments xs, from any world σ with Pre xs σ it returns r, and the world is σ' with Po xs σ r σ'; nothing else changes -/
def xMetI (l : Launch) (dC : Nat → ClassId) (dI : Nat → Nat → Nat) (ad : Nat → Nat) (d : ClassId) (y : MethodName) (cc : ByteArray) (nL : Nat) (ret : Option FieldType) (rm : Room) (th n : Nat) (Pre : List Int32 → Sg → Prop) (Po : List Int32 → Sg → Int32 → Sg → Prop) : Prop :=
  ∀ (xs : List Int32) (σ : Sg) (sz : Nat), xs.length = n → Pre xs σ → Met l y (ws_ y cc nL ret) rm (va_Pc (Value.ref (ad th) :: xs.map Value.int) (sw_pre dC dI ad d sz σ)) (va_Qi (Po xs σ) (sw_here dC dI ad d (va_A (sw_w ad d σ) sz)) (va_A (sw_w ad d σ) sz)) 0 0 (va_A (sw_w ad d σ) sz)
def xMetV (l : Launch) (dC : Nat → ClassId) (dI : Nat → Nat → Nat) (ad : Nat → Nat) (d : ClassId) (y : MethodName) (cc : ByteArray) (nL : Nat) (rm : Room) (th n : Nat) (Pre : List Int32 → Sg → Prop) (Po : List Int32 → Sg → Sg → Prop) : Prop :=
  ∀ (xs : List Int32) (σ : Sg) (sz : Nat), xs.length = n → Pre xs σ → Met l y (ws_ y cc nL none) rm (va_Pc (Value.ref (ad th) :: xs.map Value.int) (sw_pre dC dI ad d sz σ)) (va_Qv (Po xs σ) (sw_here dC dI ad d (va_A (sw_w ad d σ) sz)) (va_A (sw_w ad d σ) sz)) 0 0 (va_A (sw_w ad d σ) sz)
def xCallI (cc : ByteArray) (K : xK) (idx th n : Nat) (Pre : List Int32 → Sg → Prop) (Po : List Int32 → Sg → Int32 → Sg → Prop) : Prop :=
  ∀ (pc : Nat) (lv : xL) (rest : List xV) (xs : List Int32) (σ : Sg), decode cc pc = .ok (.invokevirtual idx, 3) → xs.length = n → rest.length ≤ 8 → Pre xs σ → (∀ (r : Int32) (σ' : Sg), Po xs σ r σ' → K (pc + 3) lv (.inl r :: rest) σ') → K pc lv ((xs.map Sum.inl).reverse ++ .inr th :: rest) σ
def xCallV (cc : ByteArray) (K : xK) (idx th n : Nat) (Pre : List Int32 → Sg → Prop) (Po : List Int32 → Sg → Sg → Prop) : Prop :=
  ∀ (pc : Nat) (lv : xL) (rest : List xV) (xs : List Int32) (σ : Sg), decode cc pc = .ok (.invokevirtual idx, 3) → xs.length = n → rest.length ≤ 8 → Pre xs σ → (∀ (σ' : Sg), Po xs σ σ' → K (pc + 3) lv rest σ') → K pc lv ((xs.map Sum.inl).reverse ++ .inr th :: rest) σ
theorem xMetI_of {l : Launch} {dC : Nat → ClassId} {dI : Nat → Nat → Nat} {ad : Nat → Nat} {d : ClassId} {y : MethodName} {cc : ByteArray} {nL : Nat} {rm : Room} {th n : Nat} {Pre : List Int32 → Sg → Prop} {Po : List Int32 → Sg → Int32 → Sg → Prop} (own : String) (hcls : y.cls = own) (hy : plainName y.cls = true) (hnL : n + 1 ≤ nL) 
    (body : ∀ (K : xK), xGood l rm dC dI ad d own cc nL K → ∀ (xs : List Int32) (σ : Sg), xs.length = n → Pre xs σ → xRetI cc K (Po xs σ) → K 0 (x_args th xs) [] σ) : xMetI l dC dI ad d y cc nL (some .int) rm th n Pre Po := by
  intro xs σ sz hlen hpre
  refine Met.ofW (cc := cc) (maxL := nL) (ret := some .int) hy rfl ?_
  intro p e s m args below meth c s₁ B hml hv
  obtain ⟨rfl, hsz, hP, hK, hD0⟩ := hv
  have hx := B.exec
  have hb := B.bytes
  have hr := B.returns
  have hts := atoms_spec (ws := ws_ y cc nL (some .int)) B.pre
  have hts : ∀ w ∈ lw_all, w.before _ s = true := fun w h => hts w (List.mem_cons_of_mem _ h)
  have hown : s.vm.findClass own = some m.cls := by rw [← hcls]; exact findClass_of_methodNamed B.named
  have hlocks := B.notSynchronized
  subst hsz
  have hD := hD0.self (sz := s.heap.size)
  have hl := lv_entry (Value.ref (ad th) :: xs.map Value.int) (n := nL) (by rw [x_sl_len1, hlen]; exact hnL)
  rw [x_args_has] at hl
  rw [lg_entry_eq]
  refine body (x_at p l e rm s m (Value.ref (ad th) :: xs.map Value.int).toArray below meth c 0 0 (MQ below (va_Qi (Po xs σ) (sw_here dC dI ad d (va_A (sw_w ad d σ) s.heap.size)) (va_A (sw_w ad d σ) s.heap.size)) (Value.ref (ad th) :: xs.map Value.int).toArray s 0 0 (va_A (sw_w ad d σ) s.heap.size)) dC dI (va_A (sw_w ad d σ) s.heap.size) ad d nL) ⟨p, e, s, m, _, below, meth, c, 0, 0, _, _, hx, hb, hml, hown, hts, fun q h => Or.inr h, hK, ⟨Nat.zero_le _, Nat.zero_le _⟩, rfl⟩ xs σ hlen hpre ?_ s.heap [] _ hP hD va_S.rf hl
  intro pc lv v σ' hd hpo H locs ls hP' hD' hS' hl'
  exact W.iret (v := v) hx hb hr (fun t ht hW => ⟨⟨v, σ', rfl, hpo, by rw [ht]; exact hP', va_K.moved hW.alike hK, hD'⟩, hS'.F ht⟩) hS'.2.2 hd
theorem xMetZ_of {l : Launch} {dC : Nat → ClassId} {dI : Nat → Nat → Nat} {ad : Nat → Nat} {d : ClassId} {y : MethodName} {cc : ByteArray} {nL : Nat} {rm : Room} {th n : Nat} {Pre : List Int32 → Sg → Prop} {Po : List Int32 → Sg → Int32 → Sg → Prop} (own : String) (hcls : y.cls = own) (hy : plainName y.cls = true) (hnL : n + 1 ≤ nL) (hz : ∀ (xs : List Int32) (σ : Sg) (r : Int32) (σ' : Sg), Po xs σ r σ' → r = 0 ∨ r = 1)
    (body : ∀ (K : xK), xGood l rm dC dI ad d own cc nL K → ∀ (xs : List Int32) (σ : Sg), xs.length = n → Pre xs σ → xRetI cc K (Po xs σ) → K 0 (x_args th xs) [] σ) : xMetI l dC dI ad d y cc nL (some .boolean) rm th n Pre Po := by
  intro xs σ sz hlen hpre
  refine Met.ofW (cc := cc) (maxL := nL) (ret := some .boolean) hy rfl ?_
  intro p e s m args below meth c s₁ B hml hv
  obtain ⟨rfl, hsz, hP, hK, hD0⟩ := hv
  have hx := B.exec
  have hb := B.bytes
  have hr := B.returns
  have hts := atoms_spec (ws := ws_ y cc nL (some .boolean)) B.pre
  have hts : ∀ w ∈ lw_all, w.before _ s = true := fun w h => hts w (List.mem_cons_of_mem _ h)
  have hown : s.vm.findClass own = some m.cls := by rw [← hcls]; exact findClass_of_methodNamed B.named
  have hlocks := B.notSynchronized
  subst hsz
  have hD := hD0.self (sz := s.heap.size)
  have hl := lv_entry (Value.ref (ad th) :: xs.map Value.int) (n := nL) (by rw [x_sl_len1, hlen]; exact hnL)
  rw [x_args_has] at hl
  rw [lg_entry_eq]
  refine body (x_at p l e rm s m (Value.ref (ad th) :: xs.map Value.int).toArray below meth c 0 0 (MQ below (va_Qi (Po xs σ) (sw_here dC dI ad d (va_A (sw_w ad d σ) s.heap.size)) (va_A (sw_w ad d σ) s.heap.size)) (Value.ref (ad th) :: xs.map Value.int).toArray s 0 0 (va_A (sw_w ad d σ) s.heap.size)) dC dI (va_A (sw_w ad d σ) s.heap.size) ad d nL) ⟨p, e, s, m, _, below, meth, c, 0, 0, _, _, hx, hb, hml, hown, hts, fun q h => Or.inr h, hK, ⟨Nat.zero_le _, Nat.zero_le _⟩, rfl⟩ xs σ hlen hpre ?_ s.heap [] _ hP hD va_S.rf hl
  intro pc lv v σ' hd hpo H locs ls hP' hD' hS' hl'
  exact W.zret (v := v) hx hb hr (by rcases hz xs σ v σ' hpo with e | e <;> rw [e] <;> rfl) (fun t ht hW => ⟨⟨v, σ', rfl, hpo, by rw [ht]; exact hP', va_K.moved hW.alike hK, hD'⟩, hS'.F ht⟩) hS'.2.2 hd
theorem xMetV_of {l : Launch} {dC : Nat → ClassId} {dI : Nat → Nat → Nat} {ad : Nat → Nat} {d : ClassId} {y : MethodName} {cc : ByteArray} {nL : Nat} {rm : Room} {th n : Nat} {Pre : List Int32 → Sg → Prop} {Po : List Int32 → Sg → Sg → Prop} (own : String) (hcls : y.cls = own) (hy : plainName y.cls = true) (hnL : n + 1 ≤ nL) 
    (body : ∀ (K : xK), xGood l rm dC dI ad d own cc nL K → ∀ (xs : List Int32) (σ : Sg), xs.length = n → Pre xs σ → xRetV cc K (Po xs σ) → K 0 (x_args th xs) [] σ) : xMetV l dC dI ad d y cc nL rm th n Pre Po := by
  intro xs σ sz hlen hpre
  refine Met.ofW (cc := cc) (maxL := nL) (ret := none) hy rfl ?_
  intro p e s m args below meth c s₁ B hml hv
  obtain ⟨rfl, hsz, hP, hK, hD0⟩ := hv
  have hx := B.exec
  have hb := B.bytes
  have hr := B.returns
  have hts := atoms_spec (ws := ws_ y cc nL (none)) B.pre
  have hts : ∀ w ∈ lw_all, w.before _ s = true := fun w h => hts w (List.mem_cons_of_mem _ h)
  have hown : s.vm.findClass own = some m.cls := by rw [← hcls]; exact findClass_of_methodNamed B.named
  have hlocks := B.notSynchronized
  subst hsz
  have hD := hD0.self (sz := s.heap.size)
  have hl := lv_entry (Value.ref (ad th) :: xs.map Value.int) (n := nL) (by rw [x_sl_len1, hlen]; exact hnL)
  rw [x_args_has] at hl
  rw [lg_entry_eq]
  refine body (x_at p l e rm s m (Value.ref (ad th) :: xs.map Value.int).toArray below meth c 0 0 (MQ below (va_Qv (Po xs σ) (sw_here dC dI ad d (va_A (sw_w ad d σ) s.heap.size)) (va_A (sw_w ad d σ) s.heap.size)) (Value.ref (ad th) :: xs.map Value.int).toArray s 0 0 (va_A (sw_w ad d σ) s.heap.size)) dC dI (va_A (sw_w ad d σ) s.heap.size) ad d nL) ⟨p, e, s, m, _, below, meth, c, 0, 0, _, _, hx, hb, hml, hown, hts, fun q h => Or.inr h, hK, ⟨Nat.zero_le _, Nat.zero_le _⟩, rfl⟩ xs σ hlen hpre ?_ s.heap [] _ hP hD va_S.rf hl
  intro pc lv σ' hd hpo H locs ls hP' hD' hS' hl'
  exact W.vret hx hb hr (fun t ht hW => ⟨⟨σ', rfl, hpo, by rw [ht]; exact hP', va_K.moved hW.alike hK, hD'⟩, hS'.F ht⟩) hS'.2.2 hd
/-- the receiver: the swap's object at place 2, the model's at place 13 -/
def xRec (th : Nat) (C : String) : Prop := ∀ (ad : Nat → Nat) (d : ClassId) (σ : Sg), ∃ (ci : Nat) (q : vw_C) (fs : List Value), vwCl[ci]? = some q ∧ q.1 = C ∧ (sw_w ad d σ)[th]? = some (ad th, .inr (ci, fs))
theorem xRec2 : xRec 2 RX0 := fun ad _ σ => ⟨0, _, sw_o ad σ, rfl, rfl, rfl⟩
theorem xRec13 : xRec 13 RX1 := fun ad _ _ => ⟨1, _, [.ref (ad 16)], rfl, rfl, rfl⟩
theorem sw_free {A : Nat → Prop} {ad : Nat → Nat} {d : ClassId} {σ : Sg} {H0 H : Heap} {locs : List Loc} (hD : va_D A (sw_w ad d σ)) (hS : va_S A H0 H locs) (hA : ∀ q, H0.size ≤ q → A q) : ∀ q, va_A (sw_w ad d σ) H.size q → A q := by
  intro q h
  rcases h with ⟨k, e, h⟩ | h
  · exact hD.2 k (q, e) h
  · exact hA q (Nat.le_trans hS.1 h)
theorem x_callI {l : Launch} {R : Room} {dC : Nat → ClassId} {dI : Nat → Nat → Nat} {ad : Nat → Nat} {d : ClassId} {own : String} {cc : ByteArray} {nL : Nat} {K : xK} (G : xGood l R dC dI ad d own cc nL K) {y : MethodName} {code' : ByteArray} {nL' : Nat} {ret : Option FieldType} {rm : Room} {th n idx : Nat} {C : String} {Pre : List Int32 → Sg → Prop} {Po : List Int32 → Sg → Int32 → Sg → Prop} (hM : xMetI l dC dI ad d y code' nL' ret rm th n Pre Po) (hV : GoodIn lw_all (wsV own idx C y (ws_ y code' nL' ret))) (hth : xRec th C)
    (hd0 : y.cls = C ∧ y.cls ≠ "java/lang/invoke/MethodHandle" ∧ y.cls ≠ "java/lang/invoke/VarHandle" ∧ (parseMethodDescriptor y.desc).map (fun d => d.parameters.length) = some n) (hrc : rm.cells = 0) (hrs : rm.slots = 0) (hR : rm.frames + 1 ≤ R.frames ∧ 8 + (nL' + 11) + rm.locals ≤ R.locals) : xCallI cc K idx th n Pre Po := by
  obtain ⟨p, e, s, m, args, below, meth, c, cells, slots, Q, A, hx, hb, hml, hown, hts, hA, hK, hf, rfl⟩ := G
  intro pc lv rest xs σ hd hlen hrest hpre kk H locs ls hP hD hS hl
  have hFc := sw_free hD hS hA
  obtain ⟨ci, q, fs, hq1, hq2, hq3⟩ := hth ad d σ
  refine va_calli (va_runV (As := xs.map Value.int) (rest := rest.map (x_val ad)) ⟨hx, hb, hml, hown, hts⟩ (hM xs σ H.size hlen hpre) (cwV n hts hV rfl hrc hrs hd0 hR) ⟨fun a U g mk q => by obtain ⟨q0, q1, qP, qK, qD⟩ := q; exact ⟨q0, q1, qP, va_K.moved (u := U) (U := U.calling g mk a) (Vm.Alike.refl U.vm) qK, qD⟩, by rw [← hq2]; exact va_recv hK hP hq1 hq3, fun U hU hW => ⟨rfl, by rw [hU], by rw [hU]; exact hP, va_K.moved hW.alike hK, hD.weaken (fun _ _ _ _ => trivial)⟩⟩ rfl (by rw [List.length_map]; exact hlen) hl.1 (by show List.map (x_val ad) ((xs.map Sum.inl).reverse ++ Sum.inr th :: rest) = _; rw [List.map_append, List.map_reverse, List.map_map]; rfl) (lv_room (by rw [x_room]; exact hrest)) hd hf) hS (fun q _ h => hFc q h) hFc (fun r u t H1 locs1 ht hvm hpo hB hz1 hk1 hS1 => ?_)
  obtain ⟨hP1, hK1, hD1⟩ := hB
  rw [ht] at hP1
  exact kk r u hpo H1 locs1 ls hP1 (hD1.weaken (fun k q _ h => hFc q.1 h)) hS1 hl
theorem x_callV {l : Launch} {R : Room} {dC : Nat → ClassId} {dI : Nat → Nat → Nat} {ad : Nat → Nat} {d : ClassId} {own : String} {cc : ByteArray} {nL : Nat} {K : xK} (G : xGood l R dC dI ad d own cc nL K) {y : MethodName} {code' : ByteArray} {nL' : Nat} {rm : Room} {th n idx : Nat} {C : String} {Pre : List Int32 → Sg → Prop} {Po : List Int32 → Sg → Sg → Prop} (hM : xMetV l dC dI ad d y code' nL' rm th n Pre Po) (hV : GoodIn lw_all (wsV own idx C y (ws_ y code' nL' none))) (hth : xRec th C)
    (hd0 : y.cls = C ∧ y.cls ≠ "java/lang/invoke/MethodHandle" ∧ y.cls ≠ "java/lang/invoke/VarHandle" ∧ (parseMethodDescriptor y.desc).map (fun d => d.parameters.length) = some n) (hrc : rm.cells = 0) (hrs : rm.slots = 0) (hR : rm.frames + 1 ≤ R.frames ∧ 8 + (nL' + 11) + rm.locals ≤ R.locals) : xCallV cc K idx th n Pre Po := by
  obtain ⟨p, e, s, m, args, below, meth, c, cells, slots, Q, A, hx, hb, hml, hown, hts, hA, hK, hf, rfl⟩ := G
  intro pc lv rest xs σ hd hlen hrest hpre kk H locs ls hP hD hS hl
  have hFc := sw_free hD hS hA
  obtain ⟨ci, q, fs, hq1, hq2, hq3⟩ := hth ad d σ
  refine va_callv (va_runV (As := xs.map Value.int) (rest := rest.map (x_val ad)) ⟨hx, hb, hml, hown, hts⟩ (hM xs σ H.size hlen hpre) (cwV n hts hV rfl hrc hrs hd0 hR) ⟨fun a U g mk q => by obtain ⟨q0, q1, qP, qK, qD⟩ := q; exact ⟨q0, q1, qP, va_K.moved (u := U) (U := U.calling g mk a) (Vm.Alike.refl U.vm) qK, qD⟩, by rw [← hq2]; exact va_recv hK hP hq1 hq3, fun U hU hW => ⟨rfl, by rw [hU], by rw [hU]; exact hP, va_K.moved hW.alike hK, hD.weaken (fun _ _ _ _ => trivial)⟩⟩ rfl (by rw [List.length_map]; exact hlen) hl.1 (by show List.map (x_val ad) ((xs.map Sum.inl).reverse ++ Sum.inr th :: rest) = _; rw [List.map_append, List.map_reverse, List.map_map]; rfl) (lv_room (by rw [x_room]; exact hrest)) hd hf) hS (fun q _ h => hFc q h) hFc (fun u t H1 locs1 ht hvm hpo hB hz1 hk1 hS1 => ?_)
  obtain ⟨hP1, hK1, hD1⟩ := hB
  rw [ht] at hP1
  exact kk u hpo H1 locs1 ls hP1 (hD1.weaken (fun k q _ h => hFc q.1 h)) hS1 hl
theorem c_I0 {cc : ByteArray} {K : xK} {idx th : Nat} {Pre : List Int32 → Sg → Prop} {Po : List Int32 → Sg → Int32 → Sg → Prop} {lv : xL} {st : List xV} {σ : Sg} (h : xCallI cc K idx th 0 Pre Po) (pc : Nat) (hd : decode cc pc = .ok (.invokevirtual idx, 3)) (hs : st.length ≤ 8) (hp : Pre [] σ) (kk : ∀ (r : Int32) (σ' : Sg), Po [] σ r σ' → K (pc + 3) lv (.inl r :: st) σ') : K pc lv (.inr th :: st) σ := h pc lv st [] σ hd rfl hs hp kk
theorem c_V0 {cc : ByteArray} {K : xK} {idx th : Nat} {Pre : List Int32 → Sg → Prop} {Po : List Int32 → Sg → Sg → Prop} {lv : xL} {st : List xV} {σ : Sg} (h : xCallV cc K idx th 0 Pre Po) (pc : Nat) (hd : decode cc pc = .ok (.invokevirtual idx, 3)) (hs : st.length ≤ 8) (hp : Pre [] σ) (kk : ∀ (σ' : Sg), Po [] σ σ' → K (pc + 3) lv st σ') : K pc lv (.inr th :: st) σ := h pc lv st [] σ hd rfl hs hp kk
theorem c_I1 {cc : ByteArray} {K : xK} {idx th : Nat} {Pre : List Int32 → Sg → Prop} {Po : List Int32 → Sg → Int32 → Sg → Prop} {lv : xL} {st : List xV} {σ : Sg} {a0 : Int32} (h : xCallI cc K idx th 1 Pre Po) (pc : Nat) (hd : decode cc pc = .ok (.invokevirtual idx, 3)) (hs : st.length ≤ 8) (hp : Pre [a0] σ) (kk : ∀ (r : Int32) (σ' : Sg), Po [a0] σ r σ' → K (pc + 3) lv (.inl r :: st) σ') : K pc lv (.inl a0 :: .inr th :: st) σ := h pc lv st [a0] σ hd rfl hs hp kk
theorem c_V1 {cc : ByteArray} {K : xK} {idx th : Nat} {Pre : List Int32 → Sg → Prop} {Po : List Int32 → Sg → Sg → Prop} {lv : xL} {st : List xV} {σ : Sg} {a0 : Int32} (h : xCallV cc K idx th 1 Pre Po) (pc : Nat) (hd : decode cc pc = .ok (.invokevirtual idx, 3)) (hs : st.length ≤ 8) (hp : Pre [a0] σ) (kk : ∀ (σ' : Sg), Po [a0] σ σ' → K (pc + 3) lv st σ') : K pc lv (.inl a0 :: .inr th :: st) σ := h pc lv st [a0] σ hd rfl hs hp kk
theorem c_I2 {cc : ByteArray} {K : xK} {idx th : Nat} {Pre : List Int32 → Sg → Prop} {Po : List Int32 → Sg → Int32 → Sg → Prop} {lv : xL} {st : List xV} {σ : Sg} {a0 a1 : Int32} (h : xCallI cc K idx th 2 Pre Po) (pc : Nat) (hd : decode cc pc = .ok (.invokevirtual idx, 3)) (hs : st.length ≤ 8) (hp : Pre [a0, a1] σ) (kk : ∀ (r : Int32) (σ' : Sg), Po [a0, a1] σ r σ' → K (pc + 3) lv (.inl r :: st) σ') : K pc lv (.inl a1 :: .inl a0 :: .inr th :: st) σ := h pc lv st [a0, a1] σ hd rfl hs hp kk
theorem c_V2 {cc : ByteArray} {K : xK} {idx th : Nat} {Pre : List Int32 → Sg → Prop} {Po : List Int32 → Sg → Sg → Prop} {lv : xL} {st : List xV} {σ : Sg} {a0 a1 : Int32} (h : xCallV cc K idx th 2 Pre Po) (pc : Nat) (hd : decode cc pc = .ok (.invokevirtual idx, 3)) (hs : st.length ≤ 8) (hp : Pre [a0, a1] σ) (kk : ∀ (σ' : Sg), Po [a0, a1] σ σ' → K (pc + 3) lv st σ') : K pc lv (.inl a1 :: .inl a0 :: .inr th :: st) σ := h pc lv st [a0, a1] σ hd rfl hs hp kk
theorem c_I3 {cc : ByteArray} {K : xK} {idx th : Nat} {Pre : List Int32 → Sg → Prop} {Po : List Int32 → Sg → Int32 → Sg → Prop} {lv : xL} {st : List xV} {σ : Sg} {a0 a1 a2 : Int32} (h : xCallI cc K idx th 3 Pre Po) (pc : Nat) (hd : decode cc pc = .ok (.invokevirtual idx, 3)) (hs : st.length ≤ 8) (hp : Pre [a0, a1, a2] σ) (kk : ∀ (r : Int32) (σ' : Sg), Po [a0, a1, a2] σ r σ' → K (pc + 3) lv (.inl r :: st) σ') : K pc lv (.inl a2 :: .inl a1 :: .inl a0 :: .inr th :: st) σ := h pc lv st [a0, a1, a2] σ hd rfl hs hp kk
theorem c_V3 {cc : ByteArray} {K : xK} {idx th : Nat} {Pre : List Int32 → Sg → Prop} {Po : List Int32 → Sg → Sg → Prop} {lv : xL} {st : List xV} {σ : Sg} {a0 a1 a2 : Int32} (h : xCallV cc K idx th 3 Pre Po) (pc : Nat) (hd : decode cc pc = .ok (.invokevirtual idx, 3)) (hs : st.length ≤ 8) (hp : Pre [a0, a1, a2] σ) (kk : ∀ (σ' : Sg), Po [a0, a1, a2] σ σ' → K (pc + 3) lv st σ') : K pc lv (.inl a2 :: .inl a1 :: .inl a0 :: .inr th :: st) σ := h pc lv st [a0, a1, a2] σ hd rfl hs hp kk
theorem c_I4 {cc : ByteArray} {K : xK} {idx th : Nat} {Pre : List Int32 → Sg → Prop} {Po : List Int32 → Sg → Int32 → Sg → Prop} {lv : xL} {st : List xV} {σ : Sg} {a0 a1 a2 a3 : Int32} (h : xCallI cc K idx th 4 Pre Po) (pc : Nat) (hd : decode cc pc = .ok (.invokevirtual idx, 3)) (hs : st.length ≤ 8) (hp : Pre [a0, a1, a2, a3] σ) (kk : ∀ (r : Int32) (σ' : Sg), Po [a0, a1, a2, a3] σ r σ' → K (pc + 3) lv (.inl r :: st) σ') : K pc lv (.inl a3 :: .inl a2 :: .inl a1 :: .inl a0 :: .inr th :: st) σ := h pc lv st [a0, a1, a2, a3] σ hd rfl hs hp kk
theorem c_V4 {cc : ByteArray} {K : xK} {idx th : Nat} {Pre : List Int32 → Sg → Prop} {Po : List Int32 → Sg → Sg → Prop} {lv : xL} {st : List xV} {σ : Sg} {a0 a1 a2 a3 : Int32} (h : xCallV cc K idx th 4 Pre Po) (pc : Nat) (hd : decode cc pc = .ok (.invokevirtual idx, 3)) (hs : st.length ≤ 8) (hp : Pre [a0, a1, a2, a3] σ) (kk : ∀ (σ' : Sg), Po [a0, a1, a2, a3] σ σ' → K (pc + 3) lv st σ') : K pc lv (.inl a3 :: .inl a2 :: .inl a1 :: .inl a0 :: .inr th :: st) σ := h pc lv st [a0, a1, a2, a3] σ hd rfl hs hp kk
end
section
/-! numbers, and branches on numbers -/
theorem c_inc (a : Nat) : nI a + Int32.ofInt 1 = nI (a + 1) := by
  rw [show Int32.ofInt 1 = 1 from by decide]; exact nI_1 a
theorem c_inc5 (a : Nat) : nI a + Int32.ofInt 5 = nI (a + 5) := by
  rw [show Int32.ofInt 5 = nI 5 from by decide]; exact nI_add a 5
theorem c_dec (a : Nat) : nI (a + 1) + Int32.ofInt (-1) = nI a := by
  rw [show Int32.ofInt (-1) = -1 from by decide]; exact pk_m1 a
theorem nI_inj {a b : Nat} (ha : a < 2 ^ 31) (hb : b < 2 ^ 31) (h : nI a = nI b) : a = b := (nI_eq ha hb).mp h
theorem nI_nm1 {a : Nat} (ha : a < 2 ^ 31) : nI a ≠ -1 := fun e => nI_pos ha (by rw [e]; decide)
theorem m1_lt : (-1 : Int32) < 0 := by decide
theorem m1_nge : ¬ (0 : Int32) ≤ -1 := by decide
theorem nI_z : nI 0 = 0 := nI_0
section XB
variable {l : Launch} {R : Room} {dC : Nat → ClassId} {dI : Nat → Nat → Nat} {ad : Nat → Nat} {d : ClassId} {own : String} {cc : ByteArray} {nL : Nat} {K : xK} {lv : xL} {st : List xV} {σ : Sg}
theorem b_eq (G : xGood l R dC dI ad d own cc nL K) (pc tgt : Nat) {a b : Nat} {off : Int} (hd : decode cc pc = .ok (.if_icmp .eq off, 3)) (ht : (pc : Int) + off = (tgt : Int)) (ha : a < 2 ^ 31) (hb : b < 2 ^ 31) (kt : a = b → K tgt lv st σ) (kf : a ≠ b → K (pc + 3) lv st σ) : K pc lv (.inl (nI b) :: .inl (nI a) :: st) σ :=
  r_icmp_eq G pc tgt hd ht (fun h => kt ((nI_eq ha hb).mp h)) (fun h => kf (fun e => h ((nI_eq ha hb).mpr e)))
theorem b_ne (G : xGood l R dC dI ad d own cc nL K) (pc tgt : Nat) {a b : Nat} {off : Int} (hd : decode cc pc = .ok (.if_icmp .ne off, 3)) (ht : (pc : Int) + off = (tgt : Int)) (ha : a < 2 ^ 31) (hb : b < 2 ^ 31) (kt : a ≠ b → K tgt lv st σ) (kf : a = b → K (pc + 3) lv st σ) : K pc lv (.inl (nI b) :: .inl (nI a) :: st) σ :=
  r_icmp_ne G pc tgt hd ht (fun h => kt (fun e => h ((nI_eq ha hb).mpr e))) (fun h => kf ((nI_eq ha hb).mp h))
theorem b_lt (G : xGood l R dC dI ad d own cc nL K) (pc tgt : Nat) {a b : Nat} {off : Int} (hd : decode cc pc = .ok (.if_icmp .lt off, 3)) (ht : (pc : Int) + off = (tgt : Int)) (ha : a < 2 ^ 31) (hb : b < 2 ^ 31) (kt : a < b → K tgt lv st σ) (kf : b ≤ a → K (pc + 3) lv st σ) : K pc lv (.inl (nI b) :: .inl (nI a) :: st) σ :=
  r_icmp_lt G pc tgt hd ht (fun h => kt ((nI_ltI ha hb).mp h)) (fun h => kf (Nat.not_lt.mp (fun e => h ((nI_ltI ha hb).mpr e))))
theorem b_ge (G : xGood l R dC dI ad d own cc nL K) (pc tgt : Nat) {a b : Nat} {off : Int} (hd : decode cc pc = .ok (.if_icmp .ge off, 3)) (ht : (pc : Int) + off = (tgt : Int)) (ha : a < 2 ^ 31) (hb : b < 2 ^ 31) (kt : b ≤ a → K tgt lv st σ) (kf : a < b → K (pc + 3) lv st σ) : K pc lv (.inl (nI b) :: .inl (nI a) :: st) σ :=
  r_icmp_ge G pc tgt hd ht (fun h => kt ((nI_leI hb ha).mp h)) (fun h => kf (Nat.not_le.mp (fun e => h ((nI_leI hb ha).mpr e))))
theorem b_gt (G : xGood l R dC dI ad d own cc nL K) (pc tgt : Nat) {a b : Nat} {off : Int} (hd : decode cc pc = .ok (.if_icmp .gt off, 3)) (ht : (pc : Int) + off = (tgt : Int)) (ha : a < 2 ^ 31) (hb : b < 2 ^ 31) (kt : b < a → K tgt lv st σ) (kf : a ≤ b → K (pc + 3) lv st σ) : K pc lv (.inl (nI b) :: .inl (nI a) :: st) σ :=
  r_icmp_gt G pc tgt hd ht (fun h => kt ((nI_ltI hb ha).mp h)) (fun h => kf (Nat.not_lt.mp (fun e => h ((nI_ltI hb ha).mpr e))))
theorem b_le (G : xGood l R dC dI ad d own cc nL K) (pc tgt : Nat) {a b : Nat} {off : Int} (hd : decode cc pc = .ok (.if_icmp .le off, 3)) (ht : (pc : Int) + off = (tgt : Int)) (ha : a < 2 ^ 31) (hb : b < 2 ^ 31) (kt : a ≤ b → K tgt lv st σ) (kf : b < a → K (pc + 3) lv st σ) : K pc lv (.inl (nI b) :: .inl (nI a) :: st) σ :=
  r_icmp_le G pc tgt hd ht (fun h => kt ((nI_leI ha hb).mp h)) (fun h => kf (Nat.not_le.mp (fun e => h ((nI_leI ha hb).mpr e))))
end XB
/-- x is one of 0 .. n-1 -/
def inN (n : Nat) (x : Int32) : Prop := ∃ j, j < n ∧ x = nI j
theorem inN_neg {n : Nat} {x : Int32} (h : x < 0) (hn : n < 2 ^ 31) : ¬ inN n x := fun ⟨j, hj, e⟩ => nI_pos (show j < 2 ^ 31 by omega) (by rw [← e]; exact h)
theorem inN_big {n : Nat} {x : Int32} (hn : n < 2 ^ 31) (h : ¬ x < nI n) : ¬ inN n x := fun ⟨j, hj, e⟩ => h (by rw [e]; exact nI_lt hj hn)
theorem inN_bigL {n : Nat} {x : Int32} (hn : n < 2 ^ 31) (h : ¬ x ≤ nI n) : ¬ inN (n + 1) x := fun ⟨j, hj, e⟩ => h (by rw [e]; exact nI_le (Nat.le_of_lt_succ hj) hn)
theorem inN_ofL {n : Nat} {x : Int32} (hn : n < 2 ^ 31) (h0 : ¬ x < 0) (h : x ≤ nI n) : inN (n + 1) x := by
  obtain ⟨j, hj, e⟩ := nI_of h0
  rw [e] at h
  exact ⟨j, Nat.lt_succ_of_le ((nI_leI hj hn).mp h), e⟩
theorem inN_of {n : Nat} {x : Int32} (hn : n < 2 ^ 31) (h0 : ¬ x < 0) (h : x < nI n) : inN n x := by
  obtain ⟨j, hj, e⟩ := nI_of h0
  rw [e] at h
  exact ⟨j, (nI_ltI hj hn).mp h, e⟩
theorem upd_s (f : Nat → Int32) (k : Nat) (x : Int32) : upd f k x k = x := if_pos rfl
theorem upd_o {f : Nat → Int32} {k j : Nat} {x : Int32} (h : j ≠ k) : upd f k x j = f j := if_neg h
end
section
/-! THE PLAIN SIDE: packed pages, and the invariant of the swap -/
def pg_nz (X : Nat → Int32) : Prop := ∃ i, i < 16 ∧ X i ≠ 0
/-- one token of a packed page: from place a of the data and i of the page to a' and i' -/
def tok (d X : Nat → Int32) (a i a' i' : Nat) : Prop :=
  (∃ c, c < 16 ∧ d a = nI c ∧ a' = a + 2 + c ∧ i' = i + 1 + c ∧ ∀ k, k ≤ c → d (a + 1 + k) = X (i + k)) ∨
  (∃ n b, 2 ≤ n ∧ n ≤ 16 ∧ 1 ≤ b ∧ b ≤ 15 ∧ b ≤ i ∧ d a = nI (16 + (n - 2) * 15 + (b - 1)) ∧ a' = a + 1 ∧ i' = i + n ∧ ∀ k, k < n → X (i + k) = X (i + k - b))
def pth : Nat → (Nat → Int32) → (Nat → Int32) → Nat → Nat → Nat → Nat → Prop
  | 0, _, _, a, i, z, e => a = z ∧ i = e
  | m + 1, d, X, a, i, z, e => ∃ a' i', tok d X a i a' i' ∧ pth m d X a' i' z e
theorem tok_lt {d X : Nat → Int32} {a i a' i' : Nat} (h : tok d X a i a' i') : a < a' ∧ i < i' := by
  rcases h with ⟨c, h1, h2, h3, h4, h5⟩ | ⟨n, b, h1, h2, h3, h4, h5, h6, h7, h8, h9⟩
  · omega
  · omega
theorem pth_le {d X : Nat → Int32} : ∀ {m a i z e : Nat}, pth m d X a i z e → a + m ≤ z ∧ i + m ≤ e := by
  intro m
  induction m with
  | zero => intro a i z e h; obtain ⟨h1, h2⟩ := h; omega
  | succ m ih =>
    intro a i z e h
    obtain ⟨a', i', h1, h2⟩ := h
    have h3 := tok_lt h1
    have h4 := ih h2
    omega
theorem tok_cong {d d' X X' : Nat → Int32} {a i a' i' : Nat} (h : tok d X a i a' i') (hd : ∀ j, a ≤ j → j < a' → d' j = d j) (hX : ∀ k, k < i' → X' k = X k) : tok d' X' a i a' i' := by
  have hl := tok_lt h
  rcases h with ⟨c, h1, h2, h3, h4, h5⟩ | ⟨n, b, h1, h2, h3, h4, h5, h6, h7, h8, h9⟩
  · refine Or.inl ⟨c, h1, ?_, h3, h4, fun k hk => ?_⟩
    · rw [hd a (by omega) (by omega)]; exact h2
    · rw [hd _ (by omega) (by omega), hX _ (by omega)]; exact h5 k hk
  · refine Or.inr ⟨n, b, h1, h2, h3, h4, h5, ?_, h7, h8, fun k hk => ?_⟩
    · rw [hd a (by omega) (by omega)]; exact h6
    · rw [hX _ (by omega), hX _ (by omega)]; exact h9 k hk
theorem pth_cong {d d' X X' : Nat → Int32} : ∀ {m a i z e : Nat}, pth m d X a i z e → (∀ j, a ≤ j → j < z → d' j = d j) → (∀ k, k < e → X' k = X k) → pth m d' X' a i z e := by
  intro m
  induction m with
  | zero => intro a i z e h _ _; exact h
  | succ m ih =>
    intro a i z e h hd hX
    obtain ⟨a', i', h1, h2⟩ := h
    have h3 := tok_lt h1
    have h4 := pth_le h2
    exact ⟨a', i', tok_cong h1 (fun j p q => hd j p (by omega)) (fun k p => hX k (by omega)), ih h2 (fun j p q => hd j (by omega) q) hX⟩
theorem pth_snoc {d X : Nat → Int32} : ∀ {m a0 i0 a i a' i' : Nat}, pth m d X a0 i0 a i → tok d X a i a' i' → pth (m + 1) d X a0 i0 a' i' := by
  intro m
  induction m with
  | zero =>
    intro a0 i0 a i a' i' h t
    obtain ⟨rfl, rfl⟩ := h
    exact ⟨a', i', t, rfl, rfl⟩
  | succ m ih =>
    intro a0 i0 a i a' i' h t
    obtain ⟨b, j, h1, h2⟩ := h
    exact ⟨b, j, h1, ih h2 t⟩
/-! where a page is: kind kd at place j; the owners' arrays -/
def oa (kd : Nat) : Nat := if kd = 1 then 4 else if kd = 2 then 7 else 11
def onum (kd : Nat) : Nat := if kd = 1 then 3 else if kd = 2 then 8 else 12
def bs (e z : Nat) : Nat := (e / 2) * 16 + (if e % 2 = 1 then 16 - z else 0)
def cont (σ : Sg) (kd j : Nat) (X : Nat → Int32) : Prop :=
  (kd = 1 ∧ ∀ i, i < 16 → σ 3 (j * 16 + i) = X i) ∨
  (kd = 2 ∧ pg_nz X ∧ ∃ z n, z < 16 ∧ σ 8 j = nI z ∧ pth n (fun t => σ 6 (bs j z + t)) X 0 0 z 16) ∨
  (kd = 3 ∧ pg_nz X ∧ ∀ i, i < 16 → σ 10 (j * 16 + i) = X i)
def pgc (σ : Sg) (X : Nat → Int32) (p : Nat) : Prop :=
  (σ 0 p = nI 0 ∧ ∀ i, i < 16 → X i = 0) ∨ ∃ kd j, 1 ≤ kd ∧ kd ≤ 3 ∧ j < onum kd ∧ σ 0 p = nI kd ∧ σ 1 p = nI j ∧ σ (oa kd) j = nI p ∧ cont σ kd j X
def ivo (σ : Sg) (L : List Nat) : Prop := ∀ kd j, 1 ≤ kd → kd ≤ 3 → j < onum kd → σ (oa kd) j = -1 ∨ ∃ p, p < 12 ∧ p ∉ L ∧ σ (oa kd) j = nI p ∧ σ 0 p = nI kd ∧ σ 1 p = nI j
def psz (σ : Sg) : Prop := ∀ g, g < 4 → σ 7 (g * 2) ≠ -1 → σ 7 (g * 2 + 1) ≠ -1 → ∀ z0 z1, z0 < 16 → z1 < 16 → σ 8 (g * 2) = nI z0 → σ 8 (g * 2 + 1) = nI z1 → z0 + z1 ≤ 16
/-- the invariant: M the pages' bytes, L the pages that are nowhere just now -/
def Iv (σ : Sg) (M : Nat → Nat → Int32) (L : List Nat) : Prop := (∀ p, p < 12 → p ∉ L → pgc σ (M p) p) ∧ ivo σ L ∧ psz σ
theorem kd_cases {kd : Nat} (h1 : 1 ≤ kd) (h3 : kd ≤ 3) : kd = 1 ∨ kd = 2 ∨ kd = 3 := by omega
theorem oa_inj {a b : Nat} (ha : 1 ≤ a) (ha3 : a ≤ 3) (hb : 1 ≤ b) (hb3 : b ≤ 3) (h : oa a = oa b) : a = b := by
  rcases kd_cases ha ha3 with rfl | rfl | rfl <;> rcases kd_cases hb hb3 with rfl | rfl | rfl <;> first | rfl | exact absurd h (by decide)
theorem oa_ne {kd : Nat} (h1 : 1 ≤ kd) (h3 : kd ≤ 3) : oa kd ≠ 0 ∧ oa kd ≠ 1 ∧ oa kd ≠ 3 ∧ oa kd ≠ 6 ∧ oa kd ≠ 8 ∧ oa kd ≠ 10 := by
  rcases kd_cases h1 h3 with rfl | rfl | rfl <;> decide
theorem onum_le {kd : Nat} (h1 : 1 ≤ kd) (h3 : kd ≤ 3) : onum kd ≤ 12 := by
  rcases kd_cases h1 h3 with rfl | rfl | rfl <;> decide
theorem pg_nz_cong {X X' : Nat → Int32} (h : pg_nz X) (e : ∀ i, i < 16 → X' i = X i) : pg_nz X' := by
  obtain ⟨i, h1, h2⟩ := h
  exact ⟨i, h1, by rw [e i h1]; exact h2⟩
theorem cont_eq {σ σ' : Sg} {kd j : Nat} {X : Nat → Int32} (h : cont σ kd j X) (e3 : σ' 3 = σ 3) (e6 : σ' 6 = σ 6) (e8 : σ' 8 = σ 8) (e10 : σ' 10 = σ 10) : cont σ' kd j X := by
  unfold cont at h ⊢
  rw [e3, e6, e8, e10]
  exact h
theorem cont_X {σ : Sg} {kd j : Nat} {X X' : Nat → Int32} (h : cont σ kd j X) (e : ∀ i, i < 16 → X' i = X i) : cont σ kd j X' := by
  rcases h with ⟨h1, h2⟩ | ⟨h1, h2, z, n, h3, h4, h5⟩ | ⟨h1, h2, h3⟩
  · exact Or.inl ⟨h1, fun i hi => by rw [e i hi]; exact h2 i hi⟩
  · exact Or.inr (Or.inl ⟨h1, pg_nz_cong h2 e, z, n, h3, h4, pth_cong h5 (fun _ _ _ => rfl) e⟩)
  · exact Or.inr (Or.inr ⟨h1, pg_nz_cong h2 e, fun i hi => by rw [e i hi]; exact h3 i hi⟩)
theorem iv_same {σ σ' : Sg} {M : Nat → Nat → Int32} {L : List Nat} (h : Iv σ M L) (e0 : σ' 0 = σ 0) (e1 : σ' 1 = σ 1) (e3 : σ' 3 = σ 3) (e4 : σ' 4 = σ 4) (e6 : σ' 6 = σ 6) (e7 : σ' 7 = σ 7) (e8 : σ' 8 = σ 8) (e10 : σ' 10 = σ 10) (e11 : σ' 11 = σ 11) : Iv σ' M L := by
  have eo : ∀ kd, 1 ≤ kd → kd ≤ 3 → σ' (oa kd) = σ (oa kd) := fun kd h1 h3 => by
    rcases kd_cases h1 h3 with rfl | rfl | rfl
    · exact e4
    · exact e7
    · exact e11
  refine ⟨fun p hp hL => ?_, fun kd j h1 h3 hj => ?_, ?_⟩
  · rcases h.1 p hp hL with ⟨q1, q2⟩ | ⟨kd, j, q1, q2, q3, q4, q5, q6, q7⟩
    · exact Or.inl ⟨by rw [e0]; exact q1, q2⟩
    · exact Or.inr ⟨kd, j, q1, q2, q3, by rw [e0]; exact q4, by rw [e1]; exact q5, by rw [eo kd q1 q2]; exact q6, cont_eq q7 e3 e6 e8 e10⟩
  · rw [eo kd h1 h3, e0, e1]
    exact h.2.1 kd j h1 h3 hj
  · unfold psz
    rw [e7, e8]
    exact h.2.2
theorem iv_M {σ : Sg} {M M' : Nat → Nat → Int32} {L : List Nat} (h : Iv σ M L) (e : ∀ p, p < 12 → p ∉ L → ∀ i, i < 16 → M' p i = M p i) : Iv σ M' L := by
  refine ⟨fun p hp hL => ?_, h.2⟩
  rcases h.1 p hp hL with ⟨q1, q2⟩ | ⟨kd, j, q1, q2, q3, q4, q5, q6, q7⟩
  · exact Or.inl ⟨q1, fun i hi => by rw [e p hp hL i hi]; exact q2 i hi⟩
  · exact Or.inr ⟨kd, j, q1, q2, q3, q4, q5, q6, cont_X q7 (e p hp hL)⟩
/-- a page in limbo: its kind and its place may be anything -/
theorem iv_lim {σ σ' : Sg} {M : Nat → Nat → Int32} {L : List Nat} {q : Nat} (h : Iv σ M (q :: L)) (e0 : ∀ p, p ≠ q → σ' 0 p = σ 0 p) (e1 : ∀ p, p ≠ q → σ' 1 p = σ 1 p) (ek : ∀ k, k ≠ 0 → k ≠ 1 → σ' k = σ k) : Iv σ' M (q :: L) := by
  have eo : ∀ kd, 1 ≤ kd → kd ≤ 3 → σ' (oa kd) = σ (oa kd) := fun kd h1 h3 => ek _ (oa_ne h1 h3).1 (oa_ne h1 h3).2.1
  refine ⟨fun p hp hL => ?_, fun kd j h1 h3 hj => ?_, ?_⟩
  · have hpq : p ≠ q := fun e => hL (by rw [e]; exact List.mem_cons_self)
    rcases h.1 p hp hL with ⟨q1, q2⟩ | ⟨kd, j, q1, q2, q3, q4, q5, q6, q7⟩
    · exact Or.inl ⟨by rw [e0 p hpq]; exact q1, q2⟩
    · exact Or.inr ⟨kd, j, q1, q2, q3, by rw [e0 p hpq]; exact q4, by rw [e1 p hpq]; exact q5, by rw [eo kd q1 q2]; exact q6, cont_eq q7 (ek 3 (by decide) (by decide)) (ek 6 (by decide) (by decide)) (ek 8 (by decide) (by decide)) (ek 10 (by decide) (by decide))⟩
  · rw [eo kd h1 h3]
    rcases h.2.1 kd j h1 h3 hj with g | ⟨p, g1, g2, g3, g4, g5⟩
    · exact Or.inl g
    · have hpq : p ≠ q := fun e => g2 (by rw [e]; exact List.mem_cons_self)
      exact Or.inr ⟨p, g1, g2, g3, by rw [e0 p hpq]; exact g4, by rw [e1 p hpq]; exact g5⟩
  · unfold psz
    rw [ek 7 (by decide) (by decide), ek 8 (by decide) (by decide)]
    exact h.2.2
theorem iv_blank {σ : Sg} {M : Nat → Nat → Int32} {L : List Nat} {q : Nat} (h : Iv σ M (q :: L)) (h0 : σ 0 q = nI 0) (hM : ∀ i, i < 16 → M q i = 0) : Iv σ M L := by
  refine ⟨fun p hp hL => ?_, fun kd j h1 h3 hj => ?_, h.2.2⟩
  · by_cases e : p = q
    · subst e; exact Or.inl ⟨h0, hM⟩
    · exact h.1 p hp (fun hm => by rcases List.mem_cons.mp hm with g | g; exact e g; exact hL g)
  · rcases h.2.1 kd j h1 h3 hj with g | ⟨p, g1, g2, g3⟩
    · exact Or.inl g
    · exact Or.inr ⟨p, g1, fun g => g2 (List.mem_cons_of_mem _ g), g3⟩
/-- a page leaves its place -/
theorem iv_rm {σ : Sg} {M : Nat → Nat → Int32} {L : List Nat} {kd j q : Nat} (h : Iv σ M L) (h1 : 1 ≤ kd) (h3 : kd ≤ 3) (hj : j < onum kd) (hq : σ (oa kd) j = nI q) (hq12 : q < 12) : q ∉ L ∧ σ 0 q = nI kd ∧ σ 1 q = nI j ∧ Iv (sw_up σ (oa kd) j (-1)) M (q :: L) := by
  have hno := oa_ne h1 h3
  obtain ⟨hqL, hk0, hk1⟩ : q ∉ L ∧ σ 0 q = nI kd ∧ σ 1 q = nI j := by
    rcases h.2.1 kd j h1 h3 hj with g | ⟨p, g1, g2, g3, g4, g5⟩
    · rw [g] at hq; exact absurd hq.symm (nI_nm1 (by omega))
    · rw [hq] at g3
      have e := nI_inj (by omega) (by omega) g3
      subst e
      exact ⟨g2, g4, g5⟩
  refine ⟨hqL, hk0, hk1, ?_⟩
  have e0 : sw_up σ (oa kd) j (-1) 0 = σ 0 := sw_up_n (Ne.symm hno.1)
  have e1 : sw_up σ (oa kd) j (-1) 1 = σ 1 := sw_up_n (Ne.symm hno.2.1)
  have e3 : sw_up σ (oa kd) j (-1) 3 = σ 3 := sw_up_n (Ne.symm hno.2.2.1)
  have e6 : sw_up σ (oa kd) j (-1) 6 = σ 6 := sw_up_n (Ne.symm hno.2.2.2.1)
  have e8 : sw_up σ (oa kd) j (-1) 8 = σ 8 := sw_up_n (Ne.symm hno.2.2.2.2.1)
  have e10 : sw_up σ (oa kd) j (-1) 10 = σ 10 := sw_up_n (Ne.symm hno.2.2.2.2.2)
  have eo : ∀ kd' j', 1 ≤ kd' → kd' ≤ 3 → ¬ (kd' = kd ∧ j' = j) → sw_up σ (oa kd) j (-1) (oa kd') j' = σ (oa kd') j' := by
    intro kd' j' g1 g3 hne
    by_cases e : kd' = kd
    · subst e; exact sw_up_o (fun z => hne ⟨rfl, z⟩)
    · rw [sw_up_n (fun z => e (oa_inj g1 g3 h1 h3 z))]
  refine ⟨fun p hp hL => ?_, fun kd' j' g1 g3 gj => ?_, ?_⟩
  · have hpq : p ≠ q := fun e => hL (by rw [e]; exact List.mem_cons_self)
    rcases h.1 p hp (fun g => hL (List.mem_cons_of_mem _ g)) with ⟨q1, q2⟩ | ⟨kd', j', q1, q2, q3, q4, q5, q6, q7⟩
    · exact Or.inl ⟨by rw [e0]; exact q1, q2⟩
    · refine Or.inr ⟨kd', j', q1, q2, q3, by rw [e0]; exact q4, by rw [e1]; exact q5, ?_, cont_eq q7 e3 e6 e8 e10⟩
      rw [eo kd' j' q1 q2 (fun z => hpq ?_)]
      · exact q6
      · rw [z.1, z.2, hq] at q6
        exact (nI_inj (by omega) (by omega) q6).symm
  · by_cases e : kd' = kd ∧ j' = j
    · rw [e.1, e.2]; exact Or.inl (sw_up_s _ _ _ _)
    · rw [eo kd' j' g1 g3 e, e0, e1]
      rcases h.2.1 kd' j' g1 g3 gj with g | ⟨p, k1, k2, k3, k4, k5⟩
      · exact Or.inl g
      · refine Or.inr ⟨p, k1, fun hm => ?_, k3, k4, k5⟩
        rcases List.mem_cons.mp hm with z | z
        · subst z
          rw [hk0] at k4
          rw [hk1] at k5
          have := onum_le g1 g3
          have := onum_le h1 h3
          exact e ⟨(nI_inj (by omega) (by omega) k4).symm, (nI_inj (by omega) (by omega) k5).symm⟩
        · exact k2 z
  · intro g hg n0 n1
    rw [e8]
    refine h.2.2 g hg (fun z => n0 ?_) (fun z => n1 ?_)
    · by_cases e : 2 = kd ∧ g * 2 = j
      · rw [← e.2]
        have e7 : (7 : Nat) = oa kd := by rw [← e.1]; rfl
        rw [e7]; exact sw_up_s _ _ _ _
      · have := eo 2 (g * 2) (by decide) (by decide) e
        exact this.trans z
    · by_cases e : 2 = kd ∧ g * 2 + 1 = j
      · rw [← e.2]
        have e7 : (7 : Nat) = oa kd := by rw [← e.1]; rfl
        rw [e7]; exact sw_up_s _ _ _ _
      · have := eo 2 (g * 2 + 1) (by decide) (by decide) e
        exact this.trans z
/-- a page that was nowhere comes to a free place -/
theorem iv_add {σ σ' : Sg} {M : Nat → Nat → Int32} {L : List Nat} {kd j q : Nat} (h : Iv σ M (q :: L)) (hq : q < 12) (h1 : 1 ≤ kd) (h3 : kd ≤ 3) (hj : j < onum kd) (hfree : σ (oa kd) j = -1) (hqL : q ∉ L)
    (e0 : σ' 0 = upd (σ 0) q (nI kd)) (e1 : σ' 1 = upd (σ 1) q (nI j)) (eo : σ' (oa kd) = upd (σ (oa kd)) j (nI q)) (en : ∀ kd', 1 ≤ kd' → kd' ≤ 3 → kd' ≠ kd → σ' (oa kd') = σ (oa kd'))
    (hc : cont σ' kd j (M q)) (hk : ∀ kd' j' X, 1 ≤ kd' → kd' ≤ 3 → j' < onum kd' → ¬ (kd' = kd ∧ j' = j) → σ (oa kd') j' ≠ -1 → cont σ kd' j' X → cont σ' kd' j' X) (hp : psz σ') : Iv σ' M L := by
  have eo' : ∀ kd' j', 1 ≤ kd' → kd' ≤ 3 → ¬ (kd' = kd ∧ j' = j) → σ' (oa kd') j' = σ (oa kd') j' := by
    intro kd' j' g1 g3 hne
    by_cases e : kd' = kd
    · subst e; rw [eo]; exact upd_o (fun z => hne ⟨rfl, z⟩)
    · rw [en kd' g1 g3 e]
  refine ⟨fun p hpp hL => ?_, fun kd' j' g1 g3 gj => ?_, hp⟩
  · by_cases e : p = q
    · subst e
      exact Or.inr ⟨kd, j, h1, h3, hj, by rw [e0]; exact upd_s _ _ _, by rw [e1]; exact upd_s _ _ _, by rw [eo]; exact upd_s _ _ _, hc⟩
    · rcases h.1 p hpp (fun hm => by rcases List.mem_cons.mp hm with z | z; exact e z; exact hL z) with ⟨q1, q2⟩ | ⟨kd', j', q1, q2, q3, q4, q5, q6, q7⟩
      · exact Or.inl ⟨by rw [e0, upd_o e]; exact q1, q2⟩
      · have hne : ¬ (kd' = kd ∧ j' = j) := fun z => by
          rw [z.1, z.2, hfree] at q6
          exact nI_nm1 (by omega) q6.symm
        exact Or.inr ⟨kd', j', q1, q2, q3, by rw [e0, upd_o e]; exact q4, by rw [e1, upd_o e]; exact q5, by rw [eo' kd' j' q1 q2 hne]; exact q6, hk kd' j' _ q1 q2 q3 hne (by rw [q6]; exact nI_nm1 (by omega)) q7⟩
  · by_cases e : kd' = kd ∧ j' = j
    · obtain ⟨rfl, rfl⟩ := e
      exact Or.inr ⟨q, hq, hqL, by rw [eo]; exact upd_s _ _ _, by rw [e0]; exact upd_s _ _ _, by rw [e1]; exact upd_s _ _ _⟩
    · rw [eo' kd' j' g1 g3 e]
      rcases h.2.1 kd' j' g1 g3 gj with g | ⟨p, k1, k2, k3, k4, k5⟩
      · exact Or.inl g
      · have hpq : p ≠ q := fun z => k2 (by rw [z]; exact List.mem_cons_self)
        exact Or.inr ⟨p, k1, fun z => k2 (List.mem_cons_of_mem _ z), k3, by rw [e0, upd_o hpq]; exact k4, by rw [e1, upd_o hpq]; exact k5⟩
/-- a page that is in a frame is written -/
theorem iv_frame {σ σ' : Sg} {M M' : Nat → Nat → Int32} {p f : Nat} (h : Iv σ M []) (hp : p < 12) (hf : f < 3) (h0 : σ 0 p = nI 1) (h1 : σ 1 p = nI f) (e3 : ∀ t, (t < f * 16 ∨ f * 16 + 16 ≤ t) → σ' 3 t = σ 3 t) (ek : ∀ k, k ≠ 3 → σ' k = σ k) (hM : ∀ q, q < 12 → q ≠ p → ∀ i, i < 16 → M' q i = M q i) (hX : ∀ i, i < 16 → σ' 3 (f * 16 + i) = M' p i) : Iv σ' M' [] := by
  have eo : ∀ kd, 1 ≤ kd → kd ≤ 3 → σ' (oa kd) = σ (oa kd) := fun kd g1 g3 => ek _ (oa_ne g1 g3).2.2.1
  have hop : σ 4 f = nI p := by
    rcases h.1 p hp List.not_mem_nil with ⟨q1, q2⟩ | ⟨kd, j, q1, q2, q3, q4, q5, q6, q7⟩
    · rw [h0] at q1; exact absurd q1 (by decide)
    · rw [h0] at q4; rw [h1] at q5
      have := onum_le q1 q2
      have e := nI_inj (by omega) (by omega) q4
      have e' := nI_inj (by omega) (by omega) q5
      subst e; subst e'
      exact q6
  refine ⟨fun q hq hL => ?_, fun kd j g1 g3 gj => ?_, ?_⟩
  · by_cases e : q = p
    · subst e
      exact Or.inr ⟨1, f, by decide, by decide, hf, by rw [ek 0 (by decide)]; exact h0, by rw [ek 1 (by decide)]; exact h1, by rw [eo 1 (by decide) (by decide)]; exact hop, Or.inl ⟨rfl, hX⟩⟩
    · rcases h.1 q hq List.not_mem_nil with ⟨q1, q2⟩ | ⟨kd, j, q1, q2, q3, q4, q5, q6, q7⟩
      · exact Or.inl ⟨by rw [ek 0 (by decide)]; exact q1, fun i hi => by rw [hM q hq e i hi]; exact q2 i hi⟩
      · refine Or.inr ⟨kd, j, q1, q2, q3, by rw [ek 0 (by decide)]; exact q4, by rw [ek 1 (by decide)]; exact q5, by rw [eo kd q1 q2]; exact q6, ?_⟩
        refine cont_X ?_ (hM q hq e)
        rcases q7 with ⟨k1, k2⟩ | ⟨k1, k2, z, n, k3, k4, k5⟩ | ⟨k1, k2, k3⟩
        · refine Or.inl ⟨k1, fun i hi => ?_⟩
          subst k1
          have hjf : j ≠ f := fun z => by
            subst z
            have q6' : σ 4 j = nI q := q6
            rw [hop] at q6'
            exact e (nI_inj (by omega) (by omega) q6').symm
          rw [e3 _ (by omega)]
          exact k2 i hi
        · exact Or.inr (Or.inl ⟨k1, k2, z, n, k3, by rw [ek 8 (by decide)]; exact k4, by rw [ek 6 (by decide)]; exact k5⟩)
        · exact Or.inr (Or.inr ⟨k1, k2, by rw [ek 10 (by decide)]; exact k3⟩)
  · rw [eo kd g1 g3, ek 0 (by decide), ek 1 (by decide)]
    exact h.2.1 kd j g1 g3 gj
  · unfold psz
    rw [ek 7 (by decide), ek 8 (by decide)]
    exact h.2.2
/-- a page in a frame: its bytes are there -/
theorem iv_at {σ : Sg} {M : Nat → Nat → Int32} {L : List Nat} {p f : Nat} (h : Iv σ M L) (hp : p < 12) (hL : p ∉ L) (h0 : σ 0 p = nI 1) (h1 : σ 1 p = nI f) (hf : f < 12) : f < 3 ∧ σ 4 f = nI p ∧ ∀ i, i < 16 → σ 3 (f * 16 + i) = M p i := by
  rcases h.1 p hp hL with ⟨q1, q2⟩ | ⟨kd, j, q1, q2, q3, q4, q5, q6, q7⟩
  · rw [h0] at q1; exact absurd q1 (by decide)
  · rw [h0] at q4; rw [h1] at q5
    have := onum_le q1 q2
    have e := nI_inj (by omega) (by omega) q4
    have e' := nI_inj (by omega) (by omega) q5
    subst e; subst e'
    rcases q7 with ⟨k1, k2⟩ | ⟨k1, _⟩ | ⟨k1, _⟩
    · exact ⟨q3, q6, k2⟩
    · exact absurd k1 (by decide)
    · exact absurd k1 (by decide)
/-- one more than there is room for -/
theorem php : ∀ (n : Nat) (f : Nat → Nat), (∀ i, i ≤ n → f i < n) → ∃ i j, i < j ∧ j ≤ n ∧ f i = f j := by
  intro n
  induction n with
  | zero => intro f h; exact absurd (h 0 (Nat.le_refl 0)) (Nat.not_lt_zero _)
  | succ n ih =>
    intro f h
    by_cases hex : ∃ i, i ≤ n ∧ f i = f (n + 1)
    · obtain ⟨i, h1, h2⟩ := hex
      exact ⟨i, n + 1, by omega, Nat.le_refl _, h2⟩
    · have hne : ∀ i, i ≤ n → f i ≠ f (n + 1) := fun i hi e => hex ⟨i, hi, e⟩
      have hv := h (n + 1) (Nat.le_refl _)
      obtain ⟨i, j, h1, h2, h3⟩ := ih (fun i => if f i = n then f (n + 1) else f i) (fun i hi => by
        have := h i (by omega)
        have := hne i hi
        split <;> omega)
      have ni := hne i (by omega)
      have nj := hne j h2
      refine ⟨i, j, h1, by omega, ?_⟩
      split at h3 <;> split at h3
      · omega
      · exact absurd h3.symm nj
      · exact absurd h3 ni
      · exact h3
/-- a page that isn't in a slot: then a slot is free -/
theorem iv_slot {σ : Sg} {M : Nat → Nat → Int32} {L : List Nat} {q : Nat} (h : Iv σ M L) (hq : q < 12) (hn : q ∈ L ∨ σ 0 q ≠ nI 3) : ∃ s, s < 12 ∧ σ 11 s = -1 := by
  by_cases hex : ∃ s, s < 12 ∧ σ 11 s = -1
  · exact hex
  · have ho : ∀ s, s < 12 → ∃ p, p < 12 ∧ p ∉ L ∧ σ 11 s = nI p ∧ σ 0 p = nI 3 ∧ σ 1 p = nI s := by
      intro s hs
      rcases h.2.1 3 s (by decide) (by decide) hs with g | g
      · exact absurd ⟨s, hs, g⟩ hex
      · exact g
    obtain ⟨i, j, h1, h2, h3⟩ := php 12 (fun s => if s < 12 then (σ 11 s).toNatClampNeg else q) (fun i hi => by
      split
      · rename_i hs
        obtain ⟨p, g1, g2, g3, g4, g5⟩ := ho i hs
        rw [g3, nI_clamp (by omega)]
        exact g1
      · exact hq)
    rw [if_pos (show i < 12 by omega)] at h3
    obtain ⟨p, g1, g2, g3, g4, g5⟩ := ho i (by omega)
    rw [g3, nI_clamp (by omega)] at h3
    by_cases hj : j < 12
    · rw [if_pos hj] at h3
      obtain ⟨p', k1, k2, k3, k4, k5⟩ := ho j hj
      rw [k3, nI_clamp (by omega)] at h3
      subst h3
      rw [g5] at k5
      exact absurd (nI_inj (by omega) (by omega) k5) (by omega)
    · rw [if_neg hj] at h3
      subst h3
      rcases hn with z | z
      · exact absurd z g2
      · exact absurd g4 z
end
section
/-! LEAVES of the swap: the checks, append, repeat, repeatAt, baseOf, roomIn, held -/
abbrev rmz : Room := { frames := 0, cells := 0, slots := 0, locals := 0 }
def Pr_1 (x : Int32) : List Int32 → Sg → Prop := fun xs _ => xs = [x]
def Po_chk (n : Nat) (x : Int32) : List Int32 → Sg → Int32 → Sg → Prop := fun _ σ r σ' => σ' = σ ∧ ((r = 1 ∧ ¬ inN n x) ∨ (r = 0 ∧ inN n x))
section LEAF
variable {l : Launch} {R : Room} {dC : Nat → ClassId} {dI : Nat → Nat → Nat} {ad : Nat → Nat} {d : ClassId} {K : xK}
theorem wk_badPage (G : xGood l R dC dI ad d RX0 cX0_badPage 2 K) (x : Int32) (σ : Sg) (hR : xRetI cX0_badPage K (Po_chk 12 x [] σ)) : K 0 [(0, .inr 2), (1, .inl x)] [] σ := by
  refine r_iload_n G 0 dX0_badPage_0 rfl ?_
  refine r_if_lt G 1 10 dX0_badPage_1 (by decide) (fun h_1 => ?_) (fun h_1 => ?_)
  · refine r_iconst G 10 (nI 1) dX0_badPage_10 (by decide) ?_
    refine r_goto G 11 15 dX0_badPage_11 (by decide) ?_
    exact hR 15 _ _ _ dX0_badPage_15 (⟨rfl, Or.inl ⟨rfl, inN_neg h_1 (by decide)⟩⟩)
  · refine r_iload_n G 4 dX0_badPage_4 rfl ?_
    refine r_bipush G 5 (nI 12) dX0_badPage_5 (by decide) ?_
    refine r_icmp_lt G 7 14 dX0_badPage_7 (by decide) (fun h_7 => ?_) (fun h_7 => ?_)
    · refine r_iconst G 14 (nI 0) dX0_badPage_14 (by decide) ?_
      exact hR 15 _ _ _ dX0_badPage_15 (⟨rfl, Or.inr ⟨rfl, inN_of (by decide) h_1 h_7⟩⟩)
    · refine r_iconst G 10 (nI 1) dX0_badPage_10 (by decide) ?_
      refine r_goto G 11 15 dX0_badPage_11 (by decide) ?_
      exact hR 15 _ _ _ dX0_badPage_15 (⟨rfl, Or.inl ⟨rfl, inN_big (by decide) h_7⟩⟩)
theorem wk_badPlace (G : xGood l R dC dI ad d RX0 cX0_badPlace 2 K) (x : Int32) (σ : Sg) (hR : xRetI cX0_badPlace K (Po_chk 16 x [] σ)) : K 0 [(0, .inr 2), (1, .inl x)] [] σ := by
  refine r_iload_n G 0 dX0_badPlace_0 rfl ?_
  refine r_if_lt G 1 10 dX0_badPlace_1 (by decide) (fun h_1 => ?_) (fun h_1 => ?_)
  · refine r_iconst G 10 (nI 1) dX0_badPlace_10 (by decide) ?_
    refine r_goto G 11 15 dX0_badPlace_11 (by decide) ?_
    exact hR 15 _ _ _ dX0_badPlace_15 (⟨rfl, Or.inl ⟨rfl, inN_neg h_1 (by decide)⟩⟩)
  · refine r_iload_n G 4 dX0_badPlace_4 rfl ?_
    refine r_bipush G 5 (nI 16) dX0_badPlace_5 (by decide) ?_
    refine r_icmp_lt G 7 14 dX0_badPlace_7 (by decide) (fun h_7 => ?_) (fun h_7 => ?_)
    · refine r_iconst G 14 (nI 0) dX0_badPlace_14 (by decide) ?_
      exact hR 15 _ _ _ dX0_badPlace_15 (⟨rfl, Or.inr ⟨rfl, inN_of (by decide) h_1 h_7⟩⟩)
    · refine r_iconst G 10 (nI 1) dX0_badPlace_10 (by decide) ?_
      refine r_goto G 11 15 dX0_badPlace_11 (by decide) ?_
      exact hR 15 _ _ _ dX0_badPlace_15 (⟨rfl, Or.inl ⟨rfl, inN_big (by decide) h_7⟩⟩)
theorem wk_badByte (G : xGood l R dC dI ad d RX0 cX0_badByte 2 K) (x : Int32) (σ : Sg) (hR : xRetI cX0_badByte K (Po_chk 256 x [] σ)) : K 0 [(0, .inr 2), (1, .inl x)] [] σ := by
  refine r_iload_n G 0 dX0_badByte_0 rfl ?_
  refine r_if_lt G 1 11 dX0_badByte_1 (by decide) (fun h_1 => ?_) (fun h_1 => ?_)
  · refine r_iconst G 11 (nI 1) dX0_badByte_11 (by decide) ?_
    refine r_goto G 12 16 dX0_badByte_12 (by decide) ?_
    exact hR 16 _ _ _ dX0_badByte_16 (⟨rfl, Or.inl ⟨rfl, inN_neg h_1 (by decide)⟩⟩)
  · refine r_iload_n G 4 dX0_badByte_4 rfl ?_
    refine r_sipush G 5 (nI 255) dX0_badByte_5 (by decide) ?_
    refine r_icmp_le G 8 15 dX0_badByte_8 (by decide) (fun h_8 => ?_) (fun h_8 => ?_)
    · refine r_iconst G 15 (nI 0) dX0_badByte_15 (by decide) ?_
      exact hR 16 _ _ _ dX0_badByte_16 (⟨rfl, Or.inr ⟨rfl, inN_ofL (n := 255) (by decide) h_1 h_8⟩⟩)
    · refine r_iconst G 11 (nI 1) dX0_badByte_11 (by decide) ?_
      refine r_goto G 12 16 dX0_badByte_12 (by decide) ?_
      exact hR 16 _ _ _ dX0_badByte_16 (⟨rfl, Or.inl ⟨rfl, inN_bigL (n := 255) (by decide) h_8⟩⟩)
end LEAF
theorem chk_z {n : Nat} {x : Int32} (xs : List Int32) (σ : Sg) (r : Int32) (σ' : Sg) (h : Po_chk n x xs σ r σ') : r = 0 ∨ r = 1 := by
  rcases h.2 with g | g
  · exact Or.inr g.1
  · exact Or.inl g.1
theorem met_badPage (l : Launch) (dC : Nat → ClassId) (dI : Nat → Nat → Nat) (ad : Nat → Nat) (d : ClassId) (x : Int32) : xMetI l dC dI ad d yX0_badPage cX0_badPage 2 (some .boolean) rmz 2 1 (Pr_1 x) (Po_chk 12 x) :=
  xMetZ_of RX0 rfl (by decide) (by decide) chk_z (fun K G xs σ _ hp hR => by
    have hp : xs = [x] := hp
    subst hp; exact wk_badPage G x σ hR)
theorem met_badPlace (l : Launch) (dC : Nat → ClassId) (dI : Nat → Nat → Nat) (ad : Nat → Nat) (d : ClassId) (x : Int32) : xMetI l dC dI ad d yX0_badPlace cX0_badPlace 2 (some .boolean) rmz 2 1 (Pr_1 x) (Po_chk 16 x) :=
  xMetZ_of RX0 rfl (by decide) (by decide) chk_z (fun K G xs σ _ hp hR => by
    have hp : xs = [x] := hp
    subst hp; exact wk_badPlace G x σ hR)
theorem met_badByte (l : Launch) (dC : Nat → ClassId) (dI : Nat → Nat → Nat) (ad : Nat → Nat) (d : ClassId) (x : Int32) : xMetI l dC dI ad d yX0_badByte cX0_badByte 2 (some .boolean) rmz 2 1 (Pr_1 x) (Po_chk 256 x) :=
  xMetZ_of RX0 rfl (by decide) (by decide) chk_z (fun K G xs σ _ hp hR => by
    have hp : xs = [x] := hp
    subst hp; exact wk_badByte G x σ hR)
/-! append -/
def Pr_append (v : Int32) (z : Nat) : List Int32 → Sg → Prop := fun xs σ => xs = [v] ∧ z < 24 ∧ σ 13 0 = nI z
def Po_append (v : Int32) (z : Nat) : List Int32 → Sg → Sg → Prop := fun _ σ σ' => σ' = sw_up (sw_up σ 12 z v) 13 0 (nI (z + 1))
theorem wk_append {l : Launch} {R : Room} {dC : Nat → ClassId} {dI : Nat → Nat → Nat} {ad : Nat → Nat} {d : ClassId} {K : xK} (G : xGood l R dC dI ad d RX0 cX0_append 2 K) {v : Int32} {z : Nat} {σ : Sg} (hz24 : z < 24) (hz : σ 13 0 = nI z) (hR : xRetV cX0_append K (Po_append v z [] σ)) : K 0 [(0, .inr 2), (1, .inl v)] [] σ := by
  refine r_aload G 0 dX0_append_0 rfl ?_
  refine r_f12 G 1 dX0_append_1 ?_
  refine r_aload G 4 dX0_append_4 rfl ?_
  refine r_f13 G 5 dX0_append_5 ?_
  rw [hz]
  refine r_iload_n G 8 dX0_append_8 rfl ?_
  refine r_ast G 9 24 rfl dX0_append_9 rfl (by omega) ?_
  refine r_aload G 10 dX0_append_10 rfl ?_
  refine r_dup G 11 dX0_append_11 ?_
  refine r_f13 G 12 dX0_append_12 ?_
  rw [show sw_up σ 12 z v 13 0 = nI z from hz]
  refine r_iconst G 15 (nI 1) dX0_append_15 (by decide) ?_
  refine r_iadd G 16 dX0_append_16 (nI_add _ _) ?_
  refine r_p13 G 17 dX0_append_17 ?_
  exact hR 20 _ _ dX0_append_20 (rfl)
theorem met_append (l : Launch) (dC : Nat → ClassId) (dI : Nat → Nat → Nat) (ad : Nat → Nat) (d : ClassId) (v : Int32) (z : Nat) : xMetV l dC dI ad d yX0_append cX0_append 2 rmz 2 1 (Pr_append v z) (Po_append v z) :=
  xMetV_of RX0 rfl (by decide) (by decide) (fun K G xs σ _ hp hR => by
    obtain ⟨hp, h1, h2⟩ := hp
    subst hp; exact wk_append G h1 h2 hR)
/-! repeatAt -/
def Pr_repeatAt (f i b : Nat) : List Int32 → Sg → Prop := fun xs _ => xs = [nI (f * 16), nI i, nI b] ∧ f < 3 ∧ 1 ≤ b ∧ b ≤ i ∧ i < 16
def Po_repeatAt (f i b : Nat) : List Int32 → Sg → Int32 → Sg → Prop := fun _ σ r σ' => σ' = σ ∧ ∃ n, r = nI n ∧ i + n ≤ 16 ∧ ∀ k, k < n → σ 3 (f * 16 + (i + k)) = σ 3 (f * 16 + (i + k) - b)
section REPAT
variable {l : Launch} {R : Room} {dC : Nat → ClassId} {dI : Nat → Nat → Nat} {ad : Nat → Nat} {d : ClassId} {K : xK}
theorem lp_repeatAt (G : xGood l R dC dI ad d RX0 cX0_repeatAt 6 K) {f i b : Nat} {σ : Sg} (hf : f < 3) (hb1 : 1 ≤ b) (hbi : b ≤ i) (hi : i < 16) (hR : xRetI cX0_repeatAt K (Po_repeatAt f i b [] σ)) :
    ∀ t n, i + n ≤ 16 → 17 ≤ t + (i + n) → (∀ k, k < n → σ 3 (f * 16 + (i + k)) = σ 3 (f * 16 + (i + k) - b)) → K 6 [(0, .inr 2), (1, .inl (nI (f * 16))), (2, .inl (nI i)), (3, .inl (nI b)), (4, .inl (nI n)), (5, .inl (nI (i + n)))] [] σ := by
  intro t
  induction t with
  | zero => intro n h1 h2; omega
  | succ t ih =>
    intro n h1 h2 hn
    refine r_iload G 6 dX0_repeatAt_6 rfl ?_
    refine r_bipush G 8 (nI 16) dX0_repeatAt_8 (by decide) ?_
    refine b_ge G 10 45 dX0_repeatAt_10 (by decide) (by omega) (by omega) (fun h_10 => ?_) (fun h_10 => ?_)
    · refine r_iload G 45 dX0_repeatAt_45 rfl ?_
      exact hR 47 _ _ _ dX0_repeatAt_47 (⟨rfl, n, rfl, by omega, hn⟩)
    · refine r_aload G 13 dX0_repeatAt_13 rfl ?_
      refine r_f3 G 14 dX0_repeatAt_14 ?_
      refine r_iload_n G 17 dX0_repeatAt_17 rfl ?_
      refine r_iload G 18 dX0_repeatAt_18 rfl ?_
      refine r_iadd G 20 dX0_repeatAt_20 (nI_add _ _) ?_
      refine r_ald G 21 48 rfl dX0_repeatAt_21 rfl (by omega) ?_
      refine r_aload G 22 dX0_repeatAt_22 rfl ?_
      refine r_f3 G 23 dX0_repeatAt_23 ?_
      refine r_iload_n G 26 dX0_repeatAt_26 rfl ?_
      refine r_iload G 27 dX0_repeatAt_27 rfl ?_
      refine r_iadd G 29 dX0_repeatAt_29 (nI_add _ _) ?_
      refine r_iload_n G 30 dX0_repeatAt_30 rfl ?_
      refine r_isub G 31 dX0_repeatAt_31 (pk_sub (by omega)) ?_
      refine r_ald G 32 48 rfl dX0_repeatAt_32 rfl (by omega) ?_
      refine r_icmp_ne G 33 45 dX0_repeatAt_33 (by decide) (fun h_33 => ?_) (fun h_33 => ?_)
      · refine r_iload G 45 dX0_repeatAt_45 rfl ?_
        exact hR 47 _ _ _ dX0_repeatAt_47 (⟨rfl, n, rfl, by omega, hn⟩)
      · refine r_iinc G 36 dX0_repeatAt_36 rfl (c_inc _) (Nat.le_of_ble_eq_true rfl) ?_
        refine r_iinc G 39 dX0_repeatAt_39 rfl (c_inc _) (Nat.le_of_ble_eq_true rfl) ?_
        refine r_goto G 42 6 dX0_repeatAt_42 (by decide) ?_
        exact r_pick G [0, 1, 2, 3, 4, 5] (ih (n + 1) (by omega) (by omega) (lt_s hn h_33))
theorem wk_repeatAt (G : xGood l R dC dI ad d RX0 cX0_repeatAt 6 K) {f i b : Nat} {σ : Sg} (hf : f < 3) (hb1 : 1 ≤ b) (hbi : b ≤ i) (hi : i < 16) (hR : xRetI cX0_repeatAt K (Po_repeatAt f i b [] σ)) :
    K 0 [(0, .inr 2), (1, .inl (nI (f * 16))), (2, .inl (nI i)), (3, .inl (nI b))] [] σ := by
  refine r_iconst G 0 (nI 0) dX0_repeatAt_0 (by decide) ?_
  refine r_istore G 1 dX0_repeatAt_1 (Nat.le_of_ble_eq_true rfl) ?_
  refine r_iload_n G 3 dX0_repeatAt_3 rfl ?_
  refine r_istore G 4 dX0_repeatAt_4 (Nat.le_of_ble_eq_true rfl) ?_
  exact r_pick G [0, 1, 2, 3, 4, 5] (lp_repeatAt G hf hb1 hbi hi hR 17 0 (by omega) (by omega) lt_0)
end REPAT
theorem met_repeatAt (l : Launch) (dC : Nat → ClassId) (dI : Nat → Nat → Nat) (ad : Nat → Nat) (d : ClassId) (f i b : Nat) : xMetI l dC dI ad d yX0_repeatAt cX0_repeatAt 6 (some .int) rmz 2 3 (Pr_repeatAt f i b) (Po_repeatAt f i b) :=
  xMetI_of RX0 rfl (by decide) (by decide) (fun K G xs σ _ hp hR => by
    obtain ⟨hp, h1, h2, h3, h4⟩ := hp
    subst hp; exact wk_repeatAt G h1 h2 h3 h4 hR)
/-! repeat -/
def Pr_repeat (i n b : Nat) (X : Nat → Int32) : List Int32 → Sg → Prop := fun xs σ => xs = [nI i, nI n, nI b] ∧ i + n ≤ 16 ∧ 1 ≤ b ∧ b ≤ i ∧ (∀ k, k < i → σ 14 k = X k) ∧ ∀ k, k < n → X (i + k) = X (i + k - b)
def Po_repeat (i n : Nat) (X : Nat → Int32) : List Int32 → Sg → Sg → Prop := fun _ σ σ' => (∀ k, k < i + n → σ' 14 k = X k) ∧ ∀ a, a ≠ 14 → σ' a = σ a
section REPEAT
variable {l : Launch} {R : Room} {dC : Nat → ClassId} {dI : Nat → Nat → Nat} {ad : Nat → Nat} {d : ClassId} {K : xK}
theorem lp_repeat (G : xGood l R dC dI ad d RX0 cX0_repeat 5 K) {i n b : Nat} {X : Nat → Int32} {σ0 : Sg} (hin : i + n ≤ 16) (hb1 : 1 ≤ b) (hbi : b ≤ i) (hX : ∀ k, k < n → X (i + k) = X (i + k - b)) (hR : xRetV cX0_repeat K (Po_repeat i n X [] σ0)) :
    ∀ t j σ, j ≤ n → n + 1 ≤ t + j → (∀ k, k < i + j → σ 14 k = X k) → (∀ a, a ≠ 14 → σ a = σ0 a) → K 3 [(0, .inr 2), (1, .inl (nI i)), (2, .inl (nI n)), (3, .inl (nI b)), (4, .inl (nI (i + j)))] [] σ := by
  intro t
  induction t with
  | zero => intro j σ h1 h2; omega
  | succ t ih =>
    intro j σ h1 h2 hp ho
    refine r_iload G 3 dX0_repeat_3 rfl ?_
    refine r_iload_n G 5 dX0_repeat_5 rfl ?_
    refine r_iload_n G 6 dX0_repeat_6 rfl ?_
    refine r_iadd G 7 dX0_repeat_7 (nI_add _ _) ?_
    refine b_ge G 8 50 dX0_repeat_8 (by decide) (by omega) (by omega) (fun h_8 => ?_) (fun h_8 => ?_)
    · exact hR 50 _ _ dX0_repeat_50 (⟨fun k hk => hp k (by omega), ho⟩)
    · refine r_iload G 11 dX0_repeat_11 rfl ?_
      refine r_bipush G 13 (nI 16) dX0_repeat_13 (by decide) ?_
      refine b_ge G 15 50 dX0_repeat_15 (by decide) (by omega) (by omega) (fun h_15 => ?_) (fun h_15 => ?_)
      · exact hR 50 _ _ dX0_repeat_50 (⟨fun k hk => hp k (by omega), ho⟩)
      · refine r_aload G 18 dX0_repeat_18 rfl ?_
        refine r_f14 G 19 dX0_repeat_19 ?_
        refine r_iload G 22 dX0_repeat_22 rfl ?_
        refine r_iload G 24 dX0_repeat_24 rfl ?_
        refine r_iload_n G 26 dX0_repeat_26 rfl ?_
        refine b_lt G 27 42 dX0_repeat_27 (by decide) (by omega) (by omega) (fun h_27 => absurd h_27 (by omega)) (fun h_27 => ?_)
        refine r_aload G 30 dX0_repeat_30 rfl ?_
        refine r_f14 G 31 dX0_repeat_31 ?_
        refine r_iload G 34 dX0_repeat_34 rfl ?_
        refine r_iload_n G 36 dX0_repeat_36 rfl ?_
        refine r_isub G 37 dX0_repeat_37 (pk_sub (by omega)) ?_
        refine r_ald G 38 16 rfl dX0_repeat_38 rfl (by omega) ?_
        refine r_goto G 39 43 dX0_repeat_39 (by decide) ?_
        refine r_ast G 43 16 rfl dX0_repeat_43 rfl (by omega) ?_
        refine r_iinc G 44 dX0_repeat_44 rfl (c_inc _) (Nat.le_of_ble_eq_true rfl) ?_
        refine r_goto G 47 3 dX0_repeat_47 (by decide) ?_
        have hv : σ 14 (i + j - b) = X (i + j) := by rw [hp _ (by omega), hX j (by omega)]
        rw [hv]
        exact r_pick G [0, 1, 2, 3, 4] (ih (j + 1) _ (by omega) (by omega) (fun k hk => by by_cases e : k = i + j; rw [e]; exact sw_up_s _ _ _ _; rw [sw_up_o e]; exact hp k (by omega)) (fun a ha => (sw_up_n ha).trans (ho a ha)))
theorem wk_repeat (G : xGood l R dC dI ad d RX0 cX0_repeat 5 K) {i n b : Nat} {X : Nat → Int32} {σ : Sg} (hin : i + n ≤ 16) (hb1 : 1 ≤ b) (hbi : b ≤ i) (h0 : ∀ k, k < i → σ 14 k = X k) (hX : ∀ k, k < n → X (i + k) = X (i + k - b)) (hR : xRetV cX0_repeat K (Po_repeat i n X [] σ)) :
    K 0 [(0, .inr 2), (1, .inl (nI i)), (2, .inl (nI n)), (3, .inl (nI b))] [] σ := by
  refine r_iload_n G 0 dX0_repeat_0 rfl ?_
  refine r_istore G 1 dX0_repeat_1 (Nat.le_of_ble_eq_true rfl) ?_
  exact r_pick G [0, 1, 2, 3, 4] (lp_repeat G hin hb1 hbi hX hR (n + 1) 0 σ (by omega) (by omega) h0 (fun _ _ => rfl))
end REPEAT
theorem met_repeat (l : Launch) (dC : Nat → ClassId) (dI : Nat → Nat → Nat) (ad : Nat → Nat) (d : ClassId) (i n b : Nat) (X : Nat → Int32) : xMetV l dC dI ad d yX0_repeat cX0_repeat 5 rmz 2 3 (Pr_repeat i n b X) (Po_repeat i n X) :=
  xMetV_of RX0 rfl (by decide) (by decide) (fun K G xs σ _ hp hR => by
    obtain ⟨hp, h1, h2, h3, h4, h5⟩ := hp
    subst hp; exact wk_repeat G h1 h2 h3 h4 h5 hR)
/-! baseOf -/
def Pr_baseOf (e z : Nat) : List Int32 → Sg → Prop := fun xs σ => xs = [nI e] ∧ e < 8 ∧ z ≤ 16 ∧ σ 8 e = nI z
def Po_baseOf (e z : Nat) : List Int32 → Sg → Int32 → Sg → Prop := fun _ σ r σ' => σ' = σ ∧ r = nI (bs e z)
theorem wk_baseOf {l : Launch} {R : Room} {dC : Nat → ClassId} {dI : Nat → Nat → Nat} {ad : Nat → Nat} {d : ClassId} {K : xK} (G : xGood l R dC dI ad d RX0 cX0_baseOf 3 K) {e z : Nat} {σ : Sg} (he : e < 8) (hz16 : z ≤ 16) (hz : σ 8 e = nI z) (hR : xRetI cX0_baseOf K (Po_baseOf e z [] σ)) : K 0 [(0, .inr 2), (1, .inl (nI e))] [] σ := by
  refine r_iload_n G 0 dX0_baseOf_0 rfl ?_
  refine r_iconst G 1 (nI 1) dX0_baseOf_1 (by decide) ?_
  refine r_ishr G 2 dX0_baseOf_2 (pk_shrN (by omega) _ 1 (by decide)) ?_
  refine r_bipush G 3 (nI 16) dX0_baseOf_3 (by decide) ?_
  refine r_imul G 5 dX0_baseOf_5 (pk_mul _ _) ?_
  refine r_istore_n G 6 dX0_baseOf_6 (Nat.le_of_ble_eq_true rfl) ?_
  refine r_iload_n G 7 dX0_baseOf_7 rfl ?_
  refine r_iconst G 8 (nI 1) dX0_baseOf_8 (by decide) ?_
  refine r_iand G 9 dX0_baseOf_9 (pk_andN (by omega) 1 (by decide)) ?_
  refine r_iconst G 10 (nI 1) dX0_baseOf_10 (by decide) ?_
  refine b_ne G 11 26 dX0_baseOf_11 (by decide) (by omega) (by omega) (fun h_11 => ?_) (fun h_11 => ?_)
  · refine r_iload_n G 26 dX0_baseOf_26 rfl ?_
    exact hR 27 _ _ _ dX0_baseOf_27 (⟨rfl, congrArg nI (by unfold bs; split <;> omega)⟩)
  · refine r_iload_n G 14 dX0_baseOf_14 rfl ?_
    refine r_bipush G 15 (nI 16) dX0_baseOf_15 (by decide) ?_
    refine r_iadd G 17 dX0_baseOf_17 (nI_add _ _) ?_
    refine r_aload G 18 dX0_baseOf_18 rfl ?_
    refine r_f8 G 19 dX0_baseOf_19 ?_
    refine r_iload_n G 22 dX0_baseOf_22 rfl ?_
    refine r_ald G 23 8 rfl dX0_baseOf_23 rfl (by omega) ?_
    rw [hz]
    refine r_isub G 24 dX0_baseOf_24 (pk_sub (by omega)) ?_
    refine r_istore_n G 25 dX0_baseOf_25 (Nat.le_of_ble_eq_true rfl) ?_
    refine r_iload_n G 26 dX0_baseOf_26 rfl ?_
    exact hR 27 _ _ _ dX0_baseOf_27 (⟨rfl, congrArg nI (by unfold bs; split <;> omega)⟩)
theorem met_baseOf (l : Launch) (dC : Nat → ClassId) (dI : Nat → Nat → Nat) (ad : Nat → Nat) (d : ClassId) (e z : Nat) : xMetI l dC dI ad d yX0_baseOf cX0_baseOf 3 (some .int) rmz 2 1 (Pr_baseOf e z) (Po_baseOf e z) :=
  xMetI_of RX0 rfl (by decide) (by decide) (fun K G xs σ _ hp hR => by
    obtain ⟨hp, h1, h2, h3⟩ := hp
    subst hp; exact wk_baseOf G h1 h2 h3 hR)
/-! roomIn, held -/
def occ (σ : Sg) (e w : Nat) : Prop := (σ 7 e = -1 ∧ w = 0) ∨ ∃ p, p < 12 ∧ σ 7 e = nI p ∧ w < 16 ∧ σ 8 e = nI w
theorem occ_neg {σ : Sg} {e w : Nat} (h : occ σ e w) (hn : σ 7 e < 0) : σ 7 e = -1 ∧ w = 0 := by
  rcases h with h | ⟨p, h1, h2, h3, h4⟩
  · exact h
  · rw [h2] at hn; exact absurd hn (nI_pos (by omega))
theorem occ_pos {σ : Sg} {e w : Nat} (h : occ σ e w) (hn : ¬ σ 7 e < 0) : ∃ p, p < 12 ∧ σ 7 e = nI p ∧ w < 16 ∧ σ 8 e = nI w := by
  rcases h with ⟨h1, h2⟩ | h
  · rw [h1] at hn; exact absurd m1_lt hn
  · exact h
def Pr_roomIn (f w0 w1 : Nat) : List Int32 → Sg → Prop := fun xs σ => xs = [nI f] ∧ f < 4 ∧ occ σ (f * 2) w0 ∧ occ σ (f * 2 + 1) w1 ∧ w0 + w1 ≤ 16
def Po_roomIn (w0 w1 : Nat) : List Int32 → Sg → Int32 → Sg → Prop := fun _ σ r σ' => σ' = σ ∧ r = nI (16 - w0 - w1)
theorem wk_roomIn {l : Launch} {R : Room} {dC : Nat → ClassId} {dI : Nat → Nat → Nat} {ad : Nat → Nat} {d : ClassId} {K : xK} (G : xGood l R dC dI ad d RX0 cX0_roomIn 3 K) {f w0 w1 : Nat} {σ : Sg} (hf : f < 4) (o0 : occ σ (f * 2) w0) (o1 : occ σ (f * 2 + 1) w1) (hw : w0 + w1 ≤ 16) (hR : xRetI cX0_roomIn K (Po_roomIn w0 w1 [] σ)) : K 0 [(0, .inr 2), (1, .inl (nI f))] [] σ := by
  refine r_bipush G 0 (nI 16) dX0_roomIn_0 (by decide) ?_
  refine r_istore_n G 2 dX0_roomIn_2 (Nat.le_of_ble_eq_true rfl) ?_
  refine r_aload G 3 dX0_roomIn_3 rfl ?_
  refine r_f7 G 4 dX0_roomIn_4 ?_
  refine r_iload_n G 7 dX0_roomIn_7 rfl ?_
  refine r_iconst G 8 (nI 2) dX0_roomIn_8 (by decide) ?_
  refine r_imul G 9 dX0_roomIn_9 (pk_mul _ _) ?_
  refine r_ald G 10 8 rfl dX0_roomIn_10 rfl (by omega) ?_
  refine r_if_lt G 11 25 dX0_roomIn_11 (by decide) (fun h_11 => ?_) (fun h_11 => ?_)
  · refine r_aload G 25 dX0_roomIn_25 rfl ?_
    refine r_f7 G 26 dX0_roomIn_26 ?_
    refine r_iload_n G 29 dX0_roomIn_29 rfl ?_
    refine r_iconst G 30 (nI 2) dX0_roomIn_30 (by decide) ?_
    refine r_imul G 31 dX0_roomIn_31 (pk_mul _ _) ?_
    refine r_iconst G 32 (nI 1) dX0_roomIn_32 (by decide) ?_
    refine r_iadd G 33 dX0_roomIn_33 (nI_add _ _) ?_
    refine r_ald G 34 8 rfl dX0_roomIn_34 rfl (by omega) ?_
    refine r_if_lt G 35 51 dX0_roomIn_35 (by decide) (fun h_35 => ?_) (fun h_35 => ?_)
    · refine r_iload_n G 51 dX0_roomIn_51 rfl ?_
      exact hR 52 _ _ _ dX0_roomIn_52 (⟨rfl, by have g0 := (occ_neg o0 h_11).2; have g1 := (occ_neg o1 h_35).2; subst g0; subst g1; rfl⟩)
    · refine r_iload_n G 38 dX0_roomIn_38 rfl ?_
      refine r_aload G 39 dX0_roomIn_39 rfl ?_
      refine r_f8 G 40 dX0_roomIn_40 ?_
      refine r_iload_n G 43 dX0_roomIn_43 rfl ?_
      refine r_iconst G 44 (nI 2) dX0_roomIn_44 (by decide) ?_
      refine r_imul G 45 dX0_roomIn_45 (pk_mul _ _) ?_
      refine r_iconst G 46 (nI 1) dX0_roomIn_46 (by decide) ?_
      refine r_iadd G 47 dX0_roomIn_47 (nI_add _ _) ?_
      refine r_ald G 48 8 rfl dX0_roomIn_48 rfl (by omega) ?_
      obtain ⟨p1, hp1, e1, hw1, hz1⟩ := occ_pos o1 h_35
      rw [hz1]
      refine r_isub G 49 dX0_roomIn_49 (pk_sub (by omega)) ?_
      refine r_istore_n G 50 dX0_roomIn_50 (Nat.le_of_ble_eq_true rfl) ?_
      refine r_iload_n G 51 dX0_roomIn_51 rfl ?_
      exact hR 52 _ _ _ dX0_roomIn_52 (⟨rfl, by have g0 := (occ_neg o0 h_11).2; subst g0; exact congrArg nI (by omega)⟩)
  · refine r_iload_n G 14 dX0_roomIn_14 rfl ?_
    refine r_aload G 15 dX0_roomIn_15 rfl ?_
    refine r_f8 G 16 dX0_roomIn_16 ?_
    refine r_iload_n G 19 dX0_roomIn_19 rfl ?_
    refine r_iconst G 20 (nI 2) dX0_roomIn_20 (by decide) ?_
    refine r_imul G 21 dX0_roomIn_21 (pk_mul _ _) ?_
    refine r_ald G 22 8 rfl dX0_roomIn_22 rfl (by omega) ?_
    obtain ⟨p0, hp0, e0, hw0, hz0⟩ := occ_pos o0 h_11
    rw [hz0]
    refine r_isub G 23 dX0_roomIn_23 (pk_sub (by omega)) ?_
    refine r_istore_n G 24 dX0_roomIn_24 (Nat.le_of_ble_eq_true rfl) ?_
    refine r_aload G 25 dX0_roomIn_25 rfl ?_
    refine r_f7 G 26 dX0_roomIn_26 ?_
    refine r_iload_n G 29 dX0_roomIn_29 rfl ?_
    refine r_iconst G 30 (nI 2) dX0_roomIn_30 (by decide) ?_
    refine r_imul G 31 dX0_roomIn_31 (pk_mul _ _) ?_
    refine r_iconst G 32 (nI 1) dX0_roomIn_32 (by decide) ?_
    refine r_iadd G 33 dX0_roomIn_33 (nI_add _ _) ?_
    refine r_ald G 34 8 rfl dX0_roomIn_34 rfl (by omega) ?_
    refine r_if_lt G 35 51 dX0_roomIn_35 (by decide) (fun h_35 => ?_) (fun h_35 => ?_)
    · refine r_iload_n G 51 dX0_roomIn_51 rfl ?_
      exact hR 52 _ _ _ dX0_roomIn_52 (⟨rfl, by have g1 := (occ_neg o1 h_35).2; subst g1; exact congrArg nI (by omega)⟩)
    · refine r_iload_n G 38 dX0_roomIn_38 rfl ?_
      refine r_aload G 39 dX0_roomIn_39 rfl ?_
      refine r_f8 G 40 dX0_roomIn_40 ?_
      refine r_iload_n G 43 dX0_roomIn_43 rfl ?_
      refine r_iconst G 44 (nI 2) dX0_roomIn_44 (by decide) ?_
      refine r_imul G 45 dX0_roomIn_45 (pk_mul _ _) ?_
      refine r_iconst G 46 (nI 1) dX0_roomIn_46 (by decide) ?_
      refine r_iadd G 47 dX0_roomIn_47 (nI_add _ _) ?_
      refine r_ald G 48 8 rfl dX0_roomIn_48 rfl (by omega) ?_
      obtain ⟨p1, hp1, e1, hw1, hz1⟩ := occ_pos o1 h_35
      rw [hz1]
      refine r_isub G 49 dX0_roomIn_49 (pk_sub (by omega)) ?_
      refine r_istore_n G 50 dX0_roomIn_50 (Nat.le_of_ble_eq_true rfl) ?_
      refine r_iload_n G 51 dX0_roomIn_51 rfl ?_
      exact hR 52 _ _ _ dX0_roomIn_52 (⟨rfl, congrArg nI (by omega)⟩)
theorem met_roomIn (l : Launch) (dC : Nat → ClassId) (dI : Nat → Nat → Nat) (ad : Nat → Nat) (d : ClassId) (f w0 w1 : Nat) : xMetI l dC dI ad d yX0_roomIn cX0_roomIn 3 (some .int) rmz 2 1 (Pr_roomIn f w0 w1) (Po_roomIn w0 w1) :=
  xMetI_of RX0 rfl (by decide) (by decide) (fun K G xs σ _ hp hR => by
    obtain ⟨hp, h1, h2, h3, h4⟩ := hp
    subst hp; exact wk_roomIn G h1 h2 h3 h4 hR)
def hl1 (σ : Sg) (e : Nat) : Nat := if σ 7 e < 0 then 0 else 1
theorem hl1_0 {σ : Sg} {e : Nat} (h : σ 7 e < 0) : hl1 σ e = 0 := if_pos h
theorem hl1_1 {σ : Sg} {e : Nat} (h : ¬ σ 7 e < 0) : hl1 σ e = 1 := if_neg h
def Pr_held (f : Nat) : List Int32 → Sg → Prop := fun xs _ => xs = [nI f] ∧ f < 4
def Po_held (f : Nat) : List Int32 → Sg → Int32 → Sg → Prop := fun _ σ r σ' => σ' = σ ∧ r = nI (hl1 σ (f * 2) + hl1 σ (f * 2 + 1))
theorem wk_held {l : Launch} {R : Room} {dC : Nat → ClassId} {dI : Nat → Nat → Nat} {ad : Nat → Nat} {d : ClassId} {K : xK} (G : xGood l R dC dI ad d RX0 cX0_held 3 K) {f : Nat} {σ : Sg} (hf : f < 4) (hR : xRetI cX0_held K (Po_held f [] σ)) : K 0 [(0, .inr 2), (1, .inl (nI f))] [] σ := by
  refine r_aload G 0 dX0_held_0 rfl ?_
  refine r_f7 G 1 dX0_held_1 ?_
  refine r_iload_n G 4 dX0_held_4 rfl ?_
  refine r_iconst G 5 (nI 2) dX0_held_5 (by decide) ?_
  refine r_imul G 6 dX0_held_6 (pk_mul _ _) ?_
  refine r_ald G 7 8 rfl dX0_held_7 rfl (by omega) ?_
  refine r_if_lt G 8 15 dX0_held_8 (by decide) (fun h_8 => ?_) (fun h_8 => ?_)
  · refine r_iconst G 15 (nI 0) dX0_held_15 (by decide) ?_
    refine r_istore_n G 16 dX0_held_16 (Nat.le_of_ble_eq_true rfl) ?_
    refine r_aload G 17 dX0_held_17 rfl ?_
    refine r_f7 G 18 dX0_held_18 ?_
    refine r_iload_n G 21 dX0_held_21 rfl ?_
    refine r_iconst G 22 (nI 2) dX0_held_22 (by decide) ?_
    refine r_imul G 23 dX0_held_23 (pk_mul _ _) ?_
    refine r_iconst G 24 (nI 1) dX0_held_24 (by decide) ?_
    refine r_iadd G 25 dX0_held_25 (nI_add _ _) ?_
    refine r_ald G 26 8 rfl dX0_held_26 rfl (by omega) ?_
    refine r_if_lt G 27 36 dX0_held_27 (by decide) (fun h_27 => ?_) (fun h_27 => ?_)
    · refine r_iload_n G 36 dX0_held_36 rfl ?_
      exact hR 37 _ _ _ dX0_held_37 (⟨rfl, by rw [hl1_0 h_8, hl1_0 h_27]⟩)
    · refine r_iload_n G 30 dX0_held_30 rfl ?_
      refine r_iconst G 31 (nI 1) dX0_held_31 (by decide) ?_
      refine r_iadd G 32 dX0_held_32 (nI_add _ _) ?_
      refine r_goto G 33 37 dX0_held_33 (by decide) ?_
      exact hR 37 _ _ _ dX0_held_37 (⟨rfl, by rw [hl1_0 h_8, hl1_1 h_27]⟩)
  · refine r_iconst G 11 (nI 1) dX0_held_11 (by decide) ?_
    refine r_goto G 12 16 dX0_held_12 (by decide) ?_
    refine r_istore_n G 16 dX0_held_16 (Nat.le_of_ble_eq_true rfl) ?_
    refine r_aload G 17 dX0_held_17 rfl ?_
    refine r_f7 G 18 dX0_held_18 ?_
    refine r_iload_n G 21 dX0_held_21 rfl ?_
    refine r_iconst G 22 (nI 2) dX0_held_22 (by decide) ?_
    refine r_imul G 23 dX0_held_23 (pk_mul _ _) ?_
    refine r_iconst G 24 (nI 1) dX0_held_24 (by decide) ?_
    refine r_iadd G 25 dX0_held_25 (nI_add _ _) ?_
    refine r_ald G 26 8 rfl dX0_held_26 rfl (by omega) ?_
    refine r_if_lt G 27 36 dX0_held_27 (by decide) (fun h_27 => ?_) (fun h_27 => ?_)
    · refine r_iload_n G 36 dX0_held_36 rfl ?_
      exact hR 37 _ _ _ dX0_held_37 (⟨rfl, by rw [hl1_1 h_8, hl1_0 h_27]⟩)
    · refine r_iload_n G 30 dX0_held_30 rfl ?_
      refine r_iconst G 31 (nI 1) dX0_held_31 (by decide) ?_
      refine r_iadd G 32 dX0_held_32 (nI_add _ _) ?_
      refine r_goto G 33 37 dX0_held_33 (by decide) ?_
      exact hR 37 _ _ _ dX0_held_37 (⟨rfl, by rw [hl1_1 h_8, hl1_1 h_27]⟩)
theorem met_held (l : Launch) (dC : Nat → ClassId) (dI : Nat → Nat → Nat) (ad : Nat → Nat) (d : ClassId) (f : Nat) : xMetI l dC dI ad d yX0_held cX0_held 3 (some .int) rmz 2 1 (Pr_held f) (Po_held f) :=
  xMetI_of RX0 rfl (by decide) (by decide) (fun K G xs σ _ hp hR => by
    obtain ⟨hp, h1⟩ := hp
    subst hp; exact wk_held G h1 hR)
end
section
/-! pack -/
def rpG (σ : Sg) (f i m bb : Nat) : Prop := m = 0 ∨ (1 ≤ bb ∧ bb ≤ i ∧ i + m ≤ 16 ∧ ∀ k, k < m → σ 3 (f * 16 + (i + k)) = σ 3 (f * 16 + (i + k) - bb))
def pkJ (σ0 σ : Sg) (f i z : Nat) (an : Int32) : Prop := (∀ a, a ≠ 12 → a ≠ 13 → σ a = σ0 a) ∧ σ 13 0 = nI z ∧
  ((an = -1 ∧ z ≤ i ∧ ∃ n, pth n (σ 12) (fun t => σ0 3 (f * 16 + t)) 0 0 z i) ∨
   (∃ a i0 c n, an = nI a ∧ i = i0 + 1 + c ∧ z = a + 2 + c ∧ z ≤ i + 1 ∧ σ 12 a = nI c ∧ (∀ k, k ≤ c → σ 12 (a + 1 + k) = σ0 3 (f * 16 + (i0 + k))) ∧ pth n (σ 12) (fun t => σ0 3 (f * 16 + t)) 0 0 a i0))
theorem pkJ_path {σ0 σ : Sg} {f i z : Nat} {an : Int32} (h : pkJ σ0 σ f i z an) (hi : i ≤ 16) : z ≤ i + 1 ∧ ∃ n, pth n (σ 12) (fun t => σ0 3 (f * 16 + t)) 0 0 z i := by
  rcases h.2.2 with ⟨h1, h2, n, h3⟩ | ⟨a, i0, c, n, h1, h2, h3, h4, h5, h6, h7⟩
  · exact ⟨by omega, n, h3⟩
  · exact ⟨h4, n + 1, pth_snoc h7 (Or.inl ⟨c, by omega, h5, h3, h2, h6⟩)⟩
theorem pkJ_rep {σ0 σ : Sg} {f i z m bb : Nat} {an v : Int32} (h : pkJ σ0 σ f i z an) (hi : i ≤ 16) (hm : 2 ≤ m) (hg : rpG σ f i m bb) (hv : v = nI (16 + (m - 2) * 15 + bb - 1)) : i + m ≤ 16 ∧ pkJ σ0 (sw_up (sw_up σ 12 z v) 13 0 (nI (z + 1))) f (i + m) (z + 1) (-1) := by
  rcases hg with hg | ⟨g1, g2, g3, g4⟩
  · omega
  obtain ⟨hz, n, hp⟩ := pkJ_path h hi
  have e3 : σ 3 = σ0 3 := h.1 3 (by decide) (by decide)
  refine ⟨g3, fun a h1 h2 => (sw_up_n h2).trans ((sw_up_n h1).trans (h.1 a h1 h2)), sw_up_s _ _ _ _, Or.inl ⟨rfl, by omega, n + 1, ?_⟩⟩
  show pth (n + 1) (upd (σ 12) z v) _ 0 0 (z + 1) (i + m)
  refine pth_snoc (pth_cong hp (fun j _ hj => upd_o (by omega)) (fun _ _ => rfl)) (Or.inr ⟨m, bb, hm, by omega, g1, by omega, g2, ?_, rfl, rfl, fun k hk => ?_⟩)
  · rw [upd_s, hv]
    exact congrArg nI (by omega)
  · have e := g4 k hk
    rw [e3] at e
    rw [show f * 16 + (i + k) - bb = f * 16 + (i + k - bb) by omega] at e
    exact e
theorem pkJ_new {σ0 σ σ' : Sg} {f i z n : Nat} (hp : pth n (σ 12) (fun t => σ0 3 (f * 16 + t)) 0 0 z i) (hz : z ≤ i) (hs : ∀ a, a ≠ 12 → a ≠ 13 → σ' a = σ0 a) (h13 : σ' 13 0 = nI (z + 2)) (hlo : ∀ j, j < z → σ' 12 j = σ 12 j) (h0 : σ' 12 z = nI 0) (h1 : σ' 12 (z + 1) = σ0 3 (f * 16 + i)) : pkJ σ0 σ' f (i + 1) (z + 2) (nI z) := by
  refine ⟨hs, h13, Or.inr ⟨z, i, 0, n, rfl, by omega, by omega, by omega, h0, fun k hk => ?_, pth_cong hp (fun j _ hj => hlo j hj) (fun _ _ => rfl)⟩⟩
  have hk0 : k = 0 := by omega
  subst hk0
  exact h1
theorem pkJ_more {σ0 σ σ' : Sg} {f i z n a i0 c : Nat} (hi : i = i0 + 1 + c) (hz : z = a + 2 + c) (hzi : z ≤ i + 1) (hb : ∀ k, k ≤ c → σ 12 (a + 1 + k) = σ0 3 (f * 16 + (i0 + k))) (hp : pth n (σ 12) (fun t => σ0 3 (f * 16 + t)) 0 0 a i0) (hs : ∀ a, a ≠ 12 → a ≠ 13 → σ' a = σ0 a) (h13 : σ' 13 0 = nI (z + 1)) (hlo : ∀ j, j < z → j ≠ a → σ' 12 j = σ 12 j) (h0 : σ' 12 a = nI (c + 1)) (h1 : σ' 12 z = σ0 3 (f * 16 + i)) : pkJ σ0 σ' f (i + 1) (z + 1) (nI a) := by
  refine ⟨hs, h13, Or.inr ⟨a, i0, c + 1, n, rfl, by omega, by omega, by omega, h0, fun k hk => ?_, pth_cong hp (fun j _ hj => hlo j (by omega) (by omega)) (fun _ _ => rfl)⟩⟩
  by_cases e : k = c + 1
  · subst e
    rw [show a + 1 + (c + 1) = z by omega, show i0 + (c + 1) = i by omega]
    exact h1
  · rw [hlo _ (by omega) (by omega)]
    exact hb k (by omega)
def Pr_pack (f : Nat) : List Int32 → Sg → Prop := fun xs _ => xs = [nI f] ∧ f < 3
def Po_pack (f : Nat) : List Int32 → Sg → Sg → Prop := fun _ σ σ' => (∀ a, a ≠ 12 → a ≠ 13 → σ' a = σ a) ∧ ∃ z n, σ' 13 0 = nI z ∧ z ≤ 17 ∧ pth n (σ' 12) (fun t => σ 3 (f * 16 + t)) 0 0 z 16
theorem pkJ_end {σ0 σ : Sg} {f i z : Nat} {an : Int32} (h : pkJ σ0 σ f i z an) (hi : i = 16) : Po_pack f [] σ0 σ := by
  subst hi
  obtain ⟨hz, n, hp⟩ := pkJ_path h (Nat.le_refl _)
  exact ⟨h.1, z, n, h.2.1, by omega, hp⟩
section PACK
variable {l : Launch} {R : Room} {dC : Nat → ClassId} {dI : Nat → Nat → Nat} {ad : Nat → Nat} {d : ClassId} {K : xK}
theorem lpB_pack (G : xGood l R dC dI ad d RX0 cX0_pack 10 K) (hRA : ∀ f i b, xCallI cX0_pack K 56 2 3 (Pr_repeatAt f i b) (Po_repeatAt f i b)) {f i rd : Nat} {an : Int32} {σ : Sg} (hf : f < 3) (hi : i < 16)
    (hcont : ∀ m bb, rpG σ f i m bb → m ≤ 16 → K 80 [(0, .inr 2), (1, .inl (nI f)), (2, .inl (nI (f * 16))), (3, .inl an), (4, .inl (nI i)), (5, .inl (nI rd)), (6, .inl (nI m)), (7, .inl (nI bb))] [] σ) :
    ∀ t k m bb, 1 ≤ k → k ≤ i + 1 → i + 2 ≤ t + k → rpG σ f i m bb → m ≤ 16 → K 41 [(0, .inr 2), (1, .inl (nI f)), (2, .inl (nI (f * 16))), (3, .inl an), (4, .inl (nI i)), (5, .inl (nI rd)), (6, .inl (nI m)), (7, .inl (nI bb)), (8, .inl (nI k))] [] σ := by
  intro t
  induction t with
  | zero => intro k m bb h1 h2 h3; omega
  | succ t ih =>
    intro k m bb h1 h2 h3 hg hm
    refine r_iload G 41 dX0_pack_41 rfl ?_
    refine r_iload G 43 dX0_pack_43 rfl ?_
    refine b_gt G 45 80 dX0_pack_45 (by decide) (by omega) (by omega) (fun h_45 => ?_) (fun h_45 => ?_)
    · exact r_pick G [0, 1, 2, 3, 4, 5, 6, 7] (hcont m bb hg hm)
    · refine r_aload G 48 dX0_pack_48 rfl ?_
      refine r_iload_n G 49 dX0_pack_49 rfl ?_
      refine r_iload G 50 dX0_pack_50 rfl ?_
      refine r_iload G 52 dX0_pack_52 rfl ?_
      refine c_I3 (hRA f i k) 54 dX0_pack_54 (Nat.le_of_ble_eq_true rfl) ⟨rfl, hf, h1, h_45, hi⟩ (fun r_54 σ_54 h_54 => ?_)
      obtain ⟨hs54, n, hr54, hn1, hn2⟩ := h_54
      rw [hs54, hr54]
      refine r_istore G 57 dX0_pack_57 (Nat.le_of_ble_eq_true rfl) ?_
      refine r_iload G 59 dX0_pack_59 rfl ?_
      refine r_iload G 61 dX0_pack_61 rfl ?_
      refine b_le G 63 74 dX0_pack_63 (by decide) (by omega) (by omega) (fun h_63 => ?_) (fun h_63 => ?_)
      · refine r_iinc G 74 dX0_pack_74 rfl (c_inc _) (Nat.le_of_ble_eq_true rfl) ?_
        refine r_goto G 77 41 dX0_pack_77 (by decide) ?_
        exact r_pick G [0, 1, 2, 3, 4, 5, 6, 7, 8] (ih (k + 1) m bb (by omega) (by omega) (by omega) hg hm)
      · refine r_iload G 66 dX0_pack_66 rfl ?_
        refine r_istore G 68 dX0_pack_68 (Nat.le_of_ble_eq_true rfl) ?_
        refine r_iload G 70 dX0_pack_70 rfl ?_
        refine r_istore G 72 dX0_pack_72 (Nat.le_of_ble_eq_true rfl) ?_
        refine r_iinc G 74 dX0_pack_74 rfl (c_inc _) (Nat.le_of_ble_eq_true rfl) ?_
        refine r_goto G 77 41 dX0_pack_77 (by decide) ?_
        exact r_pick G [0, 1, 2, 3, 4, 5, 6, 7, 8] (ih (k + 1) n k (by omega) (by omega) (by omega) (Or.inr ⟨h1, h_45, hn1, hn2⟩) (by omega))
theorem lpC_pack (G : xGood l R dC dI ad d RX0 cX0_pack 10 K) (hAp : ∀ v z, xCallV cX0_pack K 60 2 1 (Pr_append v z) (Po_append v z)) {f i rd z m bb : Nat} {an : Int32} {σ0 σ : Sg} (hf : f < 3) (hi : i < 16) (hg : rpG σ f i m bb) (hm : m ≤ 16) (hJ : pkJ σ0 σ f i z an)
    (hnext : ∀ i' z' an' σ', i + 1 ≤ i' → i' ≤ 16 → pkJ σ0 σ' f i' z' an' → K 18 [(0, .inr 2), (1, .inl (nI f)), (2, .inl (nI (f * 16))), (3, .inl an'), (4, .inl (nI i')), (5, .inl (nI (rd + 1)))] [] σ') :
    K 80 [(0, .inr 2), (1, .inl (nI f)), (2, .inl (nI (f * 16))), (3, .inl an), (4, .inl (nI i)), (5, .inl (nI rd)), (6, .inl (nI m)), (7, .inl (nI bb))] [] σ := by
  have hz := hJ.2.1
  have hzi := (pkJ_path hJ (by omega)).1
  have e3 : σ 3 = σ0 3 := hJ.1 3 (by decide) (by decide)
  refine r_iload G 80 dX0_pack_80 rfl ?_
  refine r_iconst G 82 (nI 2) dX0_pack_82 (by decide) ?_
  refine b_lt G 83 117 dX0_pack_83 (by decide) (by omega) (by omega) (fun h_83 => ?_) (fun h_83 => ?_)
  · refine r_iload_n G 117 dX0_pack_117 rfl ?_
    refine r_if_ge G 118 131 dX0_pack_118 (by decide) (fun h_118 => ?_) (fun h_118 => ?_)
    · obtain ⟨a, i0, c, n, ha, hi0, hza, hzb, hc, hb, hp⟩ : ∃ a i0 c n, an = nI a ∧ i = i0 + 1 + c ∧ z = a + 2 + c ∧ z ≤ i + 1 ∧ σ 12 a = nI c ∧ (∀ k, k ≤ c → σ 12 (a + 1 + k) = σ0 3 (f * 16 + (i0 + k))) ∧ pth n (σ 12) (fun t => σ0 3 (f * 16 + t)) 0 0 a i0 := by
        rcases hJ.2.2 with ⟨h1, h2⟩ | h1
        · rw [h1] at h_118; exact absurd h_118 m1_nge
        · exact h1
      subst ha
      refine r_aload G 131 dX0_pack_131 rfl ?_
      refine r_f12 G 132 dX0_pack_132 ?_
      refine r_iload_n G 135 dX0_pack_135 rfl ?_
      refine r_aload G 136 dX0_pack_136 rfl ?_
      refine r_f12 G 137 dX0_pack_137 ?_
      refine r_iload_n G 140 dX0_pack_140 rfl ?_
      refine r_ald G 141 24 rfl dX0_pack_141 rfl (by omega) ?_
      rw [hc]
      refine r_iconst G 142 (nI 1) dX0_pack_142 (by decide) ?_
      refine r_iadd G 143 dX0_pack_143 (nI_add _ _) ?_
      refine r_ast G 144 24 rfl dX0_pack_144 rfl (by omega) ?_
      refine r_aload G 145 dX0_pack_145 rfl ?_
      refine r_aload G 146 dX0_pack_146 rfl ?_
      refine r_f3 G 147 dX0_pack_147 ?_
      refine r_iload_n G 150 dX0_pack_150 rfl ?_
      refine r_iload G 151 dX0_pack_151 rfl ?_
      refine r_iadd G 153 dX0_pack_153 (nI_add _ _) ?_
      refine r_ald G 154 48 rfl dX0_pack_154 rfl (by omega) ?_
      refine c_V1 (hAp _ z) 155 dX0_pack_155 (Nat.le_of_ble_eq_true rfl) ⟨rfl, by omega, hz⟩ (fun σ_155 h_155 => ?_)
      have h_155 : σ_155 = _ := h_155
      subst h_155
      refine r_iinc G 158 dX0_pack_158 rfl (c_inc _) (Nat.le_of_ble_eq_true rfl) ?_
      refine r_iinc G 161 dX0_pack_161 rfl (c_inc _) (Nat.le_of_ble_eq_true rfl) ?_
      refine r_goto G 164 18 dX0_pack_164 (by decide) ?_
      exact r_pick G [0, 1, 2, 3, 4, 5] (hnext (i + 1) (z + 1) (nI a) _ (by omega) (by omega) (pkJ_more hi0 hza hzb hb hp (fun a' h1 h2 => (sw_up_n h2).trans ((sw_up_n h1).trans ((sw_up_n h1).trans (hJ.1 a' h1 h2)))) (sw_up_s _ _ _ _) (fun j hj hja => (show upd (upd (σ 12) a (nI (c + 1))) z _ j = σ 12 j from by rw [upd_o (by omega), upd_o hja])) (show upd (upd (σ 12) a (nI (c + 1))) z _ a = nI (c + 1) from by rw [upd_o (by omega), upd_s]) (show upd (upd (σ 12) a (nI (c + 1))) z (σ 3 (f * 16 + i)) z = σ0 3 (f * 16 + i) from by rw [upd_s, e3])))
    · refine r_aload G 121 dX0_pack_121 rfl ?_
      refine r_f13 G 122 dX0_pack_122 ?_
      rw [hz]
      refine r_istore_n G 125 dX0_pack_125 (Nat.le_of_ble_eq_true rfl) ?_
      refine r_aload G 126 dX0_pack_126 rfl ?_
      refine r_iconst G 127 (-1) dX0_pack_127 (by decide) ?_
      refine c_V1 (hAp _ z) 128 dX0_pack_128 (Nat.le_of_ble_eq_true rfl) ⟨rfl, by omega, hz⟩ (fun σ_128 h_128 => ?_)
      have h_128 : σ_128 = _ := h_128
      subst h_128
      obtain ⟨hz0, n, hp⟩ : z ≤ i ∧ ∃ n, pth n (σ 12) (fun t => σ0 3 (f * 16 + t)) 0 0 z i := by
        rcases hJ.2.2 with ⟨h1, h2⟩ | ⟨a, i0, c, n, h1, h2⟩
        · exact h2
        · rw [h1] at h_118; exact absurd (nI_pos' (by omega)) h_118
      refine r_aload G 131 dX0_pack_131 rfl ?_
      refine r_f12 G 132 dX0_pack_132 ?_
      refine r_iload_n G 135 dX0_pack_135 rfl ?_
      refine r_aload G 136 dX0_pack_136 rfl ?_
      refine r_f12 G 137 dX0_pack_137 ?_
      refine r_iload_n G 140 dX0_pack_140 rfl ?_
      refine r_ald G 141 24 rfl dX0_pack_141 rfl (by omega) ?_
      rw [show sw_up (sw_up σ 12 z (-1)) 13 0 (nI (z + 1)) 12 z = -1 from sw_up_s σ 12 z (-1)]
      refine r_iconst G 142 (nI 1) dX0_pack_142 (by decide) ?_
      refine r_iadd G 143 dX0_pack_143 (show (-1 : Int32) + nI 1 = nI 0 from by decide) ?_
      refine r_ast G 144 24 rfl dX0_pack_144 rfl (by omega) ?_
      refine r_aload G 145 dX0_pack_145 rfl ?_
      refine r_aload G 146 dX0_pack_146 rfl ?_
      refine r_f3 G 147 dX0_pack_147 ?_
      refine r_iload_n G 150 dX0_pack_150 rfl ?_
      refine r_iload G 151 dX0_pack_151 rfl ?_
      refine r_iadd G 153 dX0_pack_153 (nI_add _ _) ?_
      refine r_ald G 154 48 rfl dX0_pack_154 rfl (by omega) ?_
      refine c_V1 (hAp _ (z + 1)) 155 dX0_pack_155 (Nat.le_of_ble_eq_true rfl) ⟨rfl, by omega, rfl⟩ (fun σ_155 h_155 => ?_)
      have h_155 : σ_155 = _ := h_155
      subst h_155
      refine r_iinc G 158 dX0_pack_158 rfl (c_inc _) (Nat.le_of_ble_eq_true rfl) ?_
      refine r_iinc G 161 dX0_pack_161 rfl (c_inc _) (Nat.le_of_ble_eq_true rfl) ?_
      refine r_goto G 164 18 dX0_pack_164 (by decide) ?_
      exact r_pick G [0, 1, 2, 3, 4, 5] (hnext (i + 1) (z + 2) (nI z) _ (by omega) (by omega) (pkJ_new hp hz0 (fun a' h1 h2 => (sw_up_n h2).trans ((sw_up_n h1).trans ((sw_up_n h1).trans ((sw_up_n h2).trans ((sw_up_n h1).trans (hJ.1 a' h1 h2)))))) (sw_up_s _ _ _ _) (fun j hj => (show upd (upd (upd (σ 12) z (-1)) z (nI 0)) (z + 1) _ j = σ 12 j from by rw [upd_o (by omega), upd_o (by omega), upd_o (by omega)])) (show upd (upd (upd (σ 12) z (-1)) z (nI 0)) (z + 1) _ z = nI 0 from by rw [upd_o (by omega), upd_s]) (show upd (upd (upd (σ 12) z (-1)) z (nI 0)) (z + 1) (σ 3 (f * 16 + i)) (z + 1) = σ0 3 (f * 16 + i) from by rw [upd_s, e3])))
  · refine r_aload G 86 dX0_pack_86 rfl ?_
    refine r_bipush G 87 (nI 16) dX0_pack_87 (by decide) ?_
    refine r_iload G 89 dX0_pack_89 rfl ?_
    refine r_iconst G 91 (nI 2) dX0_pack_91 (by decide) ?_
    refine r_isub G 92 dX0_pack_92 (pk_sub (by omega)) ?_
    refine r_bipush G 93 (nI 15) dX0_pack_93 (by decide) ?_
    refine r_imul G 95 dX0_pack_95 (pk_mul _ _) ?_
    refine r_iadd G 96 dX0_pack_96 (nI_add _ _) ?_
    refine r_iload G 97 dX0_pack_97 rfl ?_
    refine r_iadd G 99 dX0_pack_99 (nI_add _ _) ?_
    refine r_iconst G 100 (nI 1) dX0_pack_100 (by decide) ?_
    refine r_isub G 101 dX0_pack_101 (pk_sub (by omega)) ?_
    refine c_V1 (hAp _ z) 102 dX0_pack_102 (Nat.le_of_ble_eq_true rfl) ⟨rfl, by omega, hz⟩ (fun σ_102 h_102 => ?_)
    have h_102 : σ_102 = _ := h_102
    subst h_102
    have hrep := pkJ_rep hJ (by omega) h_83 hg rfl
    refine r_iconst G 105 (-1) dX0_pack_105 (by decide) ?_
    refine r_istore_n G 106 dX0_pack_106 (Nat.le_of_ble_eq_true rfl) ?_
    refine r_iload G 107 dX0_pack_107 rfl ?_
    refine r_iload G 109 dX0_pack_109 rfl ?_
    refine r_iadd G 111 dX0_pack_111 (nI_add _ _) ?_
    refine r_istore G 112 dX0_pack_112 (Nat.le_of_ble_eq_true rfl) ?_
    refine r_goto G 114 161 dX0_pack_114 (by decide) ?_
    refine r_iinc G 161 dX0_pack_161 rfl (c_inc _) (Nat.le_of_ble_eq_true rfl) ?_
    refine r_goto G 164 18 dX0_pack_164 (by decide) ?_
    exact r_pick G [0, 1, 2, 3, 4, 5] (hnext (i + m) (z + 1) (-1) _ (by omega) hrep.1 hrep.2)
theorem lpA_pack (G : xGood l R dC dI ad d RX0 cX0_pack 10 K) (hRA : ∀ f i b, xCallI cX0_pack K 56 2 3 (Pr_repeatAt f i b) (Po_repeatAt f i b)) (hAp : ∀ v z, xCallV cX0_pack K 60 2 1 (Pr_append v z) (Po_append v z)) {f : Nat} {σ0 : Sg} (hf : f < 3) (hR : xRetV cX0_pack K (Po_pack f [] σ0)) :
    ∀ t rd i z an σ, rd ≤ i → i ≤ 16 → 17 ≤ t + rd → pkJ σ0 σ f i z an → K 18 [(0, .inr 2), (1, .inl (nI f)), (2, .inl (nI (f * 16))), (3, .inl an), (4, .inl (nI i)), (5, .inl (nI rd))] [] σ := by
  intro t
  induction t with
  | zero => intro rd i z an σ h1 h2 h3; omega
  | succ t ih =>
    intro rd i z an σ h1 h2 h3 hJ
    refine r_iload G 18 dX0_pack_18 rfl ?_
    refine r_bipush G 20 (nI 16) dX0_pack_20 (by decide) ?_
    refine b_ge G 22 167 dX0_pack_22 (by decide) (by omega) (by omega) (fun h_22 => ?_) (fun h_22 => ?_)
    · exact hR 167 _ _ dX0_pack_167 (pkJ_end hJ (by omega))
    · refine r_iload G 25 dX0_pack_25 rfl ?_
      refine r_bipush G 27 (nI 16) dX0_pack_27 (by decide) ?_
      refine b_ge G 29 167 dX0_pack_29 (by decide) (by omega) (by omega) (fun h_29 => ?_) (fun h_29 => ?_)
      · exact hR 167 _ _ dX0_pack_167 (pkJ_end hJ (by omega))
      · refine r_iconst G 32 (nI 0) dX0_pack_32 (by decide) ?_
        refine r_istore G 33 dX0_pack_33 (Nat.le_of_ble_eq_true rfl) ?_
        refine r_iconst G 35 (nI 0) dX0_pack_35 (by decide) ?_
        refine r_istore G 36 dX0_pack_36 (Nat.le_of_ble_eq_true rfl) ?_
        refine r_iconst G 38 (nI 1) dX0_pack_38 (by decide) ?_
        refine r_istore G 39 dX0_pack_39 (Nat.le_of_ble_eq_true rfl) ?_
        exact r_pick G [0, 1, 2, 3, 4, 5, 6, 7, 8] (lpB_pack G hRA hf h_29 (fun m bb hg hm => lpC_pack G hAp hf h_29 hg hm hJ (fun i' z' an' σ' q1 q2 q3 => ih (rd + 1) i' z' an' σ' (by omega) q2 (by omega) q3)) (i + 2) 1 0 0 (by omega) (by omega) (by omega) (Or.inl rfl) (by omega))
theorem wk_pack (G : xGood l R dC dI ad d RX0 cX0_pack 10 K) (hRA : ∀ f i b, xCallI cX0_pack K 56 2 3 (Pr_repeatAt f i b) (Po_repeatAt f i b)) (hAp : ∀ v z, xCallV cX0_pack K 60 2 1 (Pr_append v z) (Po_append v z)) {f : Nat} {σ : Sg} (hf : f < 3) (hR : xRetV cX0_pack K (Po_pack f [] σ)) : K 0 [(0, .inr 2), (1, .inl (nI f))] [] σ := by
  refine r_iload_n G 0 dX0_pack_0 rfl ?_
  refine r_bipush G 1 (nI 16) dX0_pack_1 (by decide) ?_
  refine r_imul G 3 dX0_pack_3 (pk_mul _ _) ?_
  refine r_istore_n G 4 dX0_pack_4 (Nat.le_of_ble_eq_true rfl) ?_
  refine r_aload G 5 dX0_pack_5 rfl ?_
  refine r_iconst G 6 (nI 0) dX0_pack_6 (by decide) ?_
  refine r_p13 G 7 dX0_pack_7 ?_
  refine r_iconst G 10 (-1) dX0_pack_10 (by decide) ?_
  refine r_istore_n G 11 dX0_pack_11 (Nat.le_of_ble_eq_true rfl) ?_
  refine r_iconst G 12 (nI 0) dX0_pack_12 (by decide) ?_
  refine r_istore G 13 dX0_pack_13 (Nat.le_of_ble_eq_true rfl) ?_
  refine r_iconst G 15 (nI 0) dX0_pack_15 (by decide) ?_
  refine r_istore G 16 dX0_pack_16 (Nat.le_of_ble_eq_true rfl) ?_
  exact r_pick G [0, 1, 2, 3, 4, 5] (lpA_pack G hRA hAp hf hR 17 0 0 0 (-1) _ (by omega) (by omega) (by omega) ⟨fun a h1 h2 => sw_up_n h2, sw_up_s _ _ _ _, Or.inl ⟨rfl, by omega, 0, rfl, rfl⟩⟩)
end PACK
abbrev rm_pack : Room := { frames := 1, cells := 0, slots := 0, locals := 25 }
theorem met_pack (l : Launch) (dC : Nat → ClassId) (dI : Nat → Nat → Nat) (ad : Nat → Nat) (d : ClassId) (f : Nat) : xMetV l dC dI ad d yX0_pack cX0_pack 10 rm_pack 2 1 (Pr_pack f) (Po_pack f) :=
  xMetV_of RX0 rfl (by decide) (by decide) (fun K G xs σ _ hp hR => by
    obtain ⟨hp, h1⟩ := hp
    subst hp
    exact wk_pack G (fun f i b => (x_callI G (met_repeatAt l dC dI ad d f i b) (lw_V q125 q127 qs8 q29 q128) xRec2 (by decide +kernel) rfl rfl ⟨Nat.le_of_ble_eq_true rfl, Nat.le_of_ble_eq_true rfl⟩)) (fun v z => (x_callV G (met_append l dC dI ad d v z) (lw_V q129 q131 qs9 q29 q132) xRec2 (by decide +kernel) rfl rfl ⟨Nat.le_of_ble_eq_true rfl, Nat.le_of_ble_eq_true rfl⟩)) h1 hR)
end
section
/-! unpack -/
def Pr_unpack (e z n : Nat) (X : Nat → Int32) : List Int32 → Sg → Prop := fun xs σ => xs = [nI e] ∧ e < 8 ∧ z < 16 ∧ σ 8 e = nI z ∧ pth n (fun t => σ 6 (bs e z + t)) X 0 0 z 16
def Po_unpack (X : Nat → Int32) : List Int32 → Sg → Sg → Prop := fun _ σ σ' => (∀ k, k < 16 → σ' 14 k = X k) ∧ ∀ a, a ≠ 14 → σ' a = σ a
theorem bs_le {e z : Nat} (he : e < 8) (hz : z ≤ 16) : bs e z + z ≤ 64 := by
  unfold bs
  split <;> omega
section UNPACK
variable {l : Launch} {R : Room} {dC : Nat → ClassId} {dI : Nat → Nat → Nat} {ad : Nat → Nat} {d : ClassId} {K : xK}
theorem lpL_unpack (G : xGood l R dC dI ad d RX0 cX0_unpack 9 K) {e z a i c rd : Nat} {X : Nat → Int32} {σ0 : Sg} (he : e < 8) (hz : z < 16) (hc : c < 16) (ha : a + 2 + c ≤ z) (hi : i + 1 + c ≤ 16) (hb : ∀ k, k ≤ c → σ0 6 (bs e z + (a + 1 + k)) = X (i + k))
    (hcont : ∀ σ', (∀ k, k < i + 1 + c → σ' 14 k = X k) → (∀ q, q ≠ 14 → σ' q = σ0 q) → K 142 [(0, .inr 2), (1, .inl (nI e)), (2, .inl (nI (bs e z))), (3, .inl (nI (a + 2 + c))), (4, .inl (nI (i + 1 + c))), (5, .inl (nI rd))] [] σ') :
    ∀ t k σ, k ≤ c + 1 → c + 2 ≤ t + k → (∀ j, j < i + k → σ 14 j = X j) → (∀ q, q ≠ 14 → σ q = σ0 q) → K 57 [(0, .inr 2), (1, .inl (nI e)), (2, .inl (nI (bs e z))), (3, .inl (nI (a + 1 + k))), (4, .inl (nI (i + k))), (5, .inl (nI rd)), (6, .inl (nI c)), (7, .inl (nI k))] [] σ := by
  intro t
  induction t with
  | zero => intro k σ h1 h2; omega
  | succ t ih =>
    intro k σ h1 h2 hp ho
    have hbl := bs_le he (show z ≤ 16 by omega)
    refine r_iload G 57 dX0_unpack_57 rfl ?_
    refine r_iload G 59 dX0_unpack_59 rfl ?_
    refine b_gt G 61 98 dX0_unpack_61 (by decide) (by omega) (by omega) (fun h_61 => ?_) (fun h_61 => ?_)
    · refine r_goto G 98 142 dX0_unpack_98 (by decide) ?_
      have hk : k = c + 1 := by omega
      subst hk
      exact r_pick G [0, 1, 2, 3, 4, 5] (by have := hcont σ (fun k hk => hp k (by omega)) ho; rw [show a + 2 + c = a + 1 + (c + 1) by omega, show i + 1 + c = i + (c + 1) by omega] at this; exact this)
    · refine r_iload G 64 dX0_unpack_64 rfl ?_
      refine r_bipush G 66 (nI 16) dX0_unpack_66 (by decide) ?_
      refine b_ge G 68 98 dX0_unpack_68 (by decide) (by omega) (by omega) (fun h_68 => absurd h_68 (by omega)) (fun h_68 => ?_)
      refine r_aload G 71 dX0_unpack_71 rfl ?_
      refine r_f14 G 72 dX0_unpack_72 ?_
      refine r_iload G 75 dX0_unpack_75 rfl ?_
      refine r_aload G 77 dX0_unpack_77 rfl ?_
      refine r_f6 G 78 dX0_unpack_78 ?_
      refine r_iload_n G 81 dX0_unpack_81 rfl ?_
      refine r_iload_n G 82 dX0_unpack_82 rfl ?_
      refine r_iadd G 83 dX0_unpack_83 (nI_add _ _) ?_
      refine r_ald G 84 64 rfl dX0_unpack_84 rfl (by omega) ?_
      refine r_ast G 85 16 rfl dX0_unpack_85 rfl (by omega) ?_
      refine r_iinc G 86 dX0_unpack_86 rfl (c_inc _) (Nat.le_of_ble_eq_true rfl) ?_
      refine r_iinc G 89 dX0_unpack_89 rfl (c_inc _) (Nat.le_of_ble_eq_true rfl) ?_
      refine r_iinc G 92 dX0_unpack_92 rfl (c_inc _) (Nat.le_of_ble_eq_true rfl) ?_
      refine r_goto G 95 57 dX0_unpack_95 (by decide) ?_
      have hv : σ 6 (bs e z + (a + 1 + k)) = X (i + k) := by rw [ho 6 (by decide)]; exact hb k (by omega)
      rw [hv]
      exact r_pick G [0, 1, 2, 3, 4, 5, 6, 7] (ih (k + 1) _ (by omega) (by omega) (fun j hj => by by_cases e : j = i + k; rw [e]; exact sw_up_s _ _ _ _; rw [sw_up_o e]; exact hp j (by omega)) (fun q hq => (sw_up_n hq).trans (ho q hq)))
theorem lpA_unpack (G : xGood l R dC dI ad d RX0 cX0_unpack 9 K) (hRp : ∀ i n b X, xCallV cX0_unpack K 68 2 3 (Pr_repeat i n b X) (Po_repeat i n X)) {e z : Nat} {X : Nat → Int32} {σ0 : Sg} (he : e < 8) (hz : z < 16) (hR : xRetV cX0_unpack K (Po_unpack X [] σ0)) :
    ∀ m a i rd σ, pth m (fun t => σ0 6 (bs e z + t)) X a i z 16 → rd ≤ i → (∀ k, k < i → σ 14 k = X k) → (∀ q, q ≠ 14 → σ q = σ0 q) → K 14 [(0, .inr 2), (1, .inl (nI e)), (2, .inl (nI (bs e z))), (3, .inl (nI a)), (4, .inl (nI i)), (5, .inl (nI rd))] [] σ := by
  intro m
  induction m with
  | zero =>
    intro a i rd σ h1 h2 hp ho
    obtain ⟨h3, h4⟩ := h1
    subst h3; subst h4
    refine r_iload G 14 dX0_unpack_14 rfl ?_
    refine r_bipush G 16 (nI 16) dX0_unpack_16 (by decide) ?_
    refine b_ge G 18 148 dX0_unpack_18 (by decide) (by omega) (by omega) (fun h_18 => ?_) (fun h_18 => ?_)
    · exact hR 148 _ _ dX0_unpack_148 (⟨hp, ho⟩)
    · refine r_iload G 21 dX0_unpack_21 rfl ?_
      refine r_bipush G 23 (nI 16) dX0_unpack_23 (by decide) ?_
      refine b_ge G 25 148 dX0_unpack_25 (by decide) (by omega) (by omega) (fun h_25 => ?_) (fun h_25 => absurd h_25 (by omega))
      exact hR 148 _ _ dX0_unpack_148 (⟨hp, ho⟩)
  | succ m ih =>
    intro a i rd σ h1 h2 hp ho
    obtain ⟨a', i', ht, hrest⟩ := h1
    have hlt := tok_lt ht
    have hle := pth_le hrest
    have hbl := bs_le he (show z ≤ 16 by omega)
    have e6 : σ 6 = σ0 6 := ho 6 (by decide)
    have hfin : ∀ a2 i2 σ', pth m (fun t => σ0 6 (bs e z + t)) X a2 i2 z 16 → rd + 1 ≤ i2 → (∀ k, k < i2 → σ' 14 k = X k) → (∀ q, q ≠ 14 → σ' q = σ0 q) → K 142 [(0, .inr 2), (1, .inl (nI e)), (2, .inl (nI (bs e z))), (3, .inl (nI a2)), (4, .inl (nI i2)), (5, .inl (nI rd))] [] σ' := by
      intro a2 i2 σ' k1 k2 k3 k4
      refine r_iinc G 142 dX0_unpack_142 rfl (c_inc _) (Nat.le_of_ble_eq_true rfl) ?_
      refine r_goto G 145 14 dX0_unpack_145 (by decide) ?_
      exact r_pick G [0, 1, 2, 3, 4, 5] (ih a2 i2 (rd + 1) σ' k1 k2 k3 k4)
    rcases ht with ⟨c, h3, h4, h5, h6, h7⟩ | ⟨n, b, g1, g2, g3, g4, g5, g6, g7, g8, g9⟩
    · have h4 : σ0 6 (bs e z + a) = nI c := h4
      subst h5; subst h6
      refine r_iload G 14 dX0_unpack_14 rfl ?_
      refine r_bipush G 16 (nI 16) dX0_unpack_16 (by decide) ?_
      refine b_ge G 18 148 dX0_unpack_18 (by decide) (by omega) (by omega) (fun h_18 => absurd h_18 (by omega)) (fun h_18 => ?_)
      refine r_iload G 21 dX0_unpack_21 rfl ?_
      refine r_bipush G 23 (nI 16) dX0_unpack_23 (by decide) ?_
      refine b_ge G 25 148 dX0_unpack_25 (by decide) (by omega) (by omega) (fun h_25 => absurd h_25 (by omega)) (fun h_25 => ?_)
      refine r_iload_n G 28 dX0_unpack_28 rfl ?_
      refine r_bipush G 29 (nI 16) dX0_unpack_29 (by decide) ?_
      refine b_ge G 31 148 dX0_unpack_31 (by decide) (by omega) (by omega) (fun h_31 => absurd h_31 (by omega)) (fun h_31 => ?_)
      refine r_aload G 34 dX0_unpack_34 rfl ?_
      refine r_f6 G 35 dX0_unpack_35 ?_
      refine r_iload_n G 38 dX0_unpack_38 rfl ?_
      refine r_iload_n G 39 dX0_unpack_39 rfl ?_
      refine r_iadd G 40 dX0_unpack_40 (nI_add _ _) ?_
      refine r_ald G 41 64 rfl dX0_unpack_41 rfl (by omega) ?_
      rw [e6, h4]
      refine r_istore G 42 dX0_unpack_42 (Nat.le_of_ble_eq_true rfl) ?_
      refine r_iinc G 44 dX0_unpack_44 rfl (c_inc _) (Nat.le_of_ble_eq_true rfl) ?_
      refine r_iload G 47 dX0_unpack_47 rfl ?_
      refine r_bipush G 49 (nI 16) dX0_unpack_49 (by decide) ?_
      refine b_ge G 51 101 dX0_unpack_51 (by decide) (by omega) (by omega) (fun h_51 => absurd h_51 (by omega)) (fun h_51 => ?_)
      refine r_iconst G 54 (nI 0) dX0_unpack_54 (by decide) ?_
      refine r_istore G 55 dX0_unpack_55 (Nat.le_of_ble_eq_true rfl) ?_
      exact r_pick G [0, 1, 2, 3, 4, 5, 6, 7] (lpL_unpack G he hz h3 (by omega) (by omega) h7 (fun σ' q1 q2 => hfin _ _ σ' hrest (by omega) q1 q2) (c + 2) 0 σ (by omega) (by omega) hp ho)
    · have g6 : σ0 6 (bs e z + a) = nI (16 + (n - 2) * 15 + (b - 1)) := g6
      subst g7; subst g8
      refine r_iload G 14 dX0_unpack_14 rfl ?_
      refine r_bipush G 16 (nI 16) dX0_unpack_16 (by decide) ?_
      refine b_ge G 18 148 dX0_unpack_18 (by decide) (by omega) (by omega) (fun h_18 => absurd h_18 (by omega)) (fun h_18 => ?_)
      refine r_iload G 21 dX0_unpack_21 rfl ?_
      refine r_bipush G 23 (nI 16) dX0_unpack_23 (by decide) ?_
      refine b_ge G 25 148 dX0_unpack_25 (by decide) (by omega) (by omega) (fun h_25 => absurd h_25 (by omega)) (fun h_25 => ?_)
      refine r_iload_n G 28 dX0_unpack_28 rfl ?_
      refine r_bipush G 29 (nI 16) dX0_unpack_29 (by decide) ?_
      refine b_ge G 31 148 dX0_unpack_31 (by decide) (by omega) (by omega) (fun h_31 => absurd h_31 (by omega)) (fun h_31 => ?_)
      refine r_aload G 34 dX0_unpack_34 rfl ?_
      refine r_f6 G 35 dX0_unpack_35 ?_
      refine r_iload_n G 38 dX0_unpack_38 rfl ?_
      refine r_iload_n G 39 dX0_unpack_39 rfl ?_
      refine r_iadd G 40 dX0_unpack_40 (nI_add _ _) ?_
      refine r_ald G 41 64 rfl dX0_unpack_41 rfl (by omega) ?_
      rw [e6, g6]
      refine r_istore G 42 dX0_unpack_42 (Nat.le_of_ble_eq_true rfl) ?_
      refine r_iinc G 44 dX0_unpack_44 rfl (c_inc _) (Nat.le_of_ble_eq_true rfl) ?_
      refine r_iload G 47 dX0_unpack_47 rfl ?_
      refine r_bipush G 49 (nI 16) dX0_unpack_49 (by decide) ?_
      refine b_ge G 51 101 dX0_unpack_51 (by decide) (by omega) (by omega) (fun h_51 => ?_) (fun h_51 => absurd h_51 (by omega))
      refine r_iload G 101 dX0_unpack_101 rfl ?_
      refine r_bipush G 103 (nI 16) dX0_unpack_103 (by decide) ?_
      refine r_isub G 105 dX0_unpack_105 (pk_sub (by omega)) ?_
      refine r_bipush G 106 (nI 15) dX0_unpack_106 (by decide) ?_
      refine r_idiv G 108 dX0_unpack_108 (by decide) (pk_div (by omega) (by omega) (by omega)) ?_
      refine r_iconst G 109 (nI 2) dX0_unpack_109 (by decide) ?_
      refine r_iadd G 110 dX0_unpack_110 ((nI_add _ _).trans (congrArg nI (show _ = n by omega))) ?_
      refine r_istore G 111 dX0_unpack_111 (Nat.le_of_ble_eq_true rfl) ?_
      refine r_iload G 113 dX0_unpack_113 rfl ?_
      refine r_bipush G 115 (nI 16) dX0_unpack_115 (by decide) ?_
      refine r_isub G 117 dX0_unpack_117 (pk_sub (by omega)) ?_
      refine r_bipush G 118 (nI 15) dX0_unpack_118 (by decide) ?_
      refine r_irem G 120 dX0_unpack_120 (by decide) (pk_rem (by omega) (by omega) (by omega)) ?_
      refine r_iconst G 121 (nI 1) dX0_unpack_121 (by decide) ?_
      refine r_iadd G 122 dX0_unpack_122 ((nI_add _ _).trans (congrArg nI (show _ = b by omega))) ?_
      refine r_istore G 123 dX0_unpack_123 (Nat.le_of_ble_eq_true rfl) ?_
      refine r_aload G 125 dX0_unpack_125 rfl ?_
      refine r_iload G 126 dX0_unpack_126 rfl ?_
      refine r_iload G 128 dX0_unpack_128 rfl ?_
      refine r_iload G 130 dX0_unpack_130 rfl ?_
      refine c_V3 (hRp i n b X) 132 dX0_unpack_132 (Nat.le_of_ble_eq_true rfl) ⟨rfl, by omega, g3, g5, hp, g9⟩ (fun σ_132 h_132 => ?_)
      obtain ⟨hq1, hq2⟩ := h_132
      refine r_iload G 135 dX0_unpack_135 rfl ?_
      refine r_iload G 137 dX0_unpack_137 rfl ?_
      refine r_iadd G 139 dX0_unpack_139 (nI_add _ _) ?_
      refine r_istore G 140 dX0_unpack_140 (Nat.le_of_ble_eq_true rfl) ?_
      exact r_pick G [0, 1, 2, 3, 4, 5] (hfin _ _ _ hrest (by omega) hq1 (fun q hq => (hq2 q hq).trans (ho q hq)))
theorem wk_unpack (G : xGood l R dC dI ad d RX0 cX0_unpack 9 K) (hRp : ∀ i n b X, xCallV cX0_unpack K 68 2 3 (Pr_repeat i n b X) (Po_repeat i n X)) (hBs : ∀ e z, xCallI cX0_unpack K 64 2 1 (Pr_baseOf e z) (Po_baseOf e z)) {e z n : Nat} {X : Nat → Int32} {σ : Sg} (he : e < 8) (hz : z < 16) (h8 : σ 8 e = nI z) (hp : pth n (fun t => σ 6 (bs e z + t)) X 0 0 z 16) (hR : xRetV cX0_unpack K (Po_unpack X [] σ)) : K 0 [(0, .inr 2), (1, .inl (nI e))] [] σ := by
  refine r_aload G 0 dX0_unpack_0 rfl ?_
  refine r_iload_n G 1 dX0_unpack_1 rfl ?_
  refine c_I1 (hBs e z) 2 dX0_unpack_2 (Nat.le_of_ble_eq_true rfl) ⟨rfl, he, by omega, h8⟩ (fun r_2 σ_2 h_2 => ?_)
  obtain ⟨hs2, hr2⟩ := h_2
  rw [hs2, hr2]
  refine r_istore_n G 5 dX0_unpack_5 (Nat.le_of_ble_eq_true rfl) ?_
  refine r_iconst G 6 (nI 0) dX0_unpack_6 (by decide) ?_
  refine r_istore_n G 7 dX0_unpack_7 (Nat.le_of_ble_eq_true rfl) ?_
  refine r_iconst G 8 (nI 0) dX0_unpack_8 (by decide) ?_
  refine r_istore G 9 dX0_unpack_9 (Nat.le_of_ble_eq_true rfl) ?_
  refine r_iconst G 11 (nI 0) dX0_unpack_11 (by decide) ?_
  refine r_istore G 12 dX0_unpack_12 (Nat.le_of_ble_eq_true rfl) ?_
  exact r_pick G [0, 1, 2, 3, 4, 5] (lpA_unpack G hRp he hz hR n 0 0 0 σ hp (Nat.le_refl _) lt_0 (fun _ _ => rfl))
end UNPACK
abbrev rm_unpack : Room := { frames := 1, cells := 0, slots := 0, locals := 24 }
theorem met_unpack (l : Launch) (dC : Nat → ClassId) (dI : Nat → Nat → Nat) (ad : Nat → Nat) (d : ClassId) (e z n : Nat) (X : Nat → Int32) : xMetV l dC dI ad d yX0_unpack cX0_unpack 9 rm_unpack 2 1 (Pr_unpack e z n X) (Po_unpack X) :=
  xMetV_of RX0 rfl (by decide) (by decide) (fun K G xs σ _ hp hR => by
    obtain ⟨hp, h1, h2, h3, h4⟩ := hp
    subst hp
    exact wk_unpack G (fun i n b X => (x_callV G (met_repeat l dC dI ad d i n b X) (lw_V q169 q171 qs19 q29 q172) xRec2 (by decide +kernel) rfl rfl ⟨Nat.le_of_ble_eq_true rfl, Nat.le_of_ble_eq_true rfl⟩)) (fun e z => (x_callI G (met_baseOf l dC dI ad d e z) (lw_V q165 q167 qs18 q29 q168) xRec2 (by decide +kernel) rfl rfl ⟨Nat.le_of_ble_eq_true rfl, Nat.le_of_ble_eq_true rfl⟩)) h1 h2 h3 h4 hR)
end
section
/-! the pool's frames and the slots: poolFrame, oldestPoolFrame, freeSlot, storeSlot, storePacked, blankFrame -/
def dn : Nat → Int32
  | 0 => -1
  | c + 1 => nI c
theorem c_dn (c : Nat) : nI c + Int32.ofInt (-1) = dn c := by
  cases c with
  | zero => decide
  | succ c => exact c_dec c
theorem dn_sub (p : Nat) : nI p - nI 1 = dn p := by
  cases p with
  | zero => decide
  | succ p => rw [pk_sub (by omega)]; rfl
theorem dn_inc (m : Nat) : dn m + Int32.ofInt 1 = dn (m + 1) := by
  cases m with
  | zero => decide
  | succ m => exact c_inc m
theorem hl1_le (σ : Sg) (e : Nat) : hl1 σ e ≤ 1 := by
  unfold hl1
  split <;> omega
def PoolOK (σ : Sg) : Prop := ∀ f, f < 4 → ∃ w0 w1, occ σ (f * 2) w0 ∧ occ σ (f * 2 + 1) w1 ∧ w0 + w1 ≤ 16
theorem iv_occ {σ : Sg} {M : Nat → Nat → Int32} {L : List Nat} {e : Nat} (h : Iv σ M L) (he : e < 8) : ∃ w, w < 16 ∧ occ σ e w := by
  rcases h.2.1 2 e (by decide) (by decide) he with g | ⟨p, g1, g2, g3, g4, g5⟩
  · exact ⟨0, by decide, Or.inl ⟨g, rfl⟩⟩
  · rcases h.1 p g1 g2 with ⟨q1, q2⟩ | ⟨kd, j, q1, q2, q3, q4, q5, q6, q7⟩
    · rw [g4] at q1; exact absurd q1 (by decide)
    · rw [g4] at q4; rw [g5] at q5
      have := onum_le q1 q2
      have e1 := nI_inj (by omega) (by omega) q4
      have e2 := nI_inj (by omega) (by omega) q5
      subst e1; subst e2
      rcases q7 with ⟨k1, _⟩ | ⟨k1, k2, z, n, k3, k4, k5⟩ | ⟨k1, _⟩
      · exact absurd k1 (by decide)
      · exact ⟨z, k3, Or.inr ⟨p, g1, g3, k3, k4⟩⟩
      · exact absurd k1 (by decide)
theorem iv_pool {σ : Sg} {M : Nat → Nat → Int32} {L : List Nat} (h : Iv σ M L) : PoolOK σ := by
  intro f hf
  obtain ⟨w0, hw0, o0⟩ := iv_occ h (show f * 2 < 8 by omega)
  obtain ⟨w1, hw1, o1⟩ := iv_occ h (show f * 2 + 1 < 8 by omega)
  refine ⟨w0, w1, o0, o1, ?_⟩
  rcases o0 with ⟨a1, a2⟩ | ⟨p0, a1, a2, a3, a4⟩
  · omega
  · rcases o1 with ⟨b1, b2⟩ | ⟨p1, b1, b2, b3, b4⟩
    · omega
    · exact h.2.2 f hf (by rw [a2]; exact nI_nm1 (by omega)) (by rw [b2]; exact nI_nm1 (by omega)) w0 w1 hw0 hw1 a4 b4
def fits_ (σ : Sg) (f z : Nat) : Prop := ∃ w0 w1, occ σ (f * 2) w0 ∧ occ σ (f * 2 + 1) w1 ∧ w0 + w1 + z ≤ 16 ∧ (σ 7 (f * 2) = -1 ∨ σ 7 (f * 2 + 1) = -1)
theorem fits_one {σ : Sg} {f z w0 w1 : Nat} (o0 : occ σ (f * 2) w0) (o1 : occ σ (f * 2 + 1) w1) (hw : w0 + w1 ≤ 16) (hz : z ≤ 16 - w0 - w1) (h : hl1 σ (f * 2) + hl1 σ (f * 2 + 1) = 1) : fits_ σ f z := by
  refine ⟨w0, w1, o0, o1, by omega, ?_⟩
  by_cases g : σ 7 (f * 2) < 0
  · exact Or.inl (occ_neg o0 g).1
  · by_cases g1 : σ 7 (f * 2 + 1) < 0
    · exact Or.inr (occ_neg o1 g1).1
    · rw [hl1_1 g, hl1_1 g1] at h; omega
theorem fits_zero {σ : Sg} {f z w0 w1 : Nat} (o0 : occ σ (f * 2) w0) (o1 : occ σ (f * 2 + 1) w1) (hz : z ≤ 16) (h : hl1 σ (f * 2) + hl1 σ (f * 2 + 1) = 0) : fits_ σ f z := by
  have g : σ 7 (f * 2) < 0 := Classical.byContradiction fun g => by rw [hl1_1 g] at h; omega
  have g1 : σ 7 (f * 2 + 1) < 0 := Classical.byContradiction fun g => by rw [hl1_1 g] at h; omega
  have e0 := occ_neg o0 g
  have e1 := occ_neg o1 g1
  exact ⟨w0, w1, o0, o1, by omega, Or.inl e0.1⟩
def Pr_poolFrame (z : Nat) : List Int32 → Sg → Prop := fun xs σ => xs = [nI z] ∧ z ≤ 16 ∧ PoolOK σ
def Po_poolFrame (z : Nat) : List Int32 → Sg → Int32 → Sg → Prop := fun _ σ r σ' => σ' = σ ∧ ((r = -1 ∧ ∀ f, f < 4 → 0 < hl1 σ (f * 2) + hl1 σ (f * 2 + 1)) ∨ ∃ f, f < 4 ∧ r = nI f ∧ fits_ σ f z)
def pfJ (σ : Sg) (z lr : Nat) (b : Int32) : Prop := (b = -1 ∧ lr = 100) ∨ (lr < 100 ∧ ∃ g, g < 4 ∧ b = nI g ∧ fits_ σ g z)
def pfK (σ : Sg) (z lr c : Nat) (b : Int32) : Prop := (lr = 100 ∧ b = -1 ∧ ∀ g, c ≤ g → g < 4 → 0 < hl1 σ (g * 2) + hl1 σ (g * 2 + 1)) ∨ ∃ g, g < 4 ∧ b = nI g ∧ fits_ σ g z
section POOLF
variable {l : Launch} {R : Room} {dC : Nat → ClassId} {dI : Nat → Nat → Nat} {ad : Nat → Nat} {d : ClassId} {K : xK}
theorem lp2_poolFrame (G : xGood l R dC dI ad d RX0 cX0_poolFrame 7 K) (hH : ∀ f, xCallI cX0_poolFrame K 72 2 1 (Pr_held f) (Po_held f)) {z lr : Nat} {σ : Sg} (hz : z ≤ 16) (hlr : lr ≤ 100) (hP : PoolOK σ) (hR : xRetI cX0_poolFrame K (Po_poolFrame z [] σ)) :
    ∀ c b, c ≤ 4 → pfK σ z lr c b → K 63 [(0, .inr 2), (1, .inl (nI z)), (2, .inl b), (3, .inl (nI lr)), (4, .inl (dn c))] [] σ := by
  intro c
  induction c with
  | zero =>
    intro b h1 hk
    refine r_iload G 63 dX0_poolFrame_63 rfl ?_
    refine r_if_lt G 65 96 dX0_poolFrame_65 (by decide) (fun h_65 => ?_) (fun h_65 => absurd m1_lt h_65)
    refine r_iload_n G 96 dX0_poolFrame_96 rfl ?_
    exact hR 97 _ _ _ dX0_poolFrame_97 (⟨rfl, by rcases hk with ⟨k1, k2, k3⟩ | k; exact Or.inl ⟨k2, fun f hf => k3 f (Nat.zero_le _) hf⟩; exact Or.inr k⟩)
  | succ c ih =>
    intro b h1 hk
    have hl0 := hl1_le σ (c * 2)
    have hl9 := hl1_le σ (c * 2 + 1)
    refine r_iload G 63 dX0_poolFrame_63 rfl ?_
    refine r_if_lt G 65 96 dX0_poolFrame_65 (by decide) (fun h_65 => absurd h_65 (nI_pos (by omega))) (fun h_65 => ?_)
    refine r_aload G 68 dX0_poolFrame_68 rfl ?_
    refine r_iload G 69 dX0_poolFrame_69 rfl ?_
    refine c_I1 (hH c) 71 dX0_poolFrame_71 (Nat.le_of_ble_eq_true rfl) ⟨rfl, by omega⟩ (fun r_71 σ_71 h_71 => ?_)
    obtain ⟨hs71, hr71⟩ := h_71
    rw [hs71, hr71]
    refine r_istore G 74 dX0_poolFrame_74 (Nat.le_of_ble_eq_true rfl) ?_
    refine r_iload G 76 dX0_poolFrame_76 rfl ?_
    refine r_if_ne G 78 90 dX0_poolFrame_78 (by decide) (fun h_78 => ?_) (fun h_78 => ?_)
    · refine r_iinc G 90 dX0_poolFrame_90 rfl (c_dn _) (Nat.le_of_ble_eq_true rfl) ?_
      refine r_goto G 93 63 dX0_poolFrame_93 (by decide) ?_
      exact r_pick G [0, 1, 2, 3, 4] (ih b (by omega) (by rcases hk with ⟨k1, k2, k3⟩ | k; exact Or.inl ⟨k1, k2, fun g q1 q2 => by by_cases e : g = c; subst e; exact Nat.pos_of_ne_zero (fun z => h_78 (by rw [z]; rfl)); exact k3 g (by omega) q2⟩; exact Or.inr k))
    · refine r_iload_n G 81 dX0_poolFrame_81 rfl ?_
      refine r_bipush G 82 (nI 100) dX0_poolFrame_82 (by decide) ?_
      refine b_ne G 84 90 dX0_poolFrame_84 (by decide) (by omega) (by omega) (fun h_84 => ?_) (fun h_84 => ?_)
      · refine r_iinc G 90 dX0_poolFrame_90 rfl (c_dn _) (Nat.le_of_ble_eq_true rfl) ?_
        refine r_goto G 93 63 dX0_poolFrame_93 (by decide) ?_
        exact r_pick G [0, 1, 2, 3, 4] (ih b (by omega) (by rcases hk with ⟨k1, k2, k3⟩ | k; exact absurd k1 h_84; exact Or.inr k))
      · refine r_iload G 87 dX0_poolFrame_87 rfl ?_
        refine r_istore_n G 89 dX0_poolFrame_89 (Nat.le_of_ble_eq_true rfl) ?_
        refine r_iinc G 90 dX0_poolFrame_90 rfl (c_dn _) (Nat.le_of_ble_eq_true rfl) ?_
        refine r_goto G 93 63 dX0_poolFrame_93 (by decide) ?_
        exact r_pick G [0, 1, 2, 3, 4] (ih (nI c) (by omega) (by obtain ⟨w0, w1, o0, o1, hw⟩ := hP c (by omega); exact Or.inr ⟨c, by omega, rfl, fits_zero o0 o1 hz (nI_inj (by omega) (by omega) h_78)⟩))
theorem lp1_poolFrame (G : xGood l R dC dI ad d RX0 cX0_poolFrame 7 K) (hH : ∀ f, xCallI cX0_poolFrame K 72 2 1 (Pr_held f) (Po_held f)) (hRm : ∀ f w0 w1, xCallI cX0_poolFrame K 74 2 1 (Pr_roomIn f w0 w1) (Po_roomIn w0 w1)) {z : Nat} {σ : Sg} (hz : z ≤ 16) (hP : PoolOK σ) (hR : xRetI cX0_poolFrame K (Po_poolFrame z [] σ)) :
    ∀ t f lr b, f ≤ 4 → 5 ≤ t + f → lr ≤ 100 → pfJ σ z lr b → K 8 [(0, .inr 2), (1, .inl (nI z)), (2, .inl b), (3, .inl (nI lr)), (4, .inl (nI f))] [] σ := by
  intro t
  induction t with
  | zero => intro f lr b h1 h2; omega
  | succ t ih =>
    intro f lr b h1 h2 h3 hj
    have hl0 := hl1_le σ (f * 2)
    have hl9 := hl1_le σ (f * 2 + 1)
    refine r_iload G 8 dX0_poolFrame_8 rfl ?_
    refine r_iconst G 10 (nI 4) dX0_poolFrame_10 (by decide) ?_
    refine b_ge G 11 60 dX0_poolFrame_11 (by decide) (by omega) (by omega) (fun h_11 => ?_) (fun h_11 => ?_)
    · refine r_iconst G 60 (nI 3) dX0_poolFrame_60 (by decide) ?_
      refine r_istore G 61 dX0_poolFrame_61 (Nat.le_of_ble_eq_true rfl) ?_
      exact r_pick G [0, 1, 2, 3, 4] (lp2_poolFrame G hH hz h3 hP hR 4 b (Nat.le_refl _) (by rcases hj with ⟨k1, k2⟩ | ⟨k1, k2⟩; exact Or.inl ⟨k2, k1, fun g q1 q2 => absurd q1 (by omega)⟩; exact Or.inr k2))
    · refine r_aload G 14 dX0_poolFrame_14 rfl ?_
      refine r_iload G 15 dX0_poolFrame_15 rfl ?_
      refine c_I1 (hH f) 17 dX0_poolFrame_17 (Nat.le_of_ble_eq_true rfl) ⟨rfl, h_11⟩ (fun r_17 σ_17 h_17 => ?_)
      obtain ⟨hs17, hr17⟩ := h_17
      rw [hs17, hr17]
      obtain ⟨w0, w1, o0, o1, hw⟩ := hP f h_11
      refine r_istore G 20 dX0_poolFrame_20 (Nat.le_of_ble_eq_true rfl) ?_
      refine r_aload G 22 dX0_poolFrame_22 rfl ?_
      refine r_iload G 23 dX0_poolFrame_23 rfl ?_
      refine c_I1 (hRm f w0 w1) 25 dX0_poolFrame_25 (Nat.le_of_ble_eq_true rfl) ⟨rfl, h_11, o0, o1, hw⟩ (fun r_25 σ_25 h_25 => ?_)
      obtain ⟨hs25, hr25⟩ := h_25
      rw [hs25, hr25]
      refine r_istore G 28 dX0_poolFrame_28 (Nat.le_of_ble_eq_true rfl) ?_
      refine r_iload G 30 dX0_poolFrame_30 rfl ?_
      refine r_iconst G 32 (nI 1) dX0_poolFrame_32 (by decide) ?_
      refine b_ne G 33 54 dX0_poolFrame_33 (by decide) (by omega) (by omega) (fun h_33 => ?_) (fun h_33 => ?_)
      · refine r_iinc G 54 dX0_poolFrame_54 rfl (c_inc _) (Nat.le_of_ble_eq_true rfl) ?_
        refine r_goto G 57 8 dX0_poolFrame_57 (by decide) ?_
        exact r_pick G [0, 1, 2, 3, 4] (ih (f + 1) lr b (by omega) (by omega) h3 hj)
      · refine r_iload G 36 dX0_poolFrame_36 rfl ?_
        refine r_iload_n G 38 dX0_poolFrame_38 rfl ?_
        refine b_lt G 39 54 dX0_poolFrame_39 (by decide) (by omega) (by omega) (fun h_39 => ?_) (fun h_39 => ?_)
        · refine r_iinc G 54 dX0_poolFrame_54 rfl (c_inc _) (Nat.le_of_ble_eq_true rfl) ?_
          refine r_goto G 57 8 dX0_poolFrame_57 (by decide) ?_
          exact r_pick G [0, 1, 2, 3, 4] (ih (f + 1) lr b (by omega) (by omega) h3 hj)
        · refine r_iload G 42 dX0_poolFrame_42 rfl ?_
          refine r_iload_n G 44 dX0_poolFrame_44 rfl ?_
          refine b_ge G 45 54 dX0_poolFrame_45 (by decide) (by omega) (by omega) (fun h_45 => ?_) (fun h_45 => ?_)
          · refine r_iinc G 54 dX0_poolFrame_54 rfl (c_inc _) (Nat.le_of_ble_eq_true rfl) ?_
            refine r_goto G 57 8 dX0_poolFrame_57 (by decide) ?_
            exact r_pick G [0, 1, 2, 3, 4] (ih (f + 1) lr b (by omega) (by omega) h3 hj)
          · refine r_iload G 48 dX0_poolFrame_48 rfl ?_
            refine r_istore_n G 50 dX0_poolFrame_50 (Nat.le_of_ble_eq_true rfl) ?_
            refine r_iload G 51 dX0_poolFrame_51 rfl ?_
            refine r_istore_n G 53 dX0_poolFrame_53 (Nat.le_of_ble_eq_true rfl) ?_
            refine r_iinc G 54 dX0_poolFrame_54 rfl (c_inc _) (Nat.le_of_ble_eq_true rfl) ?_
            refine r_goto G 57 8 dX0_poolFrame_57 (by decide) ?_
            exact r_pick G [0, 1, 2, 3, 4] (ih (f + 1) (16 - w0 - w1) (nI f) (by omega) (by omega) (by omega) (Or.inr ⟨by omega, f, h_11, rfl, fits_one o0 o1 hw h_39 h_33⟩))
theorem wk_poolFrame (G : xGood l R dC dI ad d RX0 cX0_poolFrame 7 K) (hH : ∀ f, xCallI cX0_poolFrame K 72 2 1 (Pr_held f) (Po_held f)) (hRm : ∀ f w0 w1, xCallI cX0_poolFrame K 74 2 1 (Pr_roomIn f w0 w1) (Po_roomIn w0 w1)) {z : Nat} {σ : Sg} (hz : z ≤ 16) (hP : PoolOK σ) (hR : xRetI cX0_poolFrame K (Po_poolFrame z [] σ)) : K 0 [(0, .inr 2), (1, .inl (nI z))] [] σ := by
  refine r_iconst G 0 (-1) dX0_poolFrame_0 (by decide) ?_
  refine r_istore_n G 1 dX0_poolFrame_1 (Nat.le_of_ble_eq_true rfl) ?_
  refine r_bipush G 2 (nI 100) dX0_poolFrame_2 (by decide) ?_
  refine r_istore_n G 4 dX0_poolFrame_4 (Nat.le_of_ble_eq_true rfl) ?_
  refine r_iconst G 5 (nI 0) dX0_poolFrame_5 (by decide) ?_
  refine r_istore G 6 dX0_poolFrame_6 (Nat.le_of_ble_eq_true rfl) ?_
  exact r_pick G [0, 1, 2, 3, 4] (lp1_poolFrame G hH hRm hz hP hR 5 0 100 (-1) (by omega) (by omega) (by omega) (Or.inl ⟨rfl, rfl⟩))
end POOLF
abbrev rm_poolFrame : Room := { frames := 1, cells := 0, slots := 0, locals := 22 }
theorem met_poolFrame (l : Launch) (dC : Nat → ClassId) (dI : Nat → Nat → Nat) (ad : Nat → Nat) (d : ClassId) (z : Nat) : xMetI l dC dI ad d yX0_poolFrame cX0_poolFrame 7 (some .int) rm_poolFrame 2 1 (Pr_poolFrame z) (Po_poolFrame z) :=
  xMetI_of RX0 rfl (by decide) (by decide) (fun K G xs σ _ hp hR => by
    obtain ⟨hp, h1, h2⟩ := hp
    subst hp
    exact wk_poolFrame G (fun f => (x_callI G (met_held l dC dI ad d f) (lw_V q145 q147 qs13 q29 q148) xRec2 (by decide +kernel) rfl rfl ⟨Nat.le_of_ble_eq_true rfl, Nat.le_of_ble_eq_true rfl⟩)) (fun f w0 w1 => (x_callI G (met_roomIn l dC dI ad d f w0 w1) (lw_V q149 q151 qs14 q29 q152) xRec2 (by decide +kernel) rfl rfl ⟨Nat.le_of_ble_eq_true rfl, Nat.le_of_ble_eq_true rfl⟩)) h1 h2 hR)
/-! oldestPoolFrame -/
def Pr_0 : List Int32 → Sg → Prop := fun xs _ => xs = []
def Po_oldest : List Int32 → Sg → Int32 → Sg → Prop := fun _ σ r σ' => σ' = σ ∧ ((r = -1 ∧ ∀ f, f < 4 → hl1 σ (f * 2) + hl1 σ (f * 2 + 1) = 0) ∨ ∃ f, f < 4 ∧ r = nI f)
section OLDP
variable {l : Launch} {R : Room} {dC : Nat → ClassId} {dI : Nat → Nat → Nat} {ad : Nat → Nat} {d : ClassId} {K : xK}
theorem lp_oldest (G : xGood l R dC dI ad d RX0 cX0_oldestPoolFrame 4 K) (hH : ∀ f, xCallI cX0_oldestPoolFrame K 72 2 1 (Pr_held f) (Po_held f)) {σ : Sg} (hR : xRetI cX0_oldestPoolFrame K (Po_oldest [] σ)) :
    ∀ t f b, f ≤ 4 → 5 ≤ t + f → ((b = -1 ∧ ∀ g, g < f → hl1 σ (g * 2) + hl1 σ (g * 2 + 1) = 0) ∨ ∃ g, g < 4 ∧ b = nI g) → K 4 [(0, .inr 2), (1, .inl b), (2, .inl (nI f))] [] σ := by
  intro t
  induction t with
  | zero => intro f b h1 h2; omega
  | succ t ih =>
    intro f b h1 h2 hj
    have hl0 := hl1_le σ (f * 2)
    have hl9 := hl1_le σ (f * 2 + 1)
    refine r_iload_n G 4 dX0_oldestPoolFrame_4 rfl ?_
    refine r_iconst G 5 (nI 4) dX0_oldestPoolFrame_5 (by decide) ?_
    refine b_ge G 6 46 dX0_oldestPoolFrame_6 (by decide) (by omega) (by omega) (fun h_6 => ?_) (fun h_6 => ?_)
    · refine r_iload_n G 46 dX0_oldestPoolFrame_46 rfl ?_
      exact hR 47 _ _ _ dX0_oldestPoolFrame_47 (⟨rfl, by rcases hj with ⟨k1, k2⟩ | k; exact Or.inl ⟨k1, fun g hg => k2 g (by omega)⟩; exact Or.inr k⟩)
    · refine r_aload G 9 dX0_oldestPoolFrame_9 rfl ?_
      refine r_iload_n G 10 dX0_oldestPoolFrame_10 rfl ?_
      refine c_I1 (hH f) 11 dX0_oldestPoolFrame_11 (Nat.le_of_ble_eq_true rfl) ⟨rfl, h_6⟩ (fun r_11 σ_11 h_11 => ?_)
      obtain ⟨hs11, hr11⟩ := h_11
      rw [hs11, hr11]
      refine r_istore_n G 14 dX0_oldestPoolFrame_14 (Nat.le_of_ble_eq_true rfl) ?_
      refine r_iload_n G 15 dX0_oldestPoolFrame_15 rfl ?_
      refine r_if_le G 16 40 dX0_oldestPoolFrame_16 (by decide) (fun h_16 => ?_) (fun h_16 => ?_)
      · refine r_iinc G 40 dX0_oldestPoolFrame_40 rfl (c_inc _) (Nat.le_of_ble_eq_true rfl) ?_
        refine r_goto G 43 4 dX0_oldestPoolFrame_43 (by decide) ?_
        exact r_pick G [0, 1, 2] (ih (f + 1) b (by omega) (by omega) (by rcases hj with ⟨k1, k2⟩ | k; exact Or.inl ⟨k1, lt_s k2 (Classical.byContradiction fun z => nI_nle (Nat.pos_of_ne_zero z) (by omega) h_16)⟩; exact Or.inr k))
      · refine r_iload_n G 19 dX0_oldestPoolFrame_19 rfl ?_
        refine r_if_lt G 20 38 dX0_oldestPoolFrame_20 (by decide) (fun h_20 => ?_) (fun h_20 => ?_)
        · refine r_iload_n G 38 dX0_oldestPoolFrame_38 rfl ?_
          refine r_istore_n G 39 dX0_oldestPoolFrame_39 (Nat.le_of_ble_eq_true rfl) ?_
          refine r_iinc G 40 dX0_oldestPoolFrame_40 rfl (c_inc _) (Nat.le_of_ble_eq_true rfl) ?_
          refine r_goto G 43 4 dX0_oldestPoolFrame_43 (by decide) ?_
          exact r_pick G [0, 1, 2] (ih (f + 1) (nI f) (by omega) (by omega) (Or.inr ⟨f, h_6, rfl⟩))
        · obtain ⟨g, hg, eg⟩ : ∃ g, g < 4 ∧ b = nI g := by
            rcases hj with ⟨k1, k2⟩ | k
            · rw [k1] at h_20; exact absurd m1_lt h_20
            · exact k
          subst eg
          refine r_aload G 23 dX0_oldestPoolFrame_23 rfl ?_
          refine r_f9 G 24 dX0_oldestPoolFrame_24 ?_
          refine r_iload_n G 27 dX0_oldestPoolFrame_27 rfl ?_
          refine r_ald G 28 4 rfl dX0_oldestPoolFrame_28 rfl (by omega) ?_
          refine r_aload G 29 dX0_oldestPoolFrame_29 rfl ?_
          refine r_f9 G 30 dX0_oldestPoolFrame_30 ?_
          refine r_iload_n G 33 dX0_oldestPoolFrame_33 rfl ?_
          refine r_ald G 34 4 rfl dX0_oldestPoolFrame_34 rfl (by omega) ?_
          refine r_icmp_ge G 35 40 dX0_oldestPoolFrame_35 (by decide) (fun h_35 => ?_) (fun h_35 => ?_)
          · refine r_iinc G 40 dX0_oldestPoolFrame_40 rfl (c_inc _) (Nat.le_of_ble_eq_true rfl) ?_
            refine r_goto G 43 4 dX0_oldestPoolFrame_43 (by decide) ?_
            exact r_pick G [0, 1, 2] (ih (f + 1) (nI g) (by omega) (by omega) (Or.inr ⟨g, hg, rfl⟩))
          · refine r_iload_n G 38 dX0_oldestPoolFrame_38 rfl ?_
            refine r_istore_n G 39 dX0_oldestPoolFrame_39 (Nat.le_of_ble_eq_true rfl) ?_
            refine r_iinc G 40 dX0_oldestPoolFrame_40 rfl (c_inc _) (Nat.le_of_ble_eq_true rfl) ?_
            refine r_goto G 43 4 dX0_oldestPoolFrame_43 (by decide) ?_
            exact r_pick G [0, 1, 2] (ih (f + 1) (nI f) (by omega) (by omega) (Or.inr ⟨f, h_6, rfl⟩))
theorem wk_oldest (G : xGood l R dC dI ad d RX0 cX0_oldestPoolFrame 4 K) (hH : ∀ f, xCallI cX0_oldestPoolFrame K 72 2 1 (Pr_held f) (Po_held f)) {σ : Sg} (hR : xRetI cX0_oldestPoolFrame K (Po_oldest [] σ)) : K 0 [(0, .inr 2)] [] σ := by
  refine r_iconst G 0 (-1) dX0_oldestPoolFrame_0 (by decide) ?_
  refine r_istore_n G 1 dX0_oldestPoolFrame_1 (Nat.le_of_ble_eq_true rfl) ?_
  refine r_iconst G 2 (nI 0) dX0_oldestPoolFrame_2 (by decide) ?_
  refine r_istore_n G 3 dX0_oldestPoolFrame_3 (Nat.le_of_ble_eq_true rfl) ?_
  exact r_pick G [0, 1, 2] (lp_oldest G hH hR 5 0 (-1) (by omega) (by omega) (Or.inl ⟨rfl, lt_0⟩))
end OLDP
theorem met_oldestPoolFrame (l : Launch) (dC : Nat → ClassId) (dI : Nat → Nat → Nat) (ad : Nat → Nat) (d : ClassId) : xMetI l dC dI ad d yX0_oldestPoolFrame cX0_oldestPoolFrame 4 (some .int) rm_poolFrame 2 0 Pr_0 Po_oldest :=
  xMetI_of RX0 rfl (by decide) (by decide) (fun K G xs σ _ hp hR => by
    have hp : xs = [] := hp
    subst hp
    exact wk_oldest G (fun f => (x_callI G (met_held l dC dI ad d f) (lw_V q145 q147 qs13 q29 q148) xRec2 (by decide +kernel) rfl rfl ⟨Nat.le_of_ble_eq_true rfl, Nat.le_of_ble_eq_true rfl⟩)) hR)
/-! freeSlot -/
def Pr_freeSlot (p : Nat) : List Int32 → Sg → Prop := fun xs σ => xs = [nI p] ∧ p < 12 ∧ ∃ s, s < 12 ∧ σ 11 s = -1
def Po_freeSlot : List Int32 → Sg → Int32 → Sg → Prop := fun _ σ r σ' => σ' = σ ∧ ∃ s, s < 12 ∧ r = nI s ∧ σ 11 s < 0
section FSLOT
variable {l : Launch} {R : Room} {dC : Nat → ClassId} {dI : Nat → Nat → Nat} {ad : Nat → Nat} {d : ClassId} {K : xK}
theorem lp2_freeSlot (G : xGood l R dC dI ad d RX0 cX0_freeSlot 5 K) {p : Nat} {σ : Sg} (hp : p < 12) (hR : xRetI cX0_freeSlot K (Po_freeSlot [] σ)) :
    ∀ t c s, c ≤ 3 → 4 ≤ t + c → s < 12 → σ 11 s < 0 → K 30 [(0, .inr 2), (1, .inl (nI p)), (2, .inl (nI s)), (3, .inl (dn (p + c)))] [] σ := by
  intro t
  induction t with
  | zero => intro c s h1 h2; omega
  | succ t ih =>
    intro c s h1 h2 hs hfr
    have hnx : c = 3 ∨ c + 1 ≤ 3 := by omega
    refine r_iload_n G 30 dX0_freeSlot_30 rfl ?_
    refine r_iload_n G 31 dX0_freeSlot_31 rfl ?_
    refine r_iconst G 32 (nI 1) dX0_freeSlot_32 (by decide) ?_
    refine r_iadd G 33 dX0_freeSlot_33 (nI_add _ _) ?_
    refine r_icmp_gt G 34 100 dX0_freeSlot_34 (by decide) (fun h_34 => ?_) (fun h_34 => ?_)
    · refine r_iload_n G 100 dX0_freeSlot_100 rfl ?_
      exact hR 101 _ _ _ dX0_freeSlot_101 (⟨rfl, s, hs, rfl, hfr⟩)
    · have hc3 : c + 1 ≤ 3 := by
        rcases hnx with e | e
        · subst e; exact absurd (show nI (p + 1) < nI (p + 2) from nI_lt (by omega) (by omega)) h_34
        · exact e
      refine r_iload_n G 37 dX0_freeSlot_37 rfl ?_
      refine r_if_lt G 38 94 dX0_freeSlot_38 (by decide) (fun h_38 => ?_) (fun h_38 => ?_)
      · refine r_iinc G 94 dX0_freeSlot_94 rfl (dn_inc _) (Nat.le_of_ble_eq_true rfl) ?_
        refine r_goto G 97 30 dX0_freeSlot_97 (by decide) ?_
        exact r_pick G [0, 1, 2, 3] (ih (c + 1) s hc3 (by omega) hs hfr)
      · refine r_iload_n G 41 dX0_freeSlot_41 rfl ?_
        refine r_bipush G 42 (nI 12) dX0_freeSlot_42 (by decide) ?_
        refine r_icmp_ge G 44 94 dX0_freeSlot_44 (by decide) (fun h_44 => ?_) (fun h_44 => ?_)
        · refine r_iinc G 94 dX0_freeSlot_94 rfl (dn_inc _) (Nat.le_of_ble_eq_true rfl) ?_
          refine r_goto G 97 30 dX0_freeSlot_97 (by decide) ?_
          exact r_pick G [0, 1, 2, 3] (ih (c + 1) s hc3 (by omega) hs hfr)
        · obtain ⟨j, hj, ej⟩ := inN_of (n := 12) (by decide) h_38 (Int32.not_le.mp h_44)
          refine r_aload G 47 dX0_freeSlot_47 rfl ?_
          refine r_f0 G 48 dX0_freeSlot_48 ?_
          refine r_iload_n G 51 dX0_freeSlot_51 rfl ?_
          refine r_ald G 52 12 rfl dX0_freeSlot_52 ej hj ?_
          refine r_iconst G 53 (nI 3) dX0_freeSlot_53 (by decide) ?_
          refine r_icmp_ne G 54 94 dX0_freeSlot_54 (by decide) (fun h_54 => ?_) (fun h_54 => ?_)
          · refine r_iinc G 94 dX0_freeSlot_94 rfl (dn_inc _) (Nat.le_of_ble_eq_true rfl) ?_
            refine r_goto G 97 30 dX0_freeSlot_97 (by decide) ?_
            exact r_pick G [0, 1, 2, 3] (ih (c + 1) s hc3 (by omega) hs hfr)
          · refine r_aload G 57 dX0_freeSlot_57 rfl ?_
            refine r_f1 G 58 dX0_freeSlot_58 ?_
            refine r_iload_n G 61 dX0_freeSlot_61 rfl ?_
            refine r_ald G 62 12 rfl dX0_freeSlot_62 ej hj ?_
            refine r_iload_n G 63 dX0_freeSlot_63 rfl ?_
            refine r_iadd G 64 dX0_freeSlot_64 rfl ?_
            refine r_iload_n G 65 dX0_freeSlot_65 rfl ?_
            refine r_isub G 66 dX0_freeSlot_66 rfl ?_
            refine r_istore G 67 dX0_freeSlot_67 (Nat.le_of_ble_eq_true rfl) ?_
            refine r_iload G 69 dX0_freeSlot_69 rfl ?_
            refine r_if_lt G 71 94 dX0_freeSlot_71 (by decide) (fun h_71 => ?_) (fun h_71 => ?_)
            · refine r_iinc G 94 dX0_freeSlot_94 rfl (dn_inc _) (Nat.le_of_ble_eq_true rfl) ?_
              refine r_goto G 97 30 dX0_freeSlot_97 (by decide) ?_
              exact r_pick G [0, 1, 2, 3] (ih (c + 1) s hc3 (by omega) hs hfr)
            · refine r_iload G 74 dX0_freeSlot_74 rfl ?_
              refine r_bipush G 76 (nI 12) dX0_freeSlot_76 (by decide) ?_
              refine r_icmp_ge G 78 94 dX0_freeSlot_78 (by decide) (fun h_78 => ?_) (fun h_78 => ?_)
              · refine r_iinc G 94 dX0_freeSlot_94 rfl (dn_inc _) (Nat.le_of_ble_eq_true rfl) ?_
                refine r_goto G 97 30 dX0_freeSlot_97 (by decide) ?_
                exact r_pick G [0, 1, 2, 3] (ih (c + 1) s hc3 (by omega) hs hfr)
              · obtain ⟨w, hw, ew⟩ := inN_of (n := 12) (by decide) h_71 (Int32.not_le.mp h_78)
                refine r_aload G 81 dX0_freeSlot_81 rfl ?_
                refine r_f11 G 82 dX0_freeSlot_82 ?_
                refine r_iload G 85 dX0_freeSlot_85 rfl ?_
                refine r_ald G 87 12 rfl dX0_freeSlot_87 ew hw ?_
                refine r_if_ge G 88 94 dX0_freeSlot_88 (by decide) (fun h_88 => ?_) (fun h_88 => ?_)
                · refine r_iinc G 94 dX0_freeSlot_94 rfl (dn_inc _) (Nat.le_of_ble_eq_true rfl) ?_
                  refine r_goto G 97 30 dX0_freeSlot_97 (by decide) ?_
                  exact r_pick G [0, 1, 2, 3] (ih (c + 1) s hc3 (by omega) hs hfr)
                · rw [ew]
                  refine r_iload G 91 dX0_freeSlot_91 rfl ?_
                  refine r_istore_n G 93 dX0_freeSlot_93 (Nat.le_of_ble_eq_true rfl) ?_
                  refine r_iinc G 94 dX0_freeSlot_94 rfl (dn_inc _) (Nat.le_of_ble_eq_true rfl) ?_
                  refine r_goto G 97 30 dX0_freeSlot_97 (by decide) ?_
                  exact r_pick G [0, 1, 2, 3] (ih (c + 1) w hc3 (by omega) hw (Int32.not_le.mp h_88))
theorem lp1_freeSlot (G : xGood l R dC dI ad d RX0 cX0_freeSlot 5 K) {p : Nat} {σ : Sg} (hp : p < 12) (hex : ∃ s, s < 12 ∧ σ 11 s = -1) (hR : xRetI cX0_freeSlot K (Po_freeSlot [] σ)) :
    ∀ c b, c ≤ 12 → ((b = -1 ∧ ∀ s, c ≤ s → s < 12 → ¬ σ 11 s < 0) ∨ ∃ s, s < 12 ∧ b = nI s ∧ σ 11 s < 0) → K 5 [(0, .inr 2), (1, .inl (nI p)), (2, .inl b), (3, .inl (dn c))] [] σ := by
  intro c
  induction c with
  | zero =>
    intro b h1 hj
    obtain ⟨s, hs, eb, hfr⟩ : ∃ s, s < 12 ∧ b = nI s ∧ σ 11 s < 0 := by
      rcases hj with ⟨k1, k2⟩ | k
      · obtain ⟨s, hs, es⟩ := hex
        exact absurd (by rw [es]; exact m1_lt) (k2 s (Nat.zero_le _) hs)
      · exact k
    subst eb
    refine r_iload_n G 5 dX0_freeSlot_5 rfl ?_
    refine r_if_lt G 6 26 dX0_freeSlot_6 (by decide) (fun h_6 => ?_) (fun h_6 => absurd m1_lt h_6)
    refine r_iload_n G 26 dX0_freeSlot_26 rfl ?_
    refine r_iconst G 27 (nI 1) dX0_freeSlot_27 (by decide) ?_
    refine r_isub G 28 dX0_freeSlot_28 (dn_sub _) ?_
    refine r_istore_n G 29 dX0_freeSlot_29 (Nat.le_of_ble_eq_true rfl) ?_
    exact r_pick G [0, 1, 2, 3] (lp2_freeSlot G hp hR 4 0 s (by omega) (by omega) hs hfr)
  | succ c ih =>
    intro b h1 hj
    refine r_iload_n G 5 dX0_freeSlot_5 rfl ?_
    refine r_if_lt G 6 26 dX0_freeSlot_6 (by decide) (fun h_6 => absurd h_6 (nI_pos (by omega))) (fun h_6 => ?_)
    refine r_aload G 9 dX0_freeSlot_9 rfl ?_
    refine r_f11 G 10 dX0_freeSlot_10 ?_
    refine r_iload_n G 13 dX0_freeSlot_13 rfl ?_
    refine r_ald G 14 12 rfl dX0_freeSlot_14 rfl (by omega) ?_
    refine r_if_ge G 15 20 dX0_freeSlot_15 (by decide) (fun h_15 => ?_) (fun h_15 => ?_)
    · refine r_iinc G 20 dX0_freeSlot_20 rfl (c_dn _) (Nat.le_of_ble_eq_true rfl) ?_
      refine r_goto G 23 5 dX0_freeSlot_23 (by decide) ?_
      exact r_pick G [0, 1, 2, 3] (ih b (by omega) (by rcases hj with ⟨k1, k2⟩ | k; exact Or.inl ⟨k1, fun s q1 q2 => by by_cases e : s = c; subst e; exact Int32.not_lt.mpr h_15; exact k2 s (by omega) q2⟩; exact Or.inr k))
    · refine r_iload_n G 18 dX0_freeSlot_18 rfl ?_
      refine r_istore_n G 19 dX0_freeSlot_19 (Nat.le_of_ble_eq_true rfl) ?_
      refine r_iinc G 20 dX0_freeSlot_20 rfl (c_dn _) (Nat.le_of_ble_eq_true rfl) ?_
      refine r_goto G 23 5 dX0_freeSlot_23 (by decide) ?_
      exact r_pick G [0, 1, 2, 3] (ih (nI c) (by omega) (Or.inr ⟨c, by omega, rfl, Int32.not_le.mp h_15⟩))
theorem wk_freeSlot (G : xGood l R dC dI ad d RX0 cX0_freeSlot 5 K) {p : Nat} {σ : Sg} (hp : p < 12) (hex : ∃ s, s < 12 ∧ σ 11 s = -1) (hR : xRetI cX0_freeSlot K (Po_freeSlot [] σ)) : K 0 [(0, .inr 2), (1, .inl (nI p))] [] σ := by
  refine r_iconst G 0 (-1) dX0_freeSlot_0 (by decide) ?_
  refine r_istore_n G 1 dX0_freeSlot_1 (Nat.le_of_ble_eq_true rfl) ?_
  refine r_bipush G 2 (nI 11) dX0_freeSlot_2 (by decide) ?_
  refine r_istore_n G 4 dX0_freeSlot_4 (Nat.le_of_ble_eq_true rfl) ?_
  exact r_pick G [0, 1, 2, 3] (lp1_freeSlot G hp hex hR 12 (-1) (Nat.le_refl _) (Or.inl ⟨rfl, fun s q1 q2 => absurd q1 (by omega)⟩))
end FSLOT
theorem met_freeSlot (l : Launch) (dC : Nat → ClassId) (dI : Nat → Nat → Nat) (ad : Nat → Nat) (d : ClassId) (p : Nat) : xMetI l dC dI ad d yX0_freeSlot cX0_freeSlot 5 (some .int) rmz 2 1 (Pr_freeSlot p) Po_freeSlot :=
  xMetI_of RX0 rfl (by decide) (by decide) (fun K G xs σ _ hp hR => by
    obtain ⟨hp, h1, h2⟩ := hp
    subst hp; exact wk_freeSlot G h1 h2 hR)
end
section
/-! storeSlot, storePacked, blankFrame -/
def Pr_storeSlot (s p : Nat) : List Int32 → Sg → Prop := fun xs _ => xs = [nI s, nI p] ∧ s < 12 ∧ p < 12
def Po_storeSlot (s p : Nat) : List Int32 → Sg → Sg → Prop := fun _ σ σ' => σ' 11 = upd (σ 11) s (nI p) ∧ σ' 0 = upd (σ 0) p (nI 3) ∧ σ' 1 = upd (σ 1) p (nI s) ∧ (∀ i, i < 16 → σ' 10 (s * 16 + i) = σ 14 i) ∧ (∀ t, (t < s * 16 ∨ s * 16 + 16 ≤ t) → σ' 10 t = σ 10 t) ∧ ∀ a, a ≠ 0 → a ≠ 1 → a ≠ 10 → a ≠ 11 → σ' a = σ a
section SSLOT
variable {l : Launch} {R : Room} {dC : Nat → ClassId} {dI : Nat → Nat → Nat} {ad : Nat → Nat} {d : ClassId} {K : xK}
theorem lp_storeSlot (G : xGood l R dC dI ad d RX0 cX0_storeSlot 4 K) {s p : Nat} {σ0 : Sg} (hs : s < 12) (hp : p < 12) (hR : xRetV cX0_storeSlot K (Po_storeSlot s p [] σ0)) :
    ∀ t i σ, i ≤ 16 → 17 ≤ t + i → (∀ j, j < i → σ 10 (s * 16 + j) = σ0 14 j) → (∀ t, (t < s * 16 ∨ s * 16 + 16 ≤ t) → σ 10 t = σ0 10 t) → (∀ a, a ≠ 10 → σ a = σ0 a) → K 7 [(0, .inr 2), (1, .inl (nI s)), (2, .inl (nI p)), (3, .inl (nI i))] [] σ := by
  intro t
  induction t with
  | zero => intro i σ h1 h2; omega
  | succ t ih =>
    intro i σ h1 h2 hc ho hk
    refine r_iload_n G 7 dX0_storeSlot_7 rfl ?_
    refine r_bipush G 8 (nI 16) dX0_storeSlot_8 (by decide) ?_
    refine b_ge G 10 36 dX0_storeSlot_10 (by decide) (by omega) (by omega) (fun h_10 => ?_) (fun h_10 => ?_)
    · refine r_aload G 36 dX0_storeSlot_36 rfl ?_
      refine r_f11 G 37 dX0_storeSlot_37 ?_
      refine r_iload_n G 40 dX0_storeSlot_40 rfl ?_
      refine r_iload_n G 41 dX0_storeSlot_41 rfl ?_
      refine r_ast G 42 12 rfl dX0_storeSlot_42 rfl (by omega) ?_
      refine r_aload G 43 dX0_storeSlot_43 rfl ?_
      refine r_f0 G 44 dX0_storeSlot_44 ?_
      refine r_iload_n G 47 dX0_storeSlot_47 rfl ?_
      refine r_iconst G 48 (nI 3) dX0_storeSlot_48 (by decide) ?_
      refine r_ast G 49 12 rfl dX0_storeSlot_49 rfl (by omega) ?_
      refine r_aload G 50 dX0_storeSlot_50 rfl ?_
      refine r_f1 G 51 dX0_storeSlot_51 ?_
      refine r_iload_n G 54 dX0_storeSlot_54 rfl ?_
      refine r_iload_n G 55 dX0_storeSlot_55 rfl ?_
      refine r_ast G 56 12 rfl dX0_storeSlot_56 rfl (by omega) ?_
      exact hR 57 _ _ dX0_storeSlot_57 (⟨show upd (σ 11) s (nI p) = upd (σ0 11) s (nI p) from by rw [hk 11 (by decide)], show upd (σ 0) p (nI 3) = upd (σ0 0) p (nI 3) from by rw [hk 0 (by decide)], show upd (σ 1) p (nI s) = upd (σ0 1) p (nI s) from by rw [hk 1 (by decide)], fun j hj => hc j (by omega), ho, fun a q0 q1 q10 q11 => (sw_up_n q1).trans ((sw_up_n q0).trans ((sw_up_n q11).trans (hk a q10)))⟩)
    · refine r_aload G 13 dX0_storeSlot_13 rfl ?_
      refine r_f10 G 14 dX0_storeSlot_14 ?_
      refine r_iload_n G 17 dX0_storeSlot_17 rfl ?_
      refine r_bipush G 18 (nI 16) dX0_storeSlot_18 (by decide) ?_
      refine r_imul G 20 dX0_storeSlot_20 (pk_mul _ _) ?_
      refine r_iload_n G 21 dX0_storeSlot_21 rfl ?_
      refine r_iadd G 22 dX0_storeSlot_22 (nI_add _ _) ?_
      refine r_aload G 23 dX0_storeSlot_23 rfl ?_
      refine r_f14 G 24 dX0_storeSlot_24 ?_
      refine r_iload_n G 27 dX0_storeSlot_27 rfl ?_
      refine r_ald G 28 16 rfl dX0_storeSlot_28 rfl (by omega) ?_
      refine r_ast G 29 192 rfl dX0_storeSlot_29 rfl (by omega) ?_
      refine r_iinc G 30 dX0_storeSlot_30 rfl (c_inc _) (Nat.le_of_ble_eq_true rfl) ?_
      refine r_goto G 33 7 dX0_storeSlot_33 (by decide) ?_
      exact r_pick G [0, 1, 2, 3] (ih (i + 1) _ (by omega) (by omega) (fun j hj => by by_cases e : j = i; subst e; rw [sw_up_s, hk 14 (by decide)]; rw [sw_up_o (by omega)]; exact hc j (by omega)) (fun t ht => by rw [sw_up_o (by omega)]; exact ho t ht) (fun a ha => (sw_up_n ha).trans (hk a ha)))
theorem wk_storeSlot (G : xGood l R dC dI ad d RX0 cX0_storeSlot 4 K) {s p : Nat} {σ : Sg} (hs : s < 12) (hp : p < 12) (hR : xRetV cX0_storeSlot K (Po_storeSlot s p [] σ)) : K 0 [(0, .inr 2), (1, .inl (nI s)), (2, .inl (nI p))] [] σ := by
  refine r_iload_n G 0 dX0_storeSlot_0 rfl ?_
  refine r_if_ge G 1 5 dX0_storeSlot_1 (by decide) (fun h_1 => ?_) (fun h_1 => absurd (nI_pos' (by omega)) h_1)
  refine r_iconst G 5 (nI 0) dX0_storeSlot_5 (by decide) ?_
  refine r_istore_n G 6 dX0_storeSlot_6 (Nat.le_of_ble_eq_true rfl) ?_
  exact r_pick G [0, 1, 2, 3] (lp_storeSlot G hs hp hR 17 0 σ (by omega) (by omega) lt_0 (fun _ _ => rfl) (fun _ _ => rfl))
end SSLOT
theorem met_storeSlot (l : Launch) (dC : Nat → ClassId) (dI : Nat → Nat → Nat) (ad : Nat → Nat) (d : ClassId) (s p : Nat) : xMetV l dC dI ad d yX0_storeSlot cX0_storeSlot 4 rmz 2 2 (Pr_storeSlot s p) (Po_storeSlot s p) :=
  xMetV_of RX0 rfl (by decide) (by decide) (fun K G xs σ _ hp hR => by
    obtain ⟨hp, h1, h2⟩ := hp
    subst hp; exact wk_storeSlot G h1 h2 hR)
/-! storePacked -/
def Pr_storePacked (f p z : Nat) : List Int32 → Sg → Prop := fun xs σ => xs = [nI f, nI p] ∧ f < 4 ∧ p < 12 ∧ z < 16 ∧ σ 13 0 = nI z ∧ fits_ σ f z
def Po_storePacked (f p z : Nat) : List Int32 → Sg → Sg → Prop := fun _ σ σ' => ∃ e, (e = f * 2 ∨ e = f * 2 + 1) ∧ σ 7 e = -1 ∧ σ' 7 = upd (σ 7) e (nI p) ∧ σ' 8 = upd (σ 8) e (nI z) ∧ σ' 0 = upd (σ 0) p (nI 2) ∧ σ' 1 = upd (σ 1) p (nI e) ∧ (∀ t, t < z → σ' 6 (bs e z + t) = σ 12 t) ∧ (∀ t, (t < bs e z ∨ bs e z + z ≤ t) → σ' 6 t = σ 6 t) ∧ ∀ a, a ≠ 0 → a ≠ 1 → a ≠ 2 → a ≠ 6 → a ≠ 7 → a ≠ 8 → a ≠ 9 → σ' a = σ a
section SPACK
variable {l : Launch} {R : Room} {dC : Nat → ClassId} {dI : Nat → Nat → Nat} {ad : Nat → Nat} {d : ClassId} {K : xK}
theorem lp_storePacked (G : xGood l R dC dI ad d RX0 cX0_storePacked 6 K) {f p z e : Nat} {σ1 : Sg} (hf : f < 4) (hp : p < 12) (hz : z < 16) (he : e < 8) (h13 : σ1 13 0 = nI z)
    (hR : xRetV cX0_storePacked K (fun σ' => σ' 7 = σ1 7 ∧ σ' 8 = σ1 8 ∧ σ' 0 = upd (σ1 0) p (nI 2) ∧ σ' 1 = upd (σ1 1) p (nI e) ∧ (∀ t, t < z → σ' 6 (bs e z + t) = σ1 12 t) ∧ (∀ t, (t < bs e z ∨ bs e z + z ≤ t) → σ' 6 t = σ1 6 t) ∧ ∀ a, a ≠ 0 → a ≠ 1 → a ≠ 2 → a ≠ 6 → a ≠ 7 → a ≠ 8 → a ≠ 9 → σ' a = σ1 a)) :
    ∀ t i σ, i ≤ z → z + 1 ≤ t + i → (∀ j, j < i → σ 6 (bs e z + j) = σ1 12 j) → (∀ t, (t < bs e z ∨ bs e z + z ≤ t) → σ 6 t = σ1 6 t) → (∀ a, a ≠ 6 → σ a = σ1 a) → K 43 [(0, .inr 2), (1, .inl (nI f)), (2, .inl (nI p)), (3, .inl (nI e)), (4, .inl (nI (bs e z))), (5, .inl (nI i))] [] σ := by
  intro t
  induction t with
  | zero => intro i σ h1 h2; omega
  | succ t ih =>
    intro i σ h1 h2 hc ho hk
    have hbl := bs_le he (show z ≤ 16 by omega)
    have hz' : σ 13 0 = nI z := by rw [hk 13 (by decide)]; exact h13
    refine r_iload G 43 dX0_storePacked_43 rfl ?_
    refine r_aload G 45 dX0_storePacked_45 rfl ?_
    refine r_f13 G 46 dX0_storePacked_46 ?_
    rw [hz']
    refine b_ge G 49 75 dX0_storePacked_49 (by decide) (by omega) (by omega) (fun h_49 => ?_) (fun h_49 => ?_)
    · refine r_aload G 75 dX0_storePacked_75 rfl ?_
      refine r_dup G 76 dX0_storePacked_76 ?_
      refine r_f2 G 77 dX0_storePacked_77 ?_
      refine r_iconst G 80 (nI 1) dX0_storePacked_80 (by decide) ?_
      refine r_iadd G 81 dX0_storePacked_81 rfl ?_
      refine r_p2 G 82 dX0_storePacked_82 ?_
      refine r_aload G 85 dX0_storePacked_85 rfl ?_
      refine r_f9 G 86 dX0_storePacked_86 ?_
      refine r_iload_n G 89 dX0_storePacked_89 rfl ?_
      refine r_aload G 90 dX0_storePacked_90 rfl ?_
      refine r_f2 G 91 dX0_storePacked_91 ?_
      refine r_ast G 94 4 rfl dX0_storePacked_94 rfl (by omega) ?_
      refine r_aload G 95 dX0_storePacked_95 rfl ?_
      refine r_f0 G 96 dX0_storePacked_96 ?_
      refine r_iload_n G 99 dX0_storePacked_99 rfl ?_
      refine r_iconst G 100 (nI 2) dX0_storePacked_100 (by decide) ?_
      refine r_ast G 101 12 rfl dX0_storePacked_101 rfl (by omega) ?_
      refine r_aload G 102 dX0_storePacked_102 rfl ?_
      refine r_f1 G 103 dX0_storePacked_103 ?_
      refine r_iload_n G 106 dX0_storePacked_106 rfl ?_
      refine r_iload_n G 107 dX0_storePacked_107 rfl ?_
      refine r_ast G 108 12 rfl dX0_storePacked_108 rfl (by omega) ?_
      exact hR 109 _ _ dX0_storePacked_109 (⟨hk 7 (by decide), hk 8 (by decide), show upd (σ 0) p (nI 2) = upd (σ1 0) p (nI 2) from by rw [hk 0 (by decide)], show upd (σ 1) p (nI e) = upd (σ1 1) p (nI e) from by rw [hk 1 (by decide)], fun j hj => hc j (by omega), ho, fun a q0 q1 q2 q6 q7 q8 q9 => (sw_up_n q1).trans ((sw_up_n q0).trans ((sw_up_n q9).trans ((sw_up_n q2).trans (hk a q6))))⟩)
    · refine r_aload G 52 dX0_storePacked_52 rfl ?_
      refine r_f6 G 53 dX0_storePacked_53 ?_
      refine r_iload G 56 dX0_storePacked_56 rfl ?_
      refine r_iload G 58 dX0_storePacked_58 rfl ?_
      refine r_iadd G 60 dX0_storePacked_60 (nI_add _ _) ?_
      refine r_aload G 61 dX0_storePacked_61 rfl ?_
      refine r_f12 G 62 dX0_storePacked_62 ?_
      refine r_iload G 65 dX0_storePacked_65 rfl ?_
      refine r_ald G 67 24 rfl dX0_storePacked_67 rfl (by omega) ?_
      refine r_ast G 68 64 rfl dX0_storePacked_68 rfl (by omega) ?_
      refine r_iinc G 69 dX0_storePacked_69 rfl (c_inc _) (Nat.le_of_ble_eq_true rfl) ?_
      refine r_goto G 72 43 dX0_storePacked_72 (by decide) ?_
      exact r_pick G [0, 1, 2, 3, 4, 5] (ih (i + 1) _ (by omega) (by omega) (fun j hj => by by_cases e : j = i; subst e; rw [sw_up_s, hk 12 (by decide)]; rw [sw_up_o (by omega)]; exact hc j (by omega)) (fun t ht => by rw [sw_up_o (by omega)]; exact ho t ht) (fun a ha => (sw_up_n ha).trans (hk a ha)))
theorem wk2_storePacked (G : xGood l R dC dI ad d RX0 cX0_storePacked 6 K) (hBs : ∀ e z, xCallI cX0_storePacked K 64 2 1 (Pr_baseOf e z) (Po_baseOf e z)) {f p z e : Nat} {σ : Sg} (hf : f < 4) (hp : p < 12) (hz : z < 16) (he : e < 8) (hef : e = f * 2 ∨ e = f * 2 + 1) (h13 : σ 13 0 = nI z) (h7 : σ 7 e = -1) (hR : xRetV cX0_storePacked K (Po_storePacked f p z [] σ)) : K 16 [(0, .inr 2), (1, .inl (nI f)), (2, .inl (nI p)), (3, .inl (nI e))] [] σ := by
  refine r_aload G 16 dX0_storePacked_16 rfl ?_
  refine r_f7 G 17 dX0_storePacked_17 ?_
  refine r_iload_n G 20 dX0_storePacked_20 rfl ?_
  refine r_iload_n G 21 dX0_storePacked_21 rfl ?_
  refine r_ast G 22 8 rfl dX0_storePacked_22 rfl (by omega) ?_
  refine r_aload G 23 dX0_storePacked_23 rfl ?_
  refine r_f8 G 24 dX0_storePacked_24 ?_
  refine r_iload_n G 27 dX0_storePacked_27 rfl ?_
  refine r_aload G 28 dX0_storePacked_28 rfl ?_
  refine r_f13 G 29 dX0_storePacked_29 ?_
  rw [show sw_up σ 7 e (nI p) 13 0 = nI z from h13]
  refine r_ast G 32 8 rfl dX0_storePacked_32 rfl (by omega) ?_
  refine r_aload G 33 dX0_storePacked_33 rfl ?_
  refine r_iload_n G 34 dX0_storePacked_34 rfl ?_
  refine c_I1 (hBs e z) 35 dX0_storePacked_35 (Nat.le_of_ble_eq_true rfl) ⟨rfl, he, by omega, sw_up_s _ _ _ _⟩ (fun r_35 σ_35 h_35 => ?_)
  obtain ⟨hs35, hr35⟩ := h_35
  rw [hs35, hr35]
  refine r_istore G 38 dX0_storePacked_38 (Nat.le_of_ble_eq_true rfl) ?_
  refine r_iconst G 40 (nI 0) dX0_storePacked_40 (by decide) ?_
  refine r_istore G 41 dX0_storePacked_41 (Nat.le_of_ble_eq_true rfl) ?_
  exact r_pick G [0, 1, 2, 3, 4, 5] (lp_storePacked (σ1 := sw_up (sw_up σ 7 e (nI p)) 8 e (nI z)) G hf hp hz he h13 (fun pc lv σ' hd hq => hR pc lv σ' hd ⟨e, hef, h7, hq.1, hq.2.1, hq.2.2.1, hq.2.2.2.1, hq.2.2.2.2.1, hq.2.2.2.2.2.1, fun a q0 q1 q2 q6 q7 q8 q9 => (hq.2.2.2.2.2.2 a q0 q1 q2 q6 q7 q8 q9).trans ((sw_up_n q8).trans (sw_up_n q7))⟩) (z + 1) 0 _ (by omega) (by omega) lt_0 (fun _ _ => rfl) (fun _ _ => rfl))
theorem wk_storePacked (G : xGood l R dC dI ad d RX0 cX0_storePacked 6 K) (hBs : ∀ e z, xCallI cX0_storePacked K 64 2 1 (Pr_baseOf e z) (Po_baseOf e z)) {f p z : Nat} {σ : Sg} (hf : f < 4) (hp : p < 12) (hz : z < 16) (h13 : σ 13 0 = nI z) (hfit : fits_ σ f z) (hR : xRetV cX0_storePacked K (Po_storePacked f p z [] σ)) : K 0 [(0, .inr 2), (1, .inl (nI f)), (2, .inl (nI p))] [] σ := by
  obtain ⟨w0, w1, o0, o1, hw, hor⟩ := hfit
  refine r_iload_n G 0 dX0_storePacked_0 rfl ?_
  refine r_iconst G 1 (nI 2) dX0_storePacked_1 (by decide) ?_
  refine r_imul G 2 dX0_storePacked_2 (pk_mul _ _) ?_
  refine r_istore_n G 3 dX0_storePacked_3 (Nat.le_of_ble_eq_true rfl) ?_
  refine r_aload G 4 dX0_storePacked_4 rfl ?_
  refine r_f7 G 5 dX0_storePacked_5 ?_
  refine r_iload_n G 8 dX0_storePacked_8 rfl ?_
  refine r_ald G 9 8 rfl dX0_storePacked_9 rfl (by omega) ?_
  refine r_if_lt G 10 16 dX0_storePacked_10 (by decide) (fun h_10 => ?_) (fun h_10 => ?_)
  · exact r_pick G [0, 1, 2, 3] (wk2_storePacked G hBs hf hp hz (by omega) (Or.inl rfl) h13 (occ_neg o0 h_10).1 hR)
  · refine r_iinc G 13 dX0_storePacked_13 rfl (c_inc _) (Nat.le_of_ble_eq_true rfl) ?_
    exact r_pick G [0, 1, 2, 3] (wk2_storePacked G hBs hf hp hz (by omega) (Or.inr rfl) h13 (by rcases hor with z | z; rw [z] at h_10; exact absurd m1_lt h_10; exact z) hR)
end SPACK
theorem met_storePacked (l : Launch) (dC : Nat → ClassId) (dI : Nat → Nat → Nat) (ad : Nat → Nat) (d : ClassId) (f p z : Nat) : xMetV l dC dI ad d yX0_storePacked cX0_storePacked 6 rm_poolFrame 2 2 (Pr_storePacked f p z) (Po_storePacked f p z) :=
  xMetV_of RX0 rfl (by decide) (by decide) (fun K G xs σ _ hp hR => by
    obtain ⟨hp, h1, h2, h3, h4, h5⟩ := hp
    subst hp; exact wk_storePacked G (fun e z => (x_callI G (met_baseOf l dC dI ad d e z) (lw_V q165 q167 qs18 q29 q168) xRec2 (by decide +kernel) rfl rfl ⟨Nat.le_of_ble_eq_true rfl, Nat.le_of_ble_eq_true rfl⟩)) h1 h2 h3 h4 h5 hR)
/-! blankFrame -/
def Pr_blankFrame (f : Nat) : List Int32 → Sg → Prop := fun xs _ => xs = [nI f] ∧ f < 3
def Po_blankFrame (f : Nat) : List Int32 → Sg → Int32 → Sg → Prop := fun _ σ r σ' => σ' = σ ∧ ((r = 1 ∧ ∀ i, i < 16 → σ 3 (f * 16 + i) = 0) ∨ (r = 0 ∧ ∃ i, i < 16 ∧ σ 3 (f * 16 + i) ≠ 0))
section BLANKF
variable {l : Launch} {R : Room} {dC : Nat → ClassId} {dI : Nat → Nat → Nat} {ad : Nat → Nat} {d : ClassId} {K : xK}
theorem lp_blankFrame (G : xGood l R dC dI ad d RX0 cX0_blankFrame 4 K) {f : Nat} {σ : Sg} (hf : f < 3) (hR : xRetI cX0_blankFrame K (Po_blankFrame f [] σ)) :
    ∀ t i b, i ≤ 16 → 17 ≤ t + i → ((b = 1 ∧ ∀ j, j < i → σ 3 (f * 16 + j) = 0) ∨ (b = 0 ∧ ∃ j, j < i ∧ σ 3 (f * 16 + j) ≠ 0)) → K 4 [(0, .inr 2), (1, .inl (nI f)), (2, .inl b), (3, .inl (nI i))] [] σ := by
  intro t
  induction t with
  | zero => intro i b h1 h2; omega
  | succ t ih =>
    intro i b h1 h2 hj
    refine r_iload_n G 4 dX0_blankFrame_4 rfl ?_
    refine r_bipush G 5 (nI 16) dX0_blankFrame_5 (by decide) ?_
    refine b_ge G 7 40 dX0_blankFrame_7 (by decide) (by omega) (by omega) (fun h_7 => ?_) (fun h_7 => ?_)
    · refine r_iload_n G 40 dX0_blankFrame_40 rfl ?_
      exact hR 41 _ _ _ dX0_blankFrame_41 (⟨rfl, by rcases hj with ⟨k1, k2⟩ | ⟨k1, j, k2, k3⟩; exact Or.inl ⟨k1, fun j hj => k2 j (by omega)⟩; exact Or.inr ⟨k1, j, by omega, k3⟩⟩)
    · refine r_iload_n G 10 dX0_blankFrame_10 rfl ?_
      refine r_if_eq G 11 32 dX0_blankFrame_11 (by decide) (fun h_11 => ?_) (fun h_11 => ?_)
      · refine r_iconst G 32 (nI 0) dX0_blankFrame_32 (by decide) ?_
        refine r_istore_n G 33 dX0_blankFrame_33 (Nat.le_of_ble_eq_true rfl) ?_
        refine r_iinc G 34 dX0_blankFrame_34 rfl (c_inc _) (Nat.le_of_ble_eq_true rfl) ?_
        refine r_goto G 37 4 dX0_blankFrame_37 (by decide) ?_
        exact r_pick G [0, 1, 2, 3] (ih (i + 1) (nI 0) (by omega) (by omega) (by rcases hj with ⟨k1, k2⟩ | ⟨k1, j, k2, k3⟩; rw [k1] at h_11; exact absurd h_11 (by decide); exact Or.inr ⟨rfl, j, by omega, k3⟩))
      · refine r_aload G 14 dX0_blankFrame_14 rfl ?_
        refine r_f3 G 15 dX0_blankFrame_15 ?_
        refine r_iload_n G 18 dX0_blankFrame_18 rfl ?_
        refine r_bipush G 19 (nI 16) dX0_blankFrame_19 (by decide) ?_
        refine r_imul G 21 dX0_blankFrame_21 (pk_mul _ _) ?_
        refine r_iload_n G 22 dX0_blankFrame_22 rfl ?_
        refine r_iadd G 23 dX0_blankFrame_23 (nI_add _ _) ?_
        refine r_ald G 24 48 rfl dX0_blankFrame_24 rfl (by omega) ?_
        refine r_if_ne G 25 32 dX0_blankFrame_25 (by decide) (fun h_25 => ?_) (fun h_25 => ?_)
        · refine r_iconst G 32 (nI 0) dX0_blankFrame_32 (by decide) ?_
          refine r_istore_n G 33 dX0_blankFrame_33 (Nat.le_of_ble_eq_true rfl) ?_
          refine r_iinc G 34 dX0_blankFrame_34 rfl (c_inc _) (Nat.le_of_ble_eq_true rfl) ?_
          refine r_goto G 37 4 dX0_blankFrame_37 (by decide) ?_
          exact r_pick G [0, 1, 2, 3] (ih (i + 1) (nI 0) (by omega) (by omega) (Or.inr ⟨rfl, i, by omega, h_25⟩))
        · refine r_iconst G 28 (nI 1) dX0_blankFrame_28 (by decide) ?_
          refine r_goto G 29 33 dX0_blankFrame_29 (by decide) ?_
          refine r_istore_n G 33 dX0_blankFrame_33 (Nat.le_of_ble_eq_true rfl) ?_
          refine r_iinc G 34 dX0_blankFrame_34 rfl (c_inc _) (Nat.le_of_ble_eq_true rfl) ?_
          refine r_goto G 37 4 dX0_blankFrame_37 (by decide) ?_
          exact r_pick G [0, 1, 2, 3] (ih (i + 1) (nI 1) (by omega) (by omega) (by rcases hj with ⟨k1, k2⟩ | ⟨k1, j, k2, k3⟩; exact Or.inl ⟨rfl, lt_s k2 h_25⟩; exact absurd k1 h_11))
theorem wk_blankFrame (G : xGood l R dC dI ad d RX0 cX0_blankFrame 4 K) {f : Nat} {σ : Sg} (hf : f < 3) (hR : xRetI cX0_blankFrame K (Po_blankFrame f [] σ)) : K 0 [(0, .inr 2), (1, .inl (nI f))] [] σ := by
  refine r_iconst G 0 (nI 1) dX0_blankFrame_0 (by decide) ?_
  refine r_istore_n G 1 dX0_blankFrame_1 (Nat.le_of_ble_eq_true rfl) ?_
  refine r_iconst G 2 (nI 0) dX0_blankFrame_2 (by decide) ?_
  refine r_istore_n G 3 dX0_blankFrame_3 (Nat.le_of_ble_eq_true rfl) ?_
  exact r_pick G [0, 1, 2, 3] (lp_blankFrame G hf hR 17 0 (nI 1) (by omega) (by omega) (Or.inl ⟨rfl, lt_0⟩))
end BLANKF
theorem met_blankFrame (l : Launch) (dC : Nat → ClassId) (dI : Nat → Nat → Nat) (ad : Nat → Nat) (d : ClassId) (f : Nat) : xMetI l dC dI ad d yX0_blankFrame cX0_blankFrame 4 (some .boolean) rmz 2 1 (Pr_blankFrame f) (Po_blankFrame f) :=
  xMetZ_of RX0 rfl (by decide) (by decide) (fun _ _ _ _ h => by rcases h.2 with g | g; exact Or.inr g.1; exact Or.inl g.1) (fun K G xs σ _ hp hR => by
    obtain ⟨hp, h1⟩ := hp
    subst hp; exact wk_blankFrame G h1 hR)
end
section
/-! pages to slots, to the pool, to frames; writeBack, evict, freeFrame -/
theorem iv_neg {σ : Sg} {M : Nat → Nat → Int32} {L : List Nat} {kd j : Nat} (h : Iv σ M L) (h1 : 1 ≤ kd) (h3 : kd ≤ 3) (hj : j < onum kd) (hn : σ (oa kd) j < 0) : σ (oa kd) j = -1 := by
  rcases h.2.1 kd j h1 h3 hj with g | ⟨p, g1, g2, g3, g4⟩
  · exact g
  · rw [g3] at hn; exact absurd hn (nI_pos (by omega))
theorem iv_pos {σ : Sg} {M : Nat → Nat → Int32} {L : List Nat} {kd j : Nat} (h : Iv σ M L) (h1 : 1 ≤ kd) (h3 : kd ≤ 3) (hj : j < onum kd) (hn : ¬ σ (oa kd) j < 0) : ∃ p, p < 12 ∧ p ∉ L ∧ σ (oa kd) j = nI p ∧ σ 0 p = nI kd ∧ σ 1 p = nI j ∧ cont σ kd j (M p) := by
  rcases h.2.1 kd j h1 h3 hj with g | ⟨p, g1, g2, g3, g4, g5⟩
  · rw [g] at hn; exact absurd m1_lt hn
  · refine ⟨p, g1, g2, g3, g4, g5, ?_⟩
    rcases h.1 p g1 g2 with ⟨q1, q2⟩ | ⟨kd', j', q1, q2, q3, q4, q5, q6, q7⟩
    · rw [g4] at q1
      exact absurd (nI_inj (by omega) (by omega) q1) (by omega)
    · rw [g4] at q4; rw [g5] at q5
      have := onum_le q1 q2
      have := onum_le h1 h3
      have e1 := nI_inj (by omega) (by omega) q4
      have e2 := nI_inj (by omega) (by omega) q5
      subst e1; subst e2
      exact q7
theorem iv_packed {σ : Sg} {M : Nat → Nat → Int32} {L : List Nat} {e : Nat} (h : Iv σ M L) (he : e < 8) (hn : ¬ σ 7 e < 0) : ∃ p z n, p < 12 ∧ p ∉ L ∧ σ 7 e = nI p ∧ σ 0 p = nI 2 ∧ z < 16 ∧ σ 8 e = nI z ∧ pg_nz (M p) ∧ pth n (fun t => σ 6 (bs e z + t)) (M p) 0 0 z 16 := by
  obtain ⟨p, g1, g2, g3, g4, g5, g6⟩ := iv_pos (kd := 2) h (by decide) (by decide) he hn
  rcases g6 with ⟨k1, _⟩ | ⟨k1, k2, z, n, k3, k4, k5⟩ | ⟨k1, _⟩
  · exact absurd k1 (by decide)
  · exact ⟨p, z, n, g1, g2, g3, g4, k3, k4, k2, k5⟩
  · exact absurd k1 (by decide)
theorem iv_toSlot {σ σ' : Sg} {M : Nat → Nat → Int32} {L : List Nat} {s p : Nat} (h : Iv σ M (p :: L)) (hp : p < 12) (hpL : p ∉ L) (hs : s < 12) (hfree : σ 11 s = -1) (nz : pg_nz (M p)) (hpl : ∀ i, i < 16 → σ 14 i = M p i) (hpo : Po_storeSlot s p [] σ σ') : Iv σ' M L := by
  obtain ⟨e11, e0, e1, hc, ho, hk⟩ := hpo
  refine iv_add (kd := 3) (j := s) h hp (by decide) (by decide) hs hfree hpL e0 e1 e11 (fun kd' q1 q3 hne => ?_) (Or.inr (Or.inr ⟨rfl, nz, fun i hi => by rw [hc i hi]; exact hpl i hi⟩)) (fun kd' j' X q1 q3 hj hne _ hcont => ?_) ?_
  · rcases kd_cases q1 q3 with rfl | rfl | rfl
    · exact hk 4 (by decide) (by decide) (by decide) (by decide)
    · exact hk 7 (by decide) (by decide) (by decide) (by decide)
    · exact absurd rfl hne
  · rcases hcont with ⟨k1, k2⟩ | ⟨k1, k2, z, n, k3, k4, k5⟩ | ⟨k1, k2, k3⟩
    · exact Or.inl ⟨k1, by rw [hk 3 (by decide) (by decide) (by decide) (by decide)]; exact k2⟩
    · exact Or.inr (Or.inl ⟨k1, k2, z, n, k3, by rw [hk 8 (by decide) (by decide) (by decide) (by decide)]; exact k4, by rw [hk 6 (by decide) (by decide) (by decide) (by decide)]; exact k5⟩)
    · refine Or.inr (Or.inr ⟨k1, k2, fun i hi => ?_⟩)
      have hjs : j' ≠ s := fun z => hne ⟨k1, z⟩
      rw [ho _ (by omega)]
      exact k3 i hi
  · unfold psz
    rw [hk 7 (by decide) (by decide) (by decide) (by decide), hk 8 (by decide) (by decide) (by decide) (by decide)]
    exact h.2.2
theorem iv_toPool {σ σ' : Sg} {M : Nat → Nat → Int32} {L : List Nat} {f p z n : Nat} (h : Iv σ M (p :: L)) (hp : p < 12) (hpL : p ∉ L) (hf : f < 4) (hz : z < 16) (hfit : fits_ σ f z) (nz : pg_nz (M p)) (hpath : pth n (σ 12) (M p) 0 0 z 16) (hpo : Po_storePacked f p z [] σ σ') : Iv σ' M L := by
  obtain ⟨e, hef, hfree, e7, e8, e0, e1, hc, ho, hk⟩ := hpo
  obtain ⟨w0, w1, o0, o1, hw, -⟩ := hfit
  have hsz : ∀ j w, (j = f * 2 ∨ j = f * 2 + 1) → σ 7 j ≠ -1 → w < 16 → σ 8 j = nI w → w + z ≤ 16 := by
    intro j w hj hn hw16 h8
    rcases hj with rfl | rfl
    · rcases o0 with ⟨g1, g2⟩ | ⟨q, g1, g2, g3, g4⟩
      · exact absurd g1 hn
      · rw [g4] at h8
        have := nI_inj (by omega) (by omega) h8
        omega
    · rcases o1 with ⟨g1, g2⟩ | ⟨q, g1, g2, g3, g4⟩
      · exact absurd g1 hn
      · rw [g4] at h8
        have := nI_inj (by omega) (by omega) h8
        omega
  refine iv_add (kd := 2) (j := e) h hp (by decide) (by decide) (show e < 8 by omega) hfree hpL e0 e1 e7 (fun kd' q1 q3 hne => ?_) (Or.inr (Or.inl ⟨rfl, nz, z, n, hz, by rw [e8]; exact upd_s _ _ _, pth_cong hpath (fun j _ hj => hc j hj) (fun _ _ => rfl)⟩)) (fun kd' j' X q1 q3 hj hne hocc hcont => ?_) ?_
  · rcases kd_cases q1 q3 with rfl | rfl | rfl
    · exact hk 4 (by decide) (by decide) (by decide) (by decide) (by decide) (by decide) (by decide)
    · exact absurd rfl hne
    · exact hk 11 (by decide) (by decide) (by decide) (by decide) (by decide) (by decide) (by decide)
  · rcases hcont with ⟨k1, k2⟩ | ⟨k1, k2, z', n', k3, k4, k5⟩ | ⟨k1, k2, k3⟩
    · exact Or.inl ⟨k1, by rw [hk 3 (by decide) (by decide) (by decide) (by decide) (by decide) (by decide) (by decide)]; exact k2⟩
    · have hje : j' ≠ e := fun z => hne ⟨k1, z⟩
      subst k1
      refine Or.inr (Or.inl ⟨rfl, k2, z', n', k3, by rw [e8, upd_o hje]; exact k4, pth_cong k5 (fun t _ ht => ho _ ?_) (fun _ _ => rfl)⟩)
      have hj8 : j' < 8 := hj
      by_cases hsame : j' = f * 2 ∨ j' = f * 2 + 1
      · have := hsz j' z' hsame hocc k3 k4
        rcases hef with rfl | rfl <;> rcases hsame with rfl | rfl
        · exact absurd rfl hje
        · unfold bs
          rw [if_pos (by omega), if_neg (by omega)]
          omega
        · unfold bs
          rw [if_neg (by omega), if_pos (by omega)]
          omega
        · exact absurd rfl hje
      · have : j' / 2 ≠ e / 2 := by omega
        unfold bs
        split <;> split <;> omega
    · exact Or.inr (Or.inr ⟨k1, k2, by rw [hk 10 (by decide) (by decide) (by decide) (by decide) (by decide) (by decide) (by decide)]; exact k3⟩)
  · intro g hg
    rw [e7, e8]
    intro n0 n1 z0 z1 hz0 hz1 h0 h1
    by_cases hgf : g = f
    · subst hgf
      rcases hef with rfl | rfl
      · rw [upd_s] at h0
        rw [upd_o (by omega)] at h1 n1
        have := nI_inj (by omega) (by omega) h0
        have := hsz _ z1 (Or.inr rfl) n1 hz1 h1
        omega
      · rw [upd_s] at h1
        rw [upd_o (by omega)] at h0 n0
        have := nI_inj (by omega) (by omega) h1
        have := hsz _ z0 (Or.inl rfl) n0 hz0 h0
        omega
    · rw [upd_o (by omega)] at n0 n1 h0 h1
      exact h.2.2 g hg n0 n1 z0 z1 hz0 hz1 h0 h1
theorem iv_toFrame {σ σ' : Sg} {M : Nat → Nat → Int32} {L : List Nat} {f p : Nat} (h : Iv σ M (p :: L)) (hp : p < 12) (hpL : p ∉ L) (hf : f < 3) (hfree : σ 4 f = -1) (e0 : σ' 0 = upd (σ 0) p (nI 1)) (e1 : σ' 1 = upd (σ 1) p (nI f)) (e4 : σ' 4 = upd (σ 4) f (nI p)) (hc : ∀ i, i < 16 → σ' 3 (f * 16 + i) = M p i) (ho : ∀ t, (t < f * 16 ∨ f * 16 + 16 ≤ t) → σ' 3 t = σ 3 t) (e6 : σ' 6 = σ 6) (e7 : σ' 7 = σ 7) (e8 : σ' 8 = σ 8) (e10 : σ' 10 = σ 10) (e11 : σ' 11 = σ 11) : Iv σ' M L := by
  refine iv_add (kd := 1) (j := f) h hp (by decide) (by decide) hf hfree hpL e0 e1 e4 (fun kd' q1 q3 hne => ?_) (Or.inl ⟨rfl, hc⟩) (fun kd' j' X q1 q3 hj hne _ hcont => ?_) ?_
  · rcases kd_cases q1 q3 with rfl | rfl | rfl
    · exact absurd rfl hne
    · exact e7
    · exact e11
  · rcases hcont with ⟨k1, k2⟩ | ⟨k1, k2, z, n, k3, k4, k5⟩ | ⟨k1, k2, k3⟩
    · refine Or.inl ⟨k1, fun i hi => ?_⟩
      have hjs : j' ≠ f := fun z => hne ⟨k1, z⟩
      rw [ho _ (by omega)]
      exact k2 i hi
    · exact Or.inr (Or.inl ⟨k1, k2, z, n, k3, by rw [e8]; exact k4, by rw [e6]; exact k5⟩)
    · exact Or.inr (Or.inr ⟨k1, k2, by rw [e10]; exact k3⟩)
  · unfold psz
    rw [e7, e8]
    exact h.2.2
/-- no page has come to a frame -/
def kq (σ σ' : Sg) : Prop := ∀ q, q < 12 → σ' 0 q = nI 1 → σ 0 q = nI 1
theorem kq_trans {a b c : Sg} (h : kq a b) (g : kq b c) : kq a c := fun q hq e => h q hq (g q hq e)
theorem kq_upd {σ σ' : Sg} {p k : Nat} (e0 : σ' 0 = upd (σ 0) p (nI k)) (hk : k ≠ 1) (hk4 : k < 4) : kq σ σ' := by
  intro q hq e
  rw [e0] at e
  by_cases z : q = p
  · rw [z, upd_s] at e
    exact absurd (nI_inj (by omega) (by omega) e) hk
  · rw [upd_o z] at e
    exact e
/-! writeBack -/
def Pr_writeBack (f : Nat) (M : Nat → Nat → Int32) (L : List Nat) : List Int32 → Sg → Prop := fun xs σ => xs = [nI f] ∧ f < 4 ∧ Iv σ M L
def Po_writeBack (f : Nat) (M : Nat → Nat → Int32) (L : List Nat) : List Int32 → Sg → Sg → Prop := fun _ σ σ' => Iv σ' M L ∧ σ' 7 (f * 2) = -1 ∧ σ' 7 (f * 2 + 1) = -1 ∧ kq σ σ' ∧ ∀ a, a ≠ 0 → a ≠ 1 → a ≠ 7 → a ≠ 10 → a ≠ 11 → a ≠ 14 → σ' a = σ a
section WB
variable {l : Launch} {R : Room} {dC : Nat → ClassId} {dI : Nat → Nat → Nat} {ad : Nat → Nat} {d : ClassId} {K : xK}
theorem lp_writeBack (G : xGood l R dC dI ad d RX0 cX0_writeBack 5 K) (hU : ∀ e z n X, xCallV cX0_writeBack K 77 2 1 (Pr_unpack e z n X) (Po_unpack X)) (hF : ∀ p, xCallI cX0_writeBack K 80 2 1 (Pr_freeSlot p) Po_freeSlot) (hSt : ∀ s p, xCallV cX0_writeBack K 83 2 2 (Pr_storeSlot s p) (Po_storeSlot s p)) {f : Nat} {M : Nat → Nat → Int32} {L : List Nat} {σ0 : Sg} (hf : f < 4) (hR : xRetV cX0_writeBack K (Po_writeBack f M L [] σ0)) :
    ∀ t c σ, c ≤ 2 → 3 ≤ t + c → Iv σ M L → (∀ j, j < c → σ 7 (f * 2 + j) = -1) → kq σ0 σ → (∀ a, a ≠ 0 → a ≠ 1 → a ≠ 7 → a ≠ 10 → a ≠ 11 → a ≠ 14 → σ a = σ0 a) → K 4 [(0, .inr 2), (1, .inl (nI f)), (2, .inl (nI (f * 2 + c)))] [] σ := by
  intro t
  induction t with
  | zero => intro c σ h1 h2; omega
  | succ t ih =>
    intro c σ h1 h2 hI hc hq hk
    refine r_iload_n G 4 dX0_writeBack_4 rfl ?_
    refine r_iload_n G 5 dX0_writeBack_5 rfl ?_
    refine r_iconst G 6 (nI 2) dX0_writeBack_6 (by decide) ?_
    refine r_imul G 7 dX0_writeBack_7 (pk_mul _ _) ?_
    refine r_iconst G 8 (nI 1) dX0_writeBack_8 (by decide) ?_
    refine r_iadd G 9 dX0_writeBack_9 (nI_add _ _) ?_
    refine b_gt G 10 61 dX0_writeBack_10 (by decide) (by omega) (by omega) (fun h_10 => ?_) (fun h_10 => ?_)
    · exact hR 61 _ _ dX0_writeBack_61 (⟨hI, hc 0 (by omega), hc 1 (by omega), hq, hk⟩)
    · refine r_aload G 13 dX0_writeBack_13 rfl ?_
      refine r_f7 G 14 dX0_writeBack_14 ?_
      refine r_iload_n G 17 dX0_writeBack_17 rfl ?_
      refine r_ald G 18 8 rfl dX0_writeBack_18 rfl (by omega) ?_
      refine r_if_lt G 19 55 dX0_writeBack_19 (by decide) (fun h_19 => ?_) (fun h_19 => ?_)
      · refine r_iinc G 55 dX0_writeBack_55 rfl (c_inc _) (Nat.le_of_ble_eq_true rfl) ?_
        refine r_goto G 58 4 dX0_writeBack_58 (by decide) ?_
        exact r_pick G [0, 1, 2] (ih (c + 1) σ (by omega) (by omega) hI (lt_s hc (iv_neg (kd := 2) hI (by decide) (by decide) (show f * 2 + c < 8 by omega) h_19)) hq hk)
      · obtain ⟨p, z, n, hp, hpL, h7, h0, hz, h8, nz, hpath⟩ := iv_packed hI (show f * 2 + c < 8 by omega) h_19
        refine r_aload G 22 dX0_writeBack_22 rfl ?_
        refine r_iload_n G 23 dX0_writeBack_23 rfl ?_
        refine c_V1 (hU (f * 2 + c) z n (M p)) 24 dX0_writeBack_24 (Nat.le_of_ble_eq_true rfl) ⟨rfl, by omega, hz, h8, hpath⟩ (fun σ_24 h_24 => ?_)
        obtain ⟨hu1, hu2⟩ := h_24
        refine r_aload G 27 dX0_writeBack_27 rfl ?_
        refine r_f7 G 28 dX0_writeBack_28 ?_
        refine r_iload_n G 31 dX0_writeBack_31 rfl ?_
        refine r_ald G 32 8 rfl dX0_writeBack_32 rfl (by omega) ?_
        rw [show σ_24 7 (f * 2 + c) = nI p from by rw [hu2 7 (by decide)]; exact h7]
        refine r_istore_n G 33 dX0_writeBack_33 (Nat.le_of_ble_eq_true rfl) ?_
        refine r_aload G 34 dX0_writeBack_34 rfl ?_
        refine r_f7 G 35 dX0_writeBack_35 ?_
        refine r_iload_n G 38 dX0_writeBack_38 rfl ?_
        refine r_iconst G 39 (-1) dX0_writeBack_39 (by decide) ?_
        refine r_ast G 40 8 rfl dX0_writeBack_40 rfl (by omega) ?_
        have hrm := iv_rm (kd := 2) hI (by decide) (by decide) (show f * 2 + c < 8 by omega) h7 hp
        have hI4 : Iv (sw_up σ_24 7 (f * 2 + c) (-1)) M (p :: L) := by
          have eu : ∀ a, a ≠ 14 → sw_up σ_24 7 (f * 2 + c) (-1) a = sw_up σ 7 (f * 2 + c) (-1) a := fun a ha => by
            by_cases e : a = 7
            · subst e; rw [sw_up_k, sw_up_k, hu2 7 (by decide)]
            · rw [sw_up_n e, sw_up_n e, hu2 a ha]
          exact iv_same hrm.2.2.2 (eu 0 (by decide)) (eu 1 (by decide)) (eu 3 (by decide)) (eu 4 (by decide)) (eu 6 (by decide)) (eu 7 (by decide)) (eu 8 (by decide)) (eu 10 (by decide)) (eu 11 (by decide))
        refine r_aload G 41 dX0_writeBack_41 rfl ?_
        refine r_iload_n G 42 dX0_writeBack_42 rfl ?_
        refine c_I1 (hF p) 43 dX0_writeBack_43 (Nat.le_of_ble_eq_true rfl) ⟨rfl, hp, iv_slot hI4 hp (Or.inl List.mem_cons_self)⟩ (fun r_43 σ_43 h_43 => ?_)
        obtain ⟨hs43, s, hs, hr43, hfr⟩ := h_43
        rw [hs43, hr43]
        refine r_istore G 46 dX0_writeBack_46 (Nat.le_of_ble_eq_true rfl) ?_
        refine r_aload G 48 dX0_writeBack_48 rfl ?_
        refine r_iload G 49 dX0_writeBack_49 rfl ?_
        refine r_iload_n G 51 dX0_writeBack_51 rfl ?_
        refine c_V2 (hSt s p) 52 dX0_writeBack_52 (Nat.le_of_ble_eq_true rfl) ⟨rfl, hs, hp⟩ (fun σ_52 h_52 => ?_)
        have hI5 := iv_toSlot hI4 hp hrm.1 hs (iv_neg (kd := 3) hI4 (by decide) (by decide) hs hfr) nz (fun i hi => hu1 i hi) h_52
        obtain ⟨e11, e0, e1, hsc, hso, hsk⟩ := h_52
        refine r_iinc G 55 dX0_writeBack_55 rfl (c_inc _) (Nat.le_of_ble_eq_true rfl) ?_
        refine r_goto G 58 4 dX0_writeBack_58 (by decide) ?_
        exact r_pick G [0, 1, 2] (ih (c + 1) σ_52 (by omega) (by omega) hI5 (fun j hj => by rw [hsk 7 (by decide) (by decide) (by decide) (by decide)]; by_cases e : j = c; subst e; exact sw_up_s _ _ _ _; rw [sw_up_o (by omega), hu2 7 (by decide)]; exact hc j (by omega)) (kq_trans hq (kq_upd (σ := σ) (by rw [e0]; rw [sw_up_n (by decide), hu2 0 (by decide)]) (by decide) (by decide))) (fun a a0 a1 a7 a10 a11 a14 => (hsk a a0 a1 a10 a11).trans ((sw_up_n a7).trans ((hu2 a a14).trans (hk a a0 a1 a7 a10 a11 a14)))))
theorem wk_writeBack (G : xGood l R dC dI ad d RX0 cX0_writeBack 5 K) (hU : ∀ e z n X, xCallV cX0_writeBack K 77 2 1 (Pr_unpack e z n X) (Po_unpack X)) (hF : ∀ p, xCallI cX0_writeBack K 80 2 1 (Pr_freeSlot p) Po_freeSlot) (hSt : ∀ s p, xCallV cX0_writeBack K 83 2 2 (Pr_storeSlot s p) (Po_storeSlot s p)) {f : Nat} {M : Nat → Nat → Int32} {L : List Nat} {σ : Sg} (hf : f < 4) (hI : Iv σ M L) (hR : xRetV cX0_writeBack K (Po_writeBack f M L [] σ)) : K 0 [(0, .inr 2), (1, .inl (nI f))] [] σ := by
  refine r_iload_n G 0 dX0_writeBack_0 rfl ?_
  refine r_iconst G 1 (nI 2) dX0_writeBack_1 (by decide) ?_
  refine r_imul G 2 dX0_writeBack_2 (pk_mul _ _) ?_
  refine r_istore_n G 3 dX0_writeBack_3 (Nat.le_of_ble_eq_true rfl) ?_
  exact r_pick G [0, 1, 2] (lp_writeBack G hU hF hSt hf hR 3 0 σ (by omega) (by omega) hI lt_0 (fun _ _ e => e) (fun _ _ _ _ _ _ _ => rfl))
end WB
abbrev rm_writeBack : Room := { frames := 2, cells := 0, slots := 0, locals := 52 }
theorem met_writeBack (l : Launch) (dC : Nat → ClassId) (dI : Nat → Nat → Nat) (ad : Nat → Nat) (d : ClassId) (f : Nat) (M : Nat → Nat → Int32) (L : List Nat) : xMetV l dC dI ad d yX0_writeBack cX0_writeBack 5 rm_writeBack 2 1 (Pr_writeBack f M L) (Po_writeBack f M L) :=
  xMetV_of RX0 rfl (by decide) (by decide) (fun K G xs σ _ hp hR => by
    obtain ⟨hp, h1, h2⟩ := hp
    subst hp
    exact wk_writeBack G (fun e z n X => (x_callV G (met_unpack l dC dI ad d e z n X) (lw_V q161 q163 qs17 q29 q164) xRec2 (by decide +kernel) rfl rfl ⟨Nat.le_of_ble_eq_true rfl, Nat.le_of_ble_eq_true rfl⟩)) (fun p => (x_callI G (met_freeSlot l dC dI ad d p) (lw_V q133 q135 qs10 q29 q136) xRec2 (by decide +kernel) rfl rfl ⟨Nat.le_of_ble_eq_true rfl, Nat.le_of_ble_eq_true rfl⟩)) (fun s p => (x_callV G (met_storeSlot l dC dI ad d s p) (lw_V q137 q139 qs11 q29 q140) xRec2 (by decide +kernel) rfl rfl ⟨Nat.le_of_ble_eq_true rfl, Nat.le_of_ble_eq_true rfl⟩)) h1 h2 hR)
end
section
/-! evict, freeFrame -/
def Pr_evict (f p : Nat) (M : Nat → Nat → Int32) : List Int32 → Sg → Prop := fun xs σ => xs = [nI f] ∧ f < 3 ∧ p < 12 ∧ σ 4 f = nI p ∧ Iv σ M []
def Po_evict (f : Nat) (M : Nat → Nat → Int32) : List Int32 → Sg → Sg → Prop := fun _ σ σ' => Iv σ' M [] ∧ σ' 4 f = -1 ∧ kq σ σ' ∧ σ' 15 = σ 15 ∧ σ' 16 = σ 16
section EVICT
variable {l : Launch} {R : Room} {dC : Nat → ClassId} {dI : Nat → Nat → Nat} {ad : Nat → Nat} {d : ClassId} {K : xK}
theorem lp_evict (G : xGood l R dC dI ad d RX0 cX0_evict 5 K) {f p : Nat} {σ1 : Sg} (hf : f < 3) (hcont : ∀ σ', (∀ j, j < 16 → σ' 14 j = σ1 3 (f * 16 + j)) → (∀ a, a ≠ 14 → σ' a = σ1 a) → K 81 [(0, .inr 2), (1, .inl (nI f)), (2, .inl (nI p))] [] σ') :
    ∀ t i σ, i ≤ 16 → 17 ≤ t + i → (∀ j, j < i → σ 14 j = σ1 3 (f * 16 + j)) → (∀ a, a ≠ 14 → σ a = σ1 a) → K 49 [(0, .inr 2), (1, .inl (nI f)), (2, .inl (nI p)), (4, .inl (nI i))] [] σ := by
  intro t
  induction t with
  | zero => intro i σ h1 h2; omega
  | succ t ih =>
    intro i σ h1 h2 hc hk
    refine r_iload G 49 dX0_evict_49 rfl ?_
    refine r_bipush G 51 (nI 16) dX0_evict_51 (by decide) ?_
    refine b_ge G 53 81 dX0_evict_53 (by decide) (by omega) (by omega) (fun h_53 => ?_) (fun h_53 => ?_)
    · exact r_pick G [0, 1, 2] (hcont σ (fun j hj => hc j (by omega)) hk)
    · refine r_aload G 56 dX0_evict_56 rfl ?_
      refine r_f14 G 57 dX0_evict_57 ?_
      refine r_iload G 60 dX0_evict_60 rfl ?_
      refine r_aload G 62 dX0_evict_62 rfl ?_
      refine r_f3 G 63 dX0_evict_63 ?_
      refine r_iload_n G 66 dX0_evict_66 rfl ?_
      refine r_bipush G 67 (nI 16) dX0_evict_67 (by decide) ?_
      refine r_imul G 69 dX0_evict_69 (pk_mul _ _) ?_
      refine r_iload G 70 dX0_evict_70 rfl ?_
      refine r_iadd G 72 dX0_evict_72 (nI_add _ _) ?_
      refine r_ald G 73 48 rfl dX0_evict_73 rfl (by omega) ?_
      refine r_ast G 74 16 rfl dX0_evict_74 rfl (by omega) ?_
      refine r_iinc G 75 dX0_evict_75 rfl (c_inc _) (Nat.le_of_ble_eq_true rfl) ?_
      refine r_goto G 78 49 dX0_evict_78 (by decide) ?_
      exact r_pick G [0, 1, 2, 4] (ih (i + 1) _ (by omega) (by omega) (fun j hj => by by_cases e : j = i; subst e; rw [sw_up_s, hk 3 (by decide)]; rw [sw_up_o e]; exact hc j (by omega)) (fun a ha => (sw_up_n ha).trans (hk a ha)))
theorem wk81_evict (G : xGood l R dC dI ad d RX0 cX0_evict 5 K) (hF : ∀ p, xCallI cX0_evict K 80 2 1 (Pr_freeSlot p) Po_freeSlot) (hSt : ∀ s p, xCallV cX0_evict K 83 2 2 (Pr_storeSlot s p) (Po_storeSlot s p)) {f p : Nat} {M : Nat → Nat → Int32} {σ0 σ : Sg} (hp : p < 12) (hI : Iv σ M [p]) (nz : pg_nz (M p)) (hpl : ∀ j, j < 16 → σ 14 j = M p j) (h4 : σ 4 f = -1) (hq : kq σ0 σ) (h15 : σ 15 = σ0 15) (h16 : σ 16 = σ0 16) (hR : xRetV cX0_evict K (Po_evict f M [] σ0)) : K 81 [(0, .inr 2), (1, .inl (nI f)), (2, .inl (nI p))] [] σ := by
  refine r_aload G 81 dX0_evict_81 rfl ?_
  refine r_f0 G 82 dX0_evict_82 ?_
  refine r_iload_n G 85 dX0_evict_85 rfl ?_
  refine r_iconst G 86 (nI 0) dX0_evict_86 (by decide) ?_
  refine r_ast G 87 12 rfl dX0_evict_87 rfl (by omega) ?_
  have hI3 : Iv (sw_up σ 0 p (nI 0)) M [p] := iv_lim hI (fun q hq => by rw [sw_up_o hq]) (fun q hq => by rw [sw_up_n (by decide)]) (fun k h0 h1 => sw_up_n h0)
  refine r_aload G 88 dX0_evict_88 rfl ?_
  refine r_iload_n G 89 dX0_evict_89 rfl ?_
  refine c_I1 (hF p) 90 dX0_evict_90 (Nat.le_of_ble_eq_true rfl) ⟨rfl, hp, iv_slot hI3 hp (Or.inl List.mem_cons_self)⟩ (fun r_90 σ_90 h_90 => ?_)
  obtain ⟨hs90, s, hs, hr90, hfr⟩ := h_90
  rw [hs90, hr90]
  refine r_istore G 93 dX0_evict_93 (Nat.le_of_ble_eq_true rfl) ?_
  refine r_aload G 95 dX0_evict_95 rfl ?_
  refine r_iload G 96 dX0_evict_96 rfl ?_
  refine r_iload_n G 98 dX0_evict_98 rfl ?_
  refine c_V2 (hSt s p) 99 dX0_evict_99 (Nat.le_of_ble_eq_true rfl) ⟨rfl, hs, hp⟩ (fun σ_99 h_99 => ?_)
  have hI5 := iv_toSlot hI3 hp List.not_mem_nil hs (iv_neg (kd := 3) hI3 (by decide) (by decide) hs hfr) nz hpl h_99
  obtain ⟨e11, e0, e1, hsc, hso, hsk⟩ := h_99
  exact hR 102 _ _ dX0_evict_102 (⟨hI5, (congrFun (hsk 4 (by decide) (by decide) (by decide) (by decide)) f).trans h4, kq_trans hq (kq_trans (kq_upd (σ' := sw_up σ 0 p (nI 0)) (sw_up_k _ _ _ _) (by decide) (by decide)) (kq_upd e0 (by decide) (by decide))), (hsk 15 (by decide) (by decide) (by decide) (by decide)).trans h15, (hsk 16 (by decide) (by decide) (by decide) (by decide)).trans h16⟩)
theorem wk_evict (G : xGood l R dC dI ad d RX0 cX0_evict 5 K) (hBl : ∀ f, xCallI cX0_evict K 90 2 1 (Pr_blankFrame f) (Po_blankFrame f)) (hPk : ∀ f, xCallV cX0_evict K 94 2 1 (Pr_pack f) (Po_pack f)) (hF : ∀ p, xCallI cX0_evict K 80 2 1 (Pr_freeSlot p) Po_freeSlot) (hSt : ∀ s p, xCallV cX0_evict K 83 2 2 (Pr_storeSlot s p) (Po_storeSlot s p)) (hPF : ∀ z, xCallI cX0_evict K 97 2 1 (Pr_poolFrame z) (Po_poolFrame z)) (hO : xCallI cX0_evict K 100 2 0 Pr_0 Po_oldest) (hWB : ∀ f M L, xCallV cX0_evict K 104 2 1 (Pr_writeBack f M L) (Po_writeBack f M L)) (hSP : ∀ f p z, xCallV cX0_evict K 107 2 2 (Pr_storePacked f p z) (Po_storePacked f p z)) {f p : Nat} {M : Nat → Nat → Int32} {σ : Sg} (hf : f < 3) (hp : p < 12) (h4 : σ 4 f = nI p) (hI : Iv σ M []) (hR : xRetV cX0_evict K (Po_evict f M [] σ)) : K 0 [(0, .inr 2), (1, .inl (nI f))] [] σ := by
  have hrm := iv_rm (kd := 1) hI (by decide) (by decide) hf h4 hp
  have hat := (iv_at hI hp List.not_mem_nil hrm.2.1 hrm.2.2.1 (by omega)).2.2
  have hI1 : Iv (sw_up σ 4 f (-1)) M [p] := hrm.2.2.2
  have hq1 : kq σ (sw_up σ 4 f (-1)) := fun q _ e => e
  refine r_aload G 0 dX0_evict_0 rfl ?_
  refine r_f4 G 1 dX0_evict_1 ?_
  refine r_iload_n G 4 dX0_evict_4 rfl ?_
  refine r_ald G 5 3 rfl dX0_evict_5 rfl (by omega) ?_
  rw [h4]
  refine r_istore_n G 6 dX0_evict_6 (Nat.le_of_ble_eq_true rfl) ?_
  refine r_aload G 7 dX0_evict_7 rfl ?_
  refine r_f4 G 8 dX0_evict_8 ?_
  refine r_iload_n G 11 dX0_evict_11 rfl ?_
  refine r_iconst G 12 (-1) dX0_evict_12 (by decide) ?_
  refine r_ast G 13 3 rfl dX0_evict_13 rfl (by omega) ?_
  refine r_aload G 14 dX0_evict_14 rfl ?_
  refine r_iload_n G 15 dX0_evict_15 rfl ?_
  refine c_I1 (hBl f) 16 dX0_evict_16 (Nat.le_of_ble_eq_true rfl) ⟨rfl, hf⟩ (fun r_16 σ_16 h_16 => ?_)
  obtain ⟨hs16, hb16⟩ := h_16
  rw [hs16]
  refine r_istore_n G 19 dX0_evict_19 (Nat.le_of_ble_eq_true rfl) ?_
  refine r_iload_n G 20 dX0_evict_20 rfl ?_
  refine r_if_eq G 21 32 dX0_evict_21 (by decide) (fun h_21 => ?_) (fun h_21 => ?_)
  · have nz : pg_nz (M p) := by
      rcases hb16 with ⟨b1, b2⟩ | ⟨b1, i, b2, b3⟩
      · rw [b1] at h_21; exact absurd h_21 (by decide)
      · exact ⟨i, b2, by rw [← hat i b2]; exact b3⟩
    refine r_aload G 32 dX0_evict_32 rfl ?_
    refine r_iload_n G 33 dX0_evict_33 rfl ?_
    refine c_V1 (hPk f) 34 dX0_evict_34 (Nat.le_of_ble_eq_true rfl) ⟨rfl, hf⟩ (fun σ_34 h_34 => ?_)
    obtain ⟨hk34, z, n, h13, hz17, hpath⟩ := h_34
    have hpathM : pth n (σ_34 12) (M p) 0 0 z 16 := pth_cong hpath (fun _ _ _ => rfl) (fun k hk => (hat k hk).symm)
    have hI34 : Iv σ_34 M [p] := iv_same hI1 (hk34 0 (by decide) (by decide)) (hk34 1 (by decide) (by decide)) (hk34 3 (by decide) (by decide)) (hk34 4 (by decide) (by decide)) (hk34 6 (by decide) (by decide)) (hk34 7 (by decide) (by decide)) (hk34 8 (by decide) (by decide)) (hk34 10 (by decide) (by decide)) (hk34 11 (by decide) (by decide))
    have hq34 : kq σ σ_34 := fun q _ e => by rw [hk34 0 (by decide) (by decide)] at e; exact e
    have h4_34 : σ_34 4 f = -1 := by rw [hk34 4 (by decide) (by decide)]; exact sw_up_s _ _ _ _
    refine r_aload G 37 dX0_evict_37 rfl ?_
    refine r_f13 G 38 dX0_evict_38 ?_
    rw [h13]
    refine r_bipush G 41 (nI 16) dX0_evict_41 (by decide) ?_
    refine b_lt G 43 103 dX0_evict_43 (by decide) (by omega) (by omega) (fun h_43 => ?_) (fun h_43 => ?_)
    · refine r_aload G 103 dX0_evict_103 rfl ?_
      refine r_f0 G 104 dX0_evict_104 ?_
      refine r_iload_n G 107 dX0_evict_107 rfl ?_
      refine r_iconst G 108 (nI 0) dX0_evict_108 (by decide) ?_
      refine r_ast G 109 12 rfl dX0_evict_109 rfl (by omega) ?_
      have hI3 : Iv (sw_up σ_34 0 p (nI 0)) M [p] := iv_lim hI34 (fun q hq => by rw [sw_up_o hq]) (fun q hq => by rw [sw_up_n (by decide)]) (fun k h0 h1 => sw_up_n h0)
      have hq3 : kq σ (sw_up σ_34 0 p (nI 0)) := kq_trans hq34 (kq_upd (sw_up_k _ _ _ _) (by decide) (by decide))
      refine r_aload G 110 dX0_evict_110 rfl ?_
      refine r_aload G 111 dX0_evict_111 rfl ?_
      refine r_f13 G 112 dX0_evict_112 ?_
      rw [show sw_up σ_34 0 p (nI 0) 13 0 = nI z from h13]
      refine c_I1 (hPF z) 115 dX0_evict_115 (Nat.le_of_ble_eq_true rfl) ⟨rfl, by omega, iv_pool hI3⟩ (fun r_115 σ_115 h_115 => ?_)
      obtain ⟨hs115, hpf⟩ := h_115
      rw [hs115]
      refine r_istore G 118 dX0_evict_118 (Nat.le_of_ble_eq_true rfl) ?_
      refine r_iload G 120 dX0_evict_120 rfl ?_
      refine r_if_ge G 122 137 dX0_evict_122 (by decide) (fun h_122 => ?_) (fun h_122 => ?_)
      · obtain ⟨f2, hf2, er, hfit⟩ : ∃ f2, f2 < 4 ∧ r_115 = nI f2 ∧ fits_ (sw_up σ_34 0 p (nI 0)) f2 z := by
          rcases hpf with ⟨b1, b2⟩ | b
          · rw [b1] at h_122; exact absurd h_122 m1_nge
          · exact b
        subst er
        refine r_aload G 137 dX0_evict_137 rfl ?_
        refine r_iload G 138 dX0_evict_138 rfl ?_
        refine r_iload_n G 140 dX0_evict_140 rfl ?_
        refine c_V2 (hSP f2 p z) 141 dX0_evict_141 (Nat.le_of_ble_eq_true rfl) ⟨rfl, hf2, hp, h_43, h13, hfit⟩ (fun σ_141 h_141 => ?_)
        have hI5 := iv_toPool hI3 hp List.not_mem_nil hf2 h_43 hfit nz hpathM h_141
        obtain ⟨e, hef, hfe, e7, e8, e0, e1, hpc, hpo, hsk⟩ := h_141
        exact hR 144 _ _ dX0_evict_144 (⟨hI5, (congrFun (hsk 4 (by decide) (by decide) (by decide) (by decide) (by decide) (by decide) (by decide)) f).trans h4_34, kq_trans hq3 (kq_upd e0 (by decide) (by decide)), (hsk 15 (by decide) (by decide) (by decide) (by decide) (by decide) (by decide) (by decide)).trans (hk34 15 (by decide) (by decide)), (hsk 16 (by decide) (by decide) (by decide) (by decide) (by decide) (by decide) (by decide)).trans (hk34 16 (by decide) (by decide))⟩)
      · refine r_aload G 125 dX0_evict_125 rfl ?_
        refine c_I0 hO 126 dX0_evict_126 (Nat.le_of_ble_eq_true rfl) rfl (fun r_126 σ_126 h_126 => ?_)
        obtain ⟨hs126, hold⟩ := h_126
        rw [hs126]
        obtain ⟨f3, hf3, er3⟩ : ∃ f3, f3 < 4 ∧ r_126 = nI f3 := by
          rcases hold with ⟨b1, b2⟩ | b
          · rcases hpf with ⟨c1, c2⟩ | ⟨g, c1, c2, c3⟩
            · have := c2 0 (by decide); have := b2 0 (by decide); omega
            · rw [c2] at h_122; exact absurd (nI_pos' (by omega)) h_122
          · exact b
        subst er3
        refine r_istore G 129 dX0_evict_129 (Nat.le_of_ble_eq_true rfl) ?_
        refine r_aload G 131 dX0_evict_131 rfl ?_
        refine r_iload G 132 dX0_evict_132 rfl ?_
        refine c_V1 (hWB f3 M [p]) 134 dX0_evict_134 (Nat.le_of_ble_eq_true rfl) ⟨rfl, hf3, hI3⟩ (fun σ_134 h_134 => ?_)
        obtain ⟨hI4, h7a, h7b, hkq, hk134⟩ := h_134
        have hfit : fits_ σ_134 f3 z := ⟨0, 0, Or.inl ⟨h7a, rfl⟩, Or.inl ⟨h7b, rfl⟩, by omega, Or.inl h7a⟩
        have hpath4 : pth n (σ_134 12) (M p) 0 0 z 16 := by rw [hk134 12 (by decide) (by decide) (by decide) (by decide) (by decide) (by decide)]; exact hpathM
        refine r_aload G 137 dX0_evict_137 rfl ?_
        refine r_iload G 138 dX0_evict_138 rfl ?_
        refine r_iload_n G 140 dX0_evict_140 rfl ?_
        refine c_V2 (hSP f3 p z) 141 dX0_evict_141 (Nat.le_of_ble_eq_true rfl) ⟨rfl, hf3, hp, h_43, (congrFun (hk134 13 (by decide) (by decide) (by decide) (by decide) (by decide) (by decide)) 0).trans h13, hfit⟩ (fun σ_141 h_141 => ?_)
        have hI5 := iv_toPool hI4 hp List.not_mem_nil hf3 h_43 hfit nz hpath4 h_141
        obtain ⟨e, hef, hfe, e7, e8, e0, e1, hpc, hpo, hsk⟩ := h_141
        exact hR 144 _ _ dX0_evict_144 (⟨hI5, ((congrFun (hsk 4 (by decide) (by decide) (by decide) (by decide) (by decide) (by decide) (by decide)) f).trans (congrFun (hk134 4 (by decide) (by decide) (by decide) (by decide) (by decide) (by decide)) f)).trans h4_34, kq_trans (kq_trans hq3 hkq) (kq_upd e0 (by decide) (by decide)), ((hsk 15 (by decide) (by decide) (by decide) (by decide) (by decide) (by decide) (by decide)).trans (hk134 15 (by decide) (by decide) (by decide) (by decide) (by decide) (by decide))).trans (hk34 15 (by decide) (by decide)), ((hsk 16 (by decide) (by decide) (by decide) (by decide) (by decide) (by decide) (by decide)).trans (hk134 16 (by decide) (by decide) (by decide) (by decide) (by decide) (by decide))).trans (hk34 16 (by decide) (by decide))⟩)
    · refine r_iconst G 46 (nI 0) dX0_evict_46 (by decide) ?_
      refine r_istore G 47 dX0_evict_47 (Nat.le_of_ble_eq_true rfl) ?_
      exact r_pick G [0, 1, 2, 4] (lp_evict (p := p) (σ1 := σ_34) G hf (fun σ' q1 q2 => wk81_evict (σ0 := σ) G hF hSt hp (iv_same hI34 (q2 0 (by decide)) (q2 1 (by decide)) (q2 3 (by decide)) (q2 4 (by decide)) (q2 6 (by decide)) (q2 7 (by decide)) (q2 8 (by decide)) (q2 10 (by decide)) (q2 11 (by decide))) nz (fun j hj => by rw [q1 j hj, hk34 3 (by decide) (by decide)]; exact hat j hj) (by rw [q2 4 (by decide)]; exact h4_34) (fun q hq e => hq34 q hq (by rw [q2 0 (by decide)] at e; exact e)) ((q2 15 (by decide)).trans (hk34 15 (by decide) (by decide))) ((q2 16 (by decide)).trans (hk34 16 (by decide) (by decide))) hR) 17 0 σ_34 (by omega) (by omega) lt_0 (fun _ _ => rfl))
  · refine r_aload G 24 dX0_evict_24 rfl ?_
    refine r_f0 G 25 dX0_evict_25 ?_
    refine r_iload_n G 28 dX0_evict_28 rfl ?_
    refine r_iconst G 29 (nI 0) dX0_evict_29 (by decide) ?_
    refine r_ast G 30 12 rfl dX0_evict_30 rfl (by omega) ?_
    exact hR 31 _ _ dX0_evict_31 (by
      have hz : ∀ i, i < 16 → M p i = 0 := by
        rcases hb16 with ⟨b1, b2⟩ | ⟨b1, b2⟩
        · exact fun i hi => by rw [← hat i hi]; exact b2 i hi
        · exact absurd b1 h_21
      exact ⟨iv_blank (iv_lim (σ' := sw_up (sw_up σ 4 f (-1)) 0 p (nI 0)) hI1 (fun q hq => by rw [sw_up_o hq]) (fun q hq => by rw [sw_up_n (by decide)]) (fun k h0 h1 => sw_up_n h0)) (sw_up_s _ _ _ _) hz, (congrFun (sw_up_n (by decide)) f).trans (sw_up_s _ _ _ _), kq_trans hq1 (kq_upd (sw_up_k _ _ _ _) (by decide) (by decide)), rfl, rfl⟩)
end EVICT
abbrev rm_evict : Room := { frames := 3, cells := 0, slots := 0, locals := 76 }
theorem met_evict (l : Launch) (dC : Nat → ClassId) (dI : Nat → Nat → Nat) (ad : Nat → Nat) (d : ClassId) (f p : Nat) (M : Nat → Nat → Int32) : xMetV l dC dI ad d yX0_evict cX0_evict 5 rm_evict 2 1 (Pr_evict f p M) (Po_evict f M) :=
  xMetV_of RX0 rfl (by decide) (by decide) (fun K G xs σ _ hp hR => by
    obtain ⟨hp, h1, h2, h3, h4⟩ := hp
    subst hp
    exact wk_evict G (fun f => (x_callI G (met_blankFrame l dC dI ad d f) (lw_V q117 q119 qs6 q29 q120) xRec2 (by decide +kernel) rfl rfl ⟨Nat.le_of_ble_eq_true rfl, Nat.le_of_ble_eq_true rfl⟩)) (fun f => (x_callV G (met_pack l dC dI ad d f) (lw_V q121 q123 qs7 q29 q124) xRec2 (by decide +kernel) rfl rfl ⟨Nat.le_of_ble_eq_true rfl, Nat.le_of_ble_eq_true rfl⟩)) (fun p => (x_callI G (met_freeSlot l dC dI ad d p) (lw_V q133 q135 qs10 q29 q136) xRec2 (by decide +kernel) rfl rfl ⟨Nat.le_of_ble_eq_true rfl, Nat.le_of_ble_eq_true rfl⟩)) (fun s p => (x_callV G (met_storeSlot l dC dI ad d s p) (lw_V q137 q139 qs11 q29 q140) xRec2 (by decide +kernel) rfl rfl ⟨Nat.le_of_ble_eq_true rfl, Nat.le_of_ble_eq_true rfl⟩)) (fun z => (x_callI G (met_poolFrame l dC dI ad d z) (lw_V q141 q143 qs12 q29 q144) xRec2 (by decide +kernel) rfl rfl ⟨Nat.le_of_ble_eq_true rfl, Nat.le_of_ble_eq_true rfl⟩)) (x_callI G (met_oldestPoolFrame l dC dI ad d) (lw_V q153 q155 qs15 q29 q156) xRec2 (by decide +kernel) rfl rfl ⟨Nat.le_of_ble_eq_true rfl, Nat.le_of_ble_eq_true rfl⟩) (fun f M L => (x_callV G (met_writeBack l dC dI ad d f M L) (lw_V q157 q159 qs16 q29 q160) xRec2 (by decide +kernel) rfl rfl ⟨Nat.le_of_ble_eq_true rfl, Nat.le_of_ble_eq_true rfl⟩)) (fun f p z => (x_callV G (met_storePacked l dC dI ad d f p z) (lw_V q173 q175 qs20 q29 q176) xRec2 (by decide +kernel) rfl rfl ⟨Nat.le_of_ble_eq_true rfl, Nat.le_of_ble_eq_true rfl⟩)) h1 h2 h3 h4 hR)
/-! freeFrame -/
def Pr_freeFrame (M : Nat → Nat → Int32) : List Int32 → Sg → Prop := fun xs σ => xs = [] ∧ Iv σ M []
def Po_freeFrame (M : Nat → Nat → Int32) : List Int32 → Sg → Int32 → Sg → Prop := fun _ σ r σ' => ∃ f, f < 3 ∧ r = nI f ∧ σ' 4 f = -1 ∧ Iv σ' M [] ∧ kq σ σ' ∧ σ' 15 = σ 15 ∧ σ' 16 = σ 16
section FFRAME
variable {l : Launch} {R : Room} {dC : Nat → ClassId} {dI : Nat → Nat → Nat} {ad : Nat → Nat} {d : ClassId} {K : xK}
theorem lp_freeFrame (G : xGood l R dC dI ad d RX0 cX0_freeFrame 3 K) (hE : ∀ f p M, xCallV cX0_freeFrame K 110 2 1 (Pr_evict f p M) (Po_evict f M)) {M : Nat → Nat → Int32} {σ : Sg} (hI : Iv σ M []) (hR : xRetI cX0_freeFrame K (Po_freeFrame M [] σ)) :
    ∀ t f o, f ≤ 3 → 4 ≤ t + f → o < 3 → (∀ g, g < f → ¬ σ 4 g < 0) → K 4 [(0, .inr 2), (1, .inl (nI o)), (2, .inl (nI f))] [] σ := by
  intro t
  induction t with
  | zero => intro f o h1 h2; omega
  | succ t ih =>
    intro f o h1 h2 ho hg
    refine r_iload_n G 4 dX0_freeFrame_4 rfl ?_
    refine r_iconst G 5 (nI 3) dX0_freeFrame_5 (by decide) ?_
    refine b_ge G 6 43 dX0_freeFrame_6 (by decide) (by omega) (by omega) (fun h_6 => ?_) (fun h_6 => ?_)
    · obtain ⟨p, hp, hpL, h4, h0, h1', hc⟩ := iv_pos (kd := 1) hI (by decide) (by decide) ho (hg o (by omega))
      refine r_aload G 43 dX0_freeFrame_43 rfl ?_
      refine r_iload_n G 44 dX0_freeFrame_44 rfl ?_
      refine c_V1 (hE o p M) 45 dX0_freeFrame_45 (Nat.le_of_ble_eq_true rfl) ⟨rfl, ho, hp, h4, hI⟩ (fun σ_45 h_45 => ?_)
      obtain ⟨hI2, h42, hkq, h15, h16⟩ := h_45
      refine r_iload_n G 48 dX0_freeFrame_48 rfl ?_
      exact hR 49 _ _ _ dX0_freeFrame_49 (⟨o, ho, rfl, h42, hI2, hkq, h15, h16⟩)
    · refine r_aload G 9 dX0_freeFrame_9 rfl ?_
      refine r_f4 G 10 dX0_freeFrame_10 ?_
      refine r_iload_n G 13 dX0_freeFrame_13 rfl ?_
      refine r_ald G 14 3 rfl dX0_freeFrame_14 rfl (by omega) ?_
      refine r_if_ge G 15 20 dX0_freeFrame_15 (by decide) (fun h_15 => ?_) (fun h_15 => ?_)
      · refine r_aload G 20 dX0_freeFrame_20 rfl ?_
        refine r_f5 G 21 dX0_freeFrame_21 ?_
        refine r_iload_n G 24 dX0_freeFrame_24 rfl ?_
        refine r_ald G 25 3 rfl dX0_freeFrame_25 rfl (by omega) ?_
        refine r_aload G 26 dX0_freeFrame_26 rfl ?_
        refine r_f5 G 27 dX0_freeFrame_27 ?_
        refine r_iload_n G 30 dX0_freeFrame_30 rfl ?_
        refine r_ald G 31 3 rfl dX0_freeFrame_31 rfl (by omega) ?_
        refine r_icmp_ge G 32 37 dX0_freeFrame_32 (by decide) (fun h_32 => ?_) (fun h_32 => ?_)
        · refine r_iinc G 37 dX0_freeFrame_37 rfl (c_inc _) (Nat.le_of_ble_eq_true rfl) ?_
          refine r_goto G 40 4 dX0_freeFrame_40 (by decide) ?_
          exact r_pick G [0, 1, 2] (ih (f + 1) o (by omega) (by omega) ho (lt_s hg (Int32.not_lt.mpr h_15)))
        · refine r_iload_n G 35 dX0_freeFrame_35 rfl ?_
          refine r_istore_n G 36 dX0_freeFrame_36 (Nat.le_of_ble_eq_true rfl) ?_
          refine r_iinc G 37 dX0_freeFrame_37 rfl (c_inc _) (Nat.le_of_ble_eq_true rfl) ?_
          refine r_goto G 40 4 dX0_freeFrame_40 (by decide) ?_
          exact r_pick G [0, 1, 2] (ih (f + 1) f (by omega) (by omega) h_6 (lt_s hg (Int32.not_lt.mpr h_15)))
      · refine r_iload_n G 18 dX0_freeFrame_18 rfl ?_
        exact hR 19 _ _ _ dX0_freeFrame_19 (⟨f, h_6, rfl, iv_neg (kd := 1) hI (by decide) (by decide) h_6 (Int32.not_le.mp h_15), hI, fun _ _ e => e, rfl, rfl⟩)
theorem wk_freeFrame (G : xGood l R dC dI ad d RX0 cX0_freeFrame 3 K) (hE : ∀ f p M, xCallV cX0_freeFrame K 110 2 1 (Pr_evict f p M) (Po_evict f M)) {M : Nat → Nat → Int32} {σ : Sg} (hI : Iv σ M []) (hR : xRetI cX0_freeFrame K (Po_freeFrame M [] σ)) : K 0 [(0, .inr 2)] [] σ := by
  refine r_iconst G 0 (nI 0) dX0_freeFrame_0 (by decide) ?_
  refine r_istore_n G 1 dX0_freeFrame_1 (Nat.le_of_ble_eq_true rfl) ?_
  refine r_iconst G 2 (nI 0) dX0_freeFrame_2 (by decide) ?_
  refine r_istore_n G 3 dX0_freeFrame_3 (Nat.le_of_ble_eq_true rfl) ?_
  exact r_pick G [0, 1, 2] (lp_freeFrame G hE hI hR 4 0 0 (by omega) (by omega) (by omega) lt_0)
end FFRAME
abbrev rm_freeFrame : Room := { frames := 4, cells := 0, slots := 0, locals := 100 }
theorem met_freeFrame (l : Launch) (dC : Nat → ClassId) (dI : Nat → Nat → Nat) (ad : Nat → Nat) (d : ClassId) (M : Nat → Nat → Int32) : xMetI l dC dI ad d yX0_freeFrame cX0_freeFrame 3 (some .int) rm_freeFrame 2 0 (Pr_freeFrame M) (Po_freeFrame M) :=
  xMetI_of RX0 rfl (by decide) (by decide) (fun K G xs σ _ hp hR => by
    obtain ⟨hp, h1⟩ := hp
    subst hp
    exact wk_freeFrame G (fun f p M => (x_callV G (met_evict l dC dI ad d f p M) (lw_V q113 q115 qs5 q29 q116) xRec2 (by decide +kernel) rfl rfl ⟨Nat.le_of_ble_eq_true rfl, Nat.le_of_ble_eq_true rfl⟩)) h1 hR)
end
section
/-! release, bring, hold, firstDifference -/
theorem iv_limb0 {σ : Sg} {M : Nat → Nat → Int32} {L : List Nat} {p : Nat} (h : Iv σ M L) (h0 : σ 0 p = nI 0) : Iv σ M (p :: L) := by
  refine ⟨fun q hq hL => h.1 q hq (fun z => hL (List.mem_cons_of_mem _ z)), fun kd j h1 h3 hj => ?_, h.2.2⟩
  rcases h.2.1 kd j h1 h3 hj with g | ⟨q, g1, g2, g3, g4, g5⟩
  · exact Or.inl g
  · refine Or.inr ⟨q, g1, fun z => ?_, g3, g4, g5⟩
    rcases List.mem_cons.mp z with e | e
    · subst e
      rw [h0] at g4
      have := nI_inj (by omega) (by omega) g4
      omega
    · exact g2 e
def Pr_pg (p : Nat) (M : Nat → Nat → Int32) : List Int32 → Sg → Prop := fun xs σ => xs = [nI p] ∧ p < 12 ∧ Iv σ M []
def Po_release (p : Nat) (M : Nat → Nat → Int32) : List Int32 → Sg → Sg → Prop := fun _ σ σ' => Iv σ' M [p] ∧ σ' 0 p = nI 0 ∧ (∀ f, σ 4 f = -1 → σ' 4 f = -1) ∧ ∀ a, a ≠ 0 → a ≠ 4 → a ≠ 7 → a ≠ 11 → σ' a = σ a
section REL
variable {l : Launch} {R : Room} {dC : Nat → ClassId} {dI : Nat → Nat → Nat} {ad : Nat → Nat} {d : ClassId} {K : xK}
theorem wk_release (G : xGood l R dC dI ad d RX0 cX0_release 2 K) {p : Nat} {M : Nat → Nat → Int32} {σ : Sg} (hp : p < 12) (hI : Iv σ M []) (hR : xRetV cX0_release K (Po_release p M [] σ)) : K 0 [(0, .inr 2), (1, .inl (nI p))] [] σ := by
  rcases hI.1 p hp List.not_mem_nil with ⟨h0, hz⟩ | ⟨kd, j, q1, q2, q3, q4, q5, q6, q7⟩
  · skip
    refine r_aload G 0 dX0_release_0 rfl ?_
    refine r_f0 G 1 dX0_release_1 ?_
    refine r_iload_n G 4 dX0_release_4 rfl ?_
    refine r_ald G 5 12 rfl dX0_release_5 rfl (by omega) ?_
    rw [h0]
    refine r_iconst G 6 (nI 1) dX0_release_6 (by decide) ?_
    refine b_ne G 7 25 dX0_release_7 (by decide) (by omega) (by omega) (fun h_7 => ?_) (fun h_7 => absurd h_7 (by omega))
    refine r_aload G 25 dX0_release_25 rfl ?_
    refine r_f0 G 26 dX0_release_26 ?_
    refine r_iload_n G 29 dX0_release_29 rfl ?_
    refine r_ald G 30 12 rfl dX0_release_30 rfl (by omega) ?_
    rw [h0]
    refine r_iconst G 31 (nI 2) dX0_release_31 (by decide) ?_
    refine b_ne G 32 50 dX0_release_32 (by decide) (by omega) (by omega) (fun h_32 => ?_) (fun h_32 => absurd h_32 (by omega))
    refine r_aload G 50 dX0_release_50 rfl ?_
    refine r_f0 G 51 dX0_release_51 ?_
    refine r_iload_n G 54 dX0_release_54 rfl ?_
    refine r_ald G 55 12 rfl dX0_release_55 rfl (by omega) ?_
    rw [h0]
    refine r_iconst G 56 (nI 3) dX0_release_56 (by decide) ?_
    refine b_ne G 57 72 dX0_release_57 (by decide) (by omega) (by omega) (fun h_57 => ?_) (fun h_57 => absurd h_57 (by omega))
    refine r_aload G 72 dX0_release_72 rfl ?_
    refine r_f0 G 73 dX0_release_73 ?_
    refine r_iload_n G 76 dX0_release_76 rfl ?_
    refine r_iconst G 77 (nI 0) dX0_release_77 (by decide) ?_
    refine r_ast G 78 12 rfl dX0_release_78 rfl (by omega) ?_
    exact hR 79 _ _ dX0_release_79 (⟨iv_lim (iv_limb0 hI h0) (fun q hq => by rw [sw_up_o hq]) (fun q hq => by rw [sw_up_n (by decide)]) (fun k h0 h1 => sw_up_n h0), sw_up_s _ _ _ _, fun f e => e, fun a a0 _ _ _ => sw_up_n a0⟩)
  · have hrm := iv_rm hI q1 q2 q3 q6 hp
    have hlim : ∀ kd, 1 ≤ kd → kd ≤ 3 → Iv (sw_up σ (oa kd) j (-1)) M [p] → Iv (sw_up (sw_up σ (oa kd) j (-1)) 0 p (nI 0)) M [p] := fun kd _ _ h => iv_lim h (fun q hq => by rw [sw_up_o hq]) (fun q hq => by rw [sw_up_n (by decide)]) (fun k h0 h1 => sw_up_n h0)
    have hl2 := hlim kd q1 q2 hrm.2.2.2
    rcases kd_cases q1 q2 with rfl | rfl | rfl
    · skip
      refine r_aload G 0 dX0_release_0 rfl ?_
      refine r_f0 G 1 dX0_release_1 ?_
      refine r_iload_n G 4 dX0_release_4 rfl ?_
      refine r_ald G 5 12 rfl dX0_release_5 rfl (by omega) ?_
      rw [q4]
      refine r_iconst G 6 (nI 1) dX0_release_6 (by decide) ?_
      refine b_ne G 7 25 dX0_release_7 (by decide) (by omega) (by omega) (fun h_7 => absurd rfl h_7) (fun h_7 => ?_)
      refine r_aload G 10 dX0_release_10 rfl ?_
      refine r_f4 G 11 dX0_release_11 ?_
      refine r_aload G 14 dX0_release_14 rfl ?_
      refine r_f1 G 15 dX0_release_15 ?_
      refine r_iload_n G 18 dX0_release_18 rfl ?_
      refine r_ald G 19 12 rfl dX0_release_19 rfl (by omega) ?_
      rw [q5]
      refine r_iconst G 20 (-1) dX0_release_20 (by decide) ?_
      refine r_ast G 21 3 rfl dX0_release_21 rfl q3 ?_
      refine r_goto G 22 72 dX0_release_22 (by decide) ?_
      refine r_aload G 72 dX0_release_72 rfl ?_
      refine r_f0 G 73 dX0_release_73 ?_
      refine r_iload_n G 76 dX0_release_76 rfl ?_
      refine r_iconst G 77 (nI 0) dX0_release_77 (by decide) ?_
      refine r_ast G 78 12 rfl dX0_release_78 rfl (by omega) ?_
      exact hR 79 _ _ dX0_release_79 (⟨hl2, sw_up_s _ _ _ _, fun f e => by show upd (σ 4) j (-1) f = -1; by_cases z : f = j; rw [z, upd_s]; rw [upd_o z]; exact e, fun a a0 a4 a7 a11 => (sw_up_n a0).trans (sw_up_n a4)⟩)
    · skip
      refine r_aload G 0 dX0_release_0 rfl ?_
      refine r_f0 G 1 dX0_release_1 ?_
      refine r_iload_n G 4 dX0_release_4 rfl ?_
      refine r_ald G 5 12 rfl dX0_release_5 rfl (by omega) ?_
      rw [q4]
      refine r_iconst G 6 (nI 1) dX0_release_6 (by decide) ?_
      refine b_ne G 7 25 dX0_release_7 (by decide) (by omega) (by omega) (fun h_7 => ?_) (fun h_7 => absurd h_7 (by omega))
      refine r_aload G 25 dX0_release_25 rfl ?_
      refine r_f0 G 26 dX0_release_26 ?_
      refine r_iload_n G 29 dX0_release_29 rfl ?_
      refine r_ald G 30 12 rfl dX0_release_30 rfl (by omega) ?_
      rw [q4]
      refine r_iconst G 31 (nI 2) dX0_release_31 (by decide) ?_
      refine b_ne G 32 50 dX0_release_32 (by decide) (by omega) (by omega) (fun h_32 => absurd rfl h_32) (fun h_32 => ?_)
      refine r_aload G 35 dX0_release_35 rfl ?_
      refine r_f7 G 36 dX0_release_36 ?_
      refine r_aload G 39 dX0_release_39 rfl ?_
      refine r_f1 G 40 dX0_release_40 ?_
      refine r_iload_n G 43 dX0_release_43 rfl ?_
      refine r_ald G 44 12 rfl dX0_release_44 rfl (by omega) ?_
      rw [q5]
      refine r_iconst G 45 (-1) dX0_release_45 (by decide) ?_
      refine r_ast G 46 8 rfl dX0_release_46 rfl q3 ?_
      refine r_goto G 47 72 dX0_release_47 (by decide) ?_
      refine r_aload G 72 dX0_release_72 rfl ?_
      refine r_f0 G 73 dX0_release_73 ?_
      refine r_iload_n G 76 dX0_release_76 rfl ?_
      refine r_iconst G 77 (nI 0) dX0_release_77 (by decide) ?_
      refine r_ast G 78 12 rfl dX0_release_78 rfl (by omega) ?_
      exact hR 79 _ _ dX0_release_79 (⟨hl2, sw_up_s _ _ _ _, fun f e => e, fun a a0 a4 a7 a11 => (sw_up_n a0).trans (sw_up_n a7)⟩)
    · skip
      refine r_aload G 0 dX0_release_0 rfl ?_
      refine r_f0 G 1 dX0_release_1 ?_
      refine r_iload_n G 4 dX0_release_4 rfl ?_
      refine r_ald G 5 12 rfl dX0_release_5 rfl (by omega) ?_
      rw [q4]
      refine r_iconst G 6 (nI 1) dX0_release_6 (by decide) ?_
      refine b_ne G 7 25 dX0_release_7 (by decide) (by omega) (by omega) (fun h_7 => ?_) (fun h_7 => absurd h_7 (by omega))
      refine r_aload G 25 dX0_release_25 rfl ?_
      refine r_f0 G 26 dX0_release_26 ?_
      refine r_iload_n G 29 dX0_release_29 rfl ?_
      refine r_ald G 30 12 rfl dX0_release_30 rfl (by omega) ?_
      rw [q4]
      refine r_iconst G 31 (nI 2) dX0_release_31 (by decide) ?_
      refine b_ne G 32 50 dX0_release_32 (by decide) (by omega) (by omega) (fun h_32 => ?_) (fun h_32 => absurd h_32 (by omega))
      refine r_aload G 50 dX0_release_50 rfl ?_
      refine r_f0 G 51 dX0_release_51 ?_
      refine r_iload_n G 54 dX0_release_54 rfl ?_
      refine r_ald G 55 12 rfl dX0_release_55 rfl (by omega) ?_
      rw [q4]
      refine r_iconst G 56 (nI 3) dX0_release_56 (by decide) ?_
      refine b_ne G 57 72 dX0_release_57 (by decide) (by omega) (by omega) (fun h_57 => absurd rfl h_57) (fun h_57 => ?_)
      refine r_aload G 60 dX0_release_60 rfl ?_
      refine r_f11 G 61 dX0_release_61 ?_
      refine r_aload G 64 dX0_release_64 rfl ?_
      refine r_f1 G 65 dX0_release_65 ?_
      refine r_iload_n G 68 dX0_release_68 rfl ?_
      refine r_ald G 69 12 rfl dX0_release_69 rfl (by omega) ?_
      rw [q5]
      refine r_iconst G 70 (-1) dX0_release_70 (by decide) ?_
      refine r_ast G 71 12 rfl dX0_release_71 rfl q3 ?_
      refine r_aload G 72 dX0_release_72 rfl ?_
      refine r_f0 G 73 dX0_release_73 ?_
      refine r_iload_n G 76 dX0_release_76 rfl ?_
      refine r_iconst G 77 (nI 0) dX0_release_77 (by decide) ?_
      refine r_ast G 78 12 rfl dX0_release_78 rfl (by omega) ?_
      exact hR 79 _ _ dX0_release_79 (⟨hl2, sw_up_s _ _ _ _, fun f e => e, fun a a0 a4 a7 a11 => (sw_up_n a0).trans (sw_up_n a11)⟩)
end REL
theorem met_release (l : Launch) (dC : Nat → ClassId) (dI : Nat → Nat → Nat) (ad : Nat → Nat) (d : ClassId) (p : Nat) (M : Nat → Nat → Int32) : xMetV l dC dI ad d yX0_release cX0_release 2 rmz 2 1 (Pr_pg p M) (Po_release p M) :=
  xMetV_of RX0 rfl (by decide) (by decide) (fun K G xs σ _ hp hR => by
    obtain ⟨hp, h1, h2⟩ := hp
    subst hp; exact wk_release G h1 h2 hR)
end
section
/-! bring, hold, firstDifference -/
theorem iv_inframe {σ : Sg} {M : Nat → Nat → Int32} {L : List Nat} {p : Nat} (h : Iv σ M L) (hp : p < 12) (hL : p ∉ L) (h0 : σ 0 p = nI 1) : ∃ f, f < 3 ∧ σ 1 p = nI f ∧ σ 4 f = nI p ∧ ∀ i, i < 16 → σ 3 (f * 16 + i) = M p i := by
  rcases h.1 p hp hL with ⟨q1, q2⟩ | ⟨kd, j, q1, q2, q3, q4, q5, q6, q7⟩
  · rw [h0] at q1; exact absurd q1 (by decide)
  · rw [h0] at q4
    have e := nI_inj (by omega) (by omega) q4
    subst e
    rcases q7 with ⟨k1, k2⟩ | ⟨k1, _⟩ | ⟨k1, _⟩
    · exact ⟨j, q3, q5, q6, k2⟩
    · exact absurd k1 (by decide)
    · exact absurd k1 (by decide)
def Po_bring (p : Nat) (M : Nat → Nat → Int32) : List Int32 → Sg → Int32 → Sg → Prop := fun _ σ r σ' => ∃ f, f < 3 ∧ r = nI (f * 16) ∧ Iv σ' M [] ∧ σ' 0 p = nI 1 ∧ σ' 1 p = nI f ∧ σ' 15 = σ 15 ∧ σ' 16 = σ 16
section BRING
variable {l : Launch} {R : Room} {dC : Nat → ClassId} {dI : Nat → Nat → Nat} {ad : Nat → Nat} {d : ClassId} {K : xK}
theorem wk176_bring (G : xGood l R dC dI ad d RX0 cX0_bring 4 K) {p f : Nat} {M : Nat → Nat → Int32} {σ0 σ1 σ : Sg} (hp : p < 12) (hf : f < 3) (hI : Iv σ1 M [p]) (h4 : σ1 4 f = -1) (hc : ∀ i, i < 16 → σ 3 (f * 16 + i) = M p i) (ho : ∀ t, (t < f * 16 ∨ f * 16 + 16 ≤ t) → σ 3 t = σ1 3 t) (hk : ∀ a, a ≠ 3 → σ a = σ1 a) (h15 : σ1 15 = σ0 15) (h16 : σ1 16 = σ0 16) (hR : xRetI cX0_bring K (Po_bring p M [] σ0)) : K 176 [(0, .inr 2), (1, .inl (nI p)), (2, .inl (nI f))] [] σ := by
  refine r_aload G 176 dX0_bring_176 rfl ?_
  refine r_f4 G 177 dX0_bring_177 ?_
  refine r_iload_n G 180 dX0_bring_180 rfl ?_
  refine r_iload_n G 181 dX0_bring_181 rfl ?_
  refine r_ast G 182 3 rfl dX0_bring_182 rfl (by omega) ?_
  refine r_aload G 183 dX0_bring_183 rfl ?_
  refine r_dup G 184 dX0_bring_184 ?_
  refine r_f2 G 185 dX0_bring_185 ?_
  refine r_iconst G 188 (nI 1) dX0_bring_188 (by decide) ?_
  refine r_iadd G 189 dX0_bring_189 rfl ?_
  refine r_p2 G 190 dX0_bring_190 ?_
  refine r_aload G 193 dX0_bring_193 rfl ?_
  refine r_f5 G 194 dX0_bring_194 ?_
  refine r_iload_n G 197 dX0_bring_197 rfl ?_
  refine r_aload G 198 dX0_bring_198 rfl ?_
  refine r_f2 G 199 dX0_bring_199 ?_
  refine r_ast G 202 3 rfl dX0_bring_202 rfl (by omega) ?_
  refine r_aload G 203 dX0_bring_203 rfl ?_
  refine r_f0 G 204 dX0_bring_204 ?_
  refine r_iload_n G 207 dX0_bring_207 rfl ?_
  refine r_iconst G 208 (nI 1) dX0_bring_208 (by decide) ?_
  refine r_ast G 209 12 rfl dX0_bring_209 rfl (by omega) ?_
  refine r_aload G 210 dX0_bring_210 rfl ?_
  refine r_f1 G 211 dX0_bring_211 ?_
  refine r_iload_n G 214 dX0_bring_214 rfl ?_
  refine r_iload_n G 215 dX0_bring_215 rfl ?_
  refine r_ast G 216 12 rfl dX0_bring_216 rfl (by omega) ?_
  refine r_iload_n G 217 dX0_bring_217 rfl ?_
  refine r_bipush G 218 (nI 16) dX0_bring_218 (by decide) ?_
  refine r_imul G 220 dX0_bring_220 (pk_mul _ _) ?_
  exact hR 221 _ _ _ dX0_bring_221 (⟨f, hf, rfl, iv_toFrame hI hp List.not_mem_nil hf h4 (show upd (σ 0) p (nI 1) = upd (σ1 0) p (nI 1) from by rw [hk 0 (by decide)]) (show upd (σ 1) p (nI f) = upd (σ1 1) p (nI f) from by rw [hk 1 (by decide)]) (show upd (σ 4) f (nI p) = upd (σ1 4) f (nI p) from by rw [hk 4 (by decide)]) hc ho (hk 6 (by decide)) (hk 7 (by decide)) (hk 8 (by decide)) (hk 10 (by decide)) (hk 11 (by decide)), (congrFun (sw_up_n (by decide)) p).trans (sw_up_s _ _ _ _), sw_up_s _ _ _ _, (hk 15 (by decide)).trans h15, (hk 16 (by decide)).trans h16⟩)
theorem lpF_bring (G : xGood l R dC dI ad d RX0 cX0_bring 4 K) {p f : Nat} {X : Nat → Int32} {σ1 : Sg} (hf : f < 3) (hpl : ∀ i, i < 16 → σ1 14 i = X i)
    (hcont : ∀ σ', (∀ i, i < 16 → σ' 3 (f * 16 + i) = X i) → (∀ t, (t < f * 16 ∨ f * 16 + 16 ≤ t) → σ' 3 t = σ1 3 t) → (∀ a, a ≠ 3 → σ' a = σ1 a) → K 176 [(0, .inr 2), (1, .inl (nI p)), (2, .inl (nI f))] [] σ') :
    ∀ t i σ, i ≤ 16 → 17 ≤ t + i → (∀ j, j < i → σ 3 (f * 16 + j) = X j) → (∀ t, (t < f * 16 ∨ f * 16 + 16 ≤ t) → σ 3 t = σ1 3 t) → (∀ a, a ≠ 3 → σ a = σ1 a) → K 147 [(0, .inr 2), (1, .inl (nI p)), (2, .inl (nI f)), (3, .inl (nI i))] [] σ := by
  intro t
  induction t with
  | zero => intro i σ h1 h2; omega
  | succ t ih =>
    intro i σ h1 h2 hc ho hk
    refine r_iload_n G 147 dX0_bring_147 rfl ?_
    refine r_bipush G 148 (nI 16) dX0_bring_148 (by decide) ?_
    refine b_ge G 150 176 dX0_bring_150 (by decide) (by omega) (by omega) (fun h_150 => ?_) (fun h_150 => ?_)
    · exact r_pick G [0, 1, 2] (hcont σ (fun j hj => hc j (by omega)) ho hk)
    · refine r_aload G 153 dX0_bring_153 rfl ?_
      refine r_f3 G 154 dX0_bring_154 ?_
      refine r_iload_n G 157 dX0_bring_157 rfl ?_
      refine r_bipush G 158 (nI 16) dX0_bring_158 (by decide) ?_
      refine r_imul G 160 dX0_bring_160 (pk_mul _ _) ?_
      refine r_iload_n G 161 dX0_bring_161 rfl ?_
      refine r_iadd G 162 dX0_bring_162 (nI_add _ _) ?_
      refine r_aload G 163 dX0_bring_163 rfl ?_
      refine r_f14 G 164 dX0_bring_164 ?_
      refine r_iload_n G 167 dX0_bring_167 rfl ?_
      refine r_ald G 168 16 rfl dX0_bring_168 rfl (by omega) ?_
      refine r_ast G 169 48 rfl dX0_bring_169 rfl (by omega) ?_
      refine r_iinc G 170 dX0_bring_170 rfl (c_inc _) (Nat.le_of_ble_eq_true rfl) ?_
      refine r_goto G 173 147 dX0_bring_173 (by decide) ?_
      exact r_pick G [0, 1, 2, 3] (ih (i + 1) _ (by omega) (by omega) (fun j hj => by by_cases e : j = i; subst e; rw [sw_up_s, hk 14 (by decide)]; exact hpl j (by omega); rw [sw_up_o (by omega)]; exact hc j (by omega)) (fun t ht => by rw [sw_up_o (by omega)]; exact ho t ht) (fun a ha => (sw_up_n ha).trans (hk a ha)))
theorem wk140_bring (G : xGood l R dC dI ad d RX0 cX0_bring 4 K) (hRl : ∀ p M, xCallV cX0_bring K 116 2 1 (Pr_pg p M) (Po_release p M)) {p f : Nat} {M : Nat → Nat → Int32} {σ0 σ : Sg} (hp : p < 12) (hf : f < 3) (hI : Iv σ M []) (h4 : σ 4 f = -1) (hpl : ∀ i, i < 16 → σ 14 i = M p i) (h15 : σ 15 = σ0 15) (h16 : σ 16 = σ0 16) (hR : xRetI cX0_bring K (Po_bring p M [] σ0)) : K 140 [(0, .inr 2), (1, .inl (nI p)), (2, .inl (nI f))] [] σ := by
  refine r_aload G 140 dX0_bring_140 rfl ?_
  refine r_iload_n G 141 dX0_bring_141 rfl ?_
  refine c_V1 (hRl p M) 142 dX0_bring_142 (Nat.le_of_ble_eq_true rfl) ⟨rfl, hp, hI⟩ (fun σ_142 h_142 => ?_)
  obtain ⟨hI2, hk0, hk4, hk⟩ := h_142
  refine r_iconst G 145 (nI 0) dX0_bring_145 (by decide) ?_
  refine r_istore_n G 146 dX0_bring_146 (Nat.le_of_ble_eq_true rfl) ?_
  exact r_pick G [0, 1, 2, 3] (lpF_bring (p := p) (X := M p) G hf (fun i hi => by rw [hk 14 (by decide) (by decide) (by decide) (by decide)]; exact hpl i hi) (fun σ' q1 q2 q3 => wk176_bring (σ0 := σ0) G hp hf hI2 (hk4 f h4) q1 q2 q3 ((hk 15 (by decide) (by decide) (by decide) (by decide)).trans h15) ((hk 16 (by decide) (by decide) (by decide) (by decide)).trans h16) hR) 17 0 σ_142 (by omega) (by omega) lt_0 (fun _ _ => rfl) (fun _ _ => rfl))
theorem lpS_bring (G : xGood l R dC dI ad d RX0 cX0_bring 4 K) {p f s : Nat} {X : Nat → Int32} {σ1 : Sg} (hp : p < 12) (hs : s < 12) (h1p : σ1 1 p = nI s) (hsl : ∀ i, i < 16 → σ1 10 (s * 16 + i) = X i)
    (hcont : ∀ σ', (∀ i, i < 16 → σ' 14 i = X i) → (∀ a, a ≠ 14 → σ' a = σ1 a) → K 140 [(0, .inr 2), (1, .inl (nI p)), (2, .inl (nI f))] [] σ') :
    ∀ t i σ, i ≤ 16 → 17 ≤ t + i → (∀ j, j < i → σ 14 j = X j) → (∀ a, a ≠ 14 → σ a = σ1 a) → K 106 [(0, .inr 2), (1, .inl (nI p)), (2, .inl (nI f)), (3, .inl (nI i))] [] σ := by
  intro t
  induction t with
  | zero => intro i σ h1 h2; omega
  | succ t ih =>
    intro i σ h1 h2 hc hk
    refine r_iload_n G 106 dX0_bring_106 rfl ?_
    refine r_bipush G 107 (nI 16) dX0_bring_107 (by decide) ?_
    refine b_ge G 109 140 dX0_bring_109 (by decide) (by omega) (by omega) (fun h_109 => ?_) (fun h_109 => ?_)
    · exact r_pick G [0, 1, 2] (hcont σ (fun j hj => hc j (by omega)) hk)
    · refine r_aload G 112 dX0_bring_112 rfl ?_
      refine r_f14 G 113 dX0_bring_113 ?_
      refine r_iload_n G 116 dX0_bring_116 rfl ?_
      refine r_aload G 117 dX0_bring_117 rfl ?_
      refine r_f10 G 118 dX0_bring_118 ?_
      refine r_aload G 121 dX0_bring_121 rfl ?_
      refine r_f1 G 122 dX0_bring_122 ?_
      refine r_iload_n G 125 dX0_bring_125 rfl ?_
      refine r_ald G 126 12 rfl dX0_bring_126 rfl (by omega) ?_
      rw [show σ 1 p = nI s from by rw [hk 1 (by decide)]; exact h1p]
      refine r_bipush G 127 (nI 16) dX0_bring_127 (by decide) ?_
      refine r_imul G 129 dX0_bring_129 (pk_mul _ _) ?_
      refine r_iload_n G 130 dX0_bring_130 rfl ?_
      refine r_iadd G 131 dX0_bring_131 (nI_add _ _) ?_
      refine r_ald G 132 192 rfl dX0_bring_132 rfl (by omega) ?_
      refine r_ast G 133 16 rfl dX0_bring_133 rfl (by omega) ?_
      refine r_iinc G 134 dX0_bring_134 rfl (c_inc _) (Nat.le_of_ble_eq_true rfl) ?_
      refine r_goto G 137 106 dX0_bring_137 (by decide) ?_
      exact r_pick G [0, 1, 2, 3] (ih (i + 1) _ (by omega) (by omega) (fun j hj => by by_cases e : j = i; subst e; rw [sw_up_s, hk 10 (by decide)]; exact hsl j (by omega); rw [sw_up_o e]; exact hc j (by omega)) (fun a ha => (sw_up_n ha).trans (hk a ha)))
theorem wk71_bring (G : xGood l R dC dI ad d RX0 cX0_bring 4 K) (hRl : ∀ p M, xCallV cX0_bring K 116 2 1 (Pr_pg p M) (Po_release p M)) (hU : ∀ e z n X, xCallV cX0_bring K 77 2 1 (Pr_unpack e z n X) (Po_unpack X)) {p f : Nat} {M : Nat → Nat → Int32} {σ0 σ : Sg} (hp : p < 12) (hf : f < 3) (hI : Iv σ M []) (h4 : σ 4 f = -1) (hn1 : σ 0 p ≠ nI 1) (hpl : ∀ i, i < 16 → σ 14 i = 0) (h15 : σ 15 = σ0 15) (h16 : σ 16 = σ0 16) (hR : xRetI cX0_bring K (Po_bring p M [] σ0)) : K 71 [(0, .inr 2), (1, .inl (nI p)), (2, .inl (nI f))] [] σ := by
  rcases hI.1 p hp List.not_mem_nil with ⟨h0, hz⟩ | ⟨kd, j, q1, q2, q3, q4, q5, q6, q7⟩
  · skip
    refine r_aload G 71 dX0_bring_71 rfl ?_
    refine r_f0 G 72 dX0_bring_72 ?_
    refine r_iload_n G 75 dX0_bring_75 rfl ?_
    refine r_ald G 76 12 rfl dX0_bring_76 rfl (by omega) ?_
    rw [h0]
    refine r_iconst G 77 (nI 2) dX0_bring_77 (by decide) ?_
    refine b_ne G 78 94 dX0_bring_78 (by decide) (by omega) (by omega) (fun h_78 => ?_) (fun h_78 => absurd h_78 (by omega))
    refine r_aload G 94 dX0_bring_94 rfl ?_
    refine r_f0 G 95 dX0_bring_95 ?_
    refine r_iload_n G 98 dX0_bring_98 rfl ?_
    refine r_ald G 99 12 rfl dX0_bring_99 rfl (by omega) ?_
    rw [h0]
    refine r_iconst G 100 (nI 3) dX0_bring_100 (by decide) ?_
    refine b_ne G 101 140 dX0_bring_101 (by decide) (by omega) (by omega) (fun h_101 => ?_) (fun h_101 => absurd h_101 (by omega))
    exact wk140_bring G hRl hp hf hI h4 (fun i hi => by rw [hpl i hi, hz i hi]) h15 h16 hR
  · rcases kd_cases q1 q2 with rfl | rfl | rfl
    · exact absurd q4 hn1
    · obtain ⟨nz, z, n, k3, k4, k5⟩ : pg_nz (M p) ∧ ∃ z n, z < 16 ∧ σ 8 j = nI z ∧ pth n (fun t => σ 6 (bs j z + t)) (M p) 0 0 z 16 := by
        rcases q7 with ⟨k1, _⟩ | ⟨k1, k2, k3⟩ | ⟨k1, _⟩
        · exact absurd k1 (by decide)
        · exact ⟨k2, k3⟩
        · exact absurd k1 (by decide)
      refine r_aload G 71 dX0_bring_71 rfl ?_
      refine r_f0 G 72 dX0_bring_72 ?_
      refine r_iload_n G 75 dX0_bring_75 rfl ?_
      refine r_ald G 76 12 rfl dX0_bring_76 rfl (by omega) ?_
      rw [q4]
      refine r_iconst G 77 (nI 2) dX0_bring_77 (by decide) ?_
      refine b_ne G 78 94 dX0_bring_78 (by decide) (by omega) (by omega) (fun h_78 => absurd rfl h_78) (fun h_78 => ?_)
      refine r_aload G 81 dX0_bring_81 rfl ?_
      refine r_aload G 82 dX0_bring_82 rfl ?_
      refine r_f1 G 83 dX0_bring_83 ?_
      refine r_iload_n G 86 dX0_bring_86 rfl ?_
      refine r_ald G 87 12 rfl dX0_bring_87 rfl (by omega) ?_
      rw [q5]
      refine c_V1 (hU j z n (M p)) 88 dX0_bring_88 (Nat.le_of_ble_eq_true rfl) ⟨rfl, q3, k3, k4, k5⟩ (fun σ_88 h_88 => ?_)
      obtain ⟨hu1, hu2⟩ := h_88
      refine r_goto G 91 140 dX0_bring_91 (by decide) ?_
      exact wk140_bring G hRl hp hf (iv_same hI (hu2 0 (by decide)) (hu2 1 (by decide)) (hu2 3 (by decide)) (hu2 4 (by decide)) (hu2 6 (by decide)) (hu2 7 (by decide)) (hu2 8 (by decide)) (hu2 10 (by decide)) (hu2 11 (by decide))) (by rw [hu2 4 (by decide)]; exact h4) hu1 ((hu2 15 (by decide)).trans h15) ((hu2 16 (by decide)).trans h16) hR
    · have k5 : ∀ i, i < 16 → σ 10 (j * 16 + i) = M p i := by
        rcases q7 with ⟨k1, _⟩ | ⟨k1, _⟩ | ⟨k1, k2, k3⟩
        · exact absurd k1 (by decide)
        · exact absurd k1 (by decide)
        · exact k3
      refine r_aload G 71 dX0_bring_71 rfl ?_
      refine r_f0 G 72 dX0_bring_72 ?_
      refine r_iload_n G 75 dX0_bring_75 rfl ?_
      refine r_ald G 76 12 rfl dX0_bring_76 rfl (by omega) ?_
      rw [q4]
      refine r_iconst G 77 (nI 2) dX0_bring_77 (by decide) ?_
      refine b_ne G 78 94 dX0_bring_78 (by decide) (by omega) (by omega) (fun h_78 => ?_) (fun h_78 => absurd h_78 (by omega))
      refine r_aload G 94 dX0_bring_94 rfl ?_
      refine r_f0 G 95 dX0_bring_95 ?_
      refine r_iload_n G 98 dX0_bring_98 rfl ?_
      refine r_ald G 99 12 rfl dX0_bring_99 rfl (by omega) ?_
      rw [q4]
      refine r_iconst G 100 (nI 3) dX0_bring_100 (by decide) ?_
      refine b_ne G 101 140 dX0_bring_101 (by decide) (by omega) (by omega) (fun h_101 => absurd rfl h_101) (fun h_101 => ?_)
      refine r_iconst G 104 (nI 0) dX0_bring_104 (by decide) ?_
      refine r_istore_n G 105 dX0_bring_105 (Nat.le_of_ble_eq_true rfl) ?_
      exact r_pick G [0, 1, 2, 3] (lpS_bring (p := p) (X := M p) G hp q3 q5 k5 (fun σ' hu1 hu2 => wk140_bring G hRl hp hf (iv_same hI (hu2 0 (by decide)) (hu2 1 (by decide)) (hu2 3 (by decide)) (hu2 4 (by decide)) (hu2 6 (by decide)) (hu2 7 (by decide)) (hu2 8 (by decide)) (hu2 10 (by decide)) (hu2 11 (by decide))) (by rw [hu2 4 (by decide)]; exact h4) hu1 ((hu2 15 (by decide)).trans h15) ((hu2 16 (by decide)).trans h16) hR) 17 0 σ (by omega) (by omega) lt_0 (fun _ _ => rfl))
theorem lpZ_bring (G : xGood l R dC dI ad d RX0 cX0_bring 4 K) {p f : Nat} {σ1 : Sg} 
    (hcont : ∀ σ', (∀ i, i < 16 → σ' 14 i = 0) → (∀ a, a ≠ 14 → σ' a = σ1 a) → K 71 [(0, .inr 2), (1, .inl (nI p)), (2, .inl (nI f))] [] σ') :
    ∀ t i σ, i ≤ 16 → 17 ≤ t + i → (∀ j, j < i → σ 14 j = 0) → (∀ a, a ≠ 14 → σ a = σ1 a) → K 52 [(0, .inr 2), (1, .inl (nI p)), (2, .inl (nI f)), (3, .inl (nI i))] [] σ := by
  intro t
  induction t with
  | zero => intro i σ h1 h2; omega
  | succ t ih =>
    intro i σ h1 h2 hc hk
    refine r_iload_n G 52 dX0_bring_52 rfl ?_
    refine r_bipush G 53 (nI 16) dX0_bring_53 (by decide) ?_
    refine b_ge G 55 71 dX0_bring_55 (by decide) (by omega) (by omega) (fun h_55 => ?_) (fun h_55 => ?_)
    · exact r_pick G [0, 1, 2] (hcont σ (fun j hj => hc j (by omega)) hk)
    · refine r_aload G 58 dX0_bring_58 rfl ?_
      refine r_f14 G 59 dX0_bring_59 ?_
      refine r_iload_n G 62 dX0_bring_62 rfl ?_
      refine r_iconst G 63 (nI 0) dX0_bring_63 (by decide) ?_
      refine r_ast G 64 16 rfl dX0_bring_64 rfl (by omega) ?_
      refine r_iinc G 65 dX0_bring_65 rfl (c_inc _) (Nat.le_of_ble_eq_true rfl) ?_
      refine r_goto G 68 52 dX0_bring_68 (by decide) ?_
      exact r_pick G [0, 1, 2, 3] (ih (i + 1) _ (by omega) (by omega) (fun j hj => by by_cases e : j = i; subst e; rw [sw_up_s]; rfl; rw [sw_up_o e]; exact hc j (by omega)) (fun a ha => (sw_up_n ha).trans (hk a ha)))
theorem wk_bring (G : xGood l R dC dI ad d RX0 cX0_bring 4 K) (hRl : ∀ p M, xCallV cX0_bring K 116 2 1 (Pr_pg p M) (Po_release p M)) (hU : ∀ e z n X, xCallV cX0_bring K 77 2 1 (Pr_unpack e z n X) (Po_unpack X)) (hFF : ∀ M, xCallI cX0_bring K 113 2 0 (Pr_freeFrame M) (Po_freeFrame M)) {p : Nat} {M : Nat → Nat → Int32} {σ : Sg} (hp : p < 12) (hI : Iv σ M []) (hR : xRetI cX0_bring K (Po_bring p M [] σ)) : K 0 [(0, .inr 2), (1, .inl (nI p))] [] σ := by
  have hIu : ∀ v, Iv (sw_up σ 2 0 v) M [] := fun v => iv_same hI rfl rfl rfl rfl rfl rfl rfl rfl rfl
  by_cases hk : σ 0 p = nI 1
  · obtain ⟨f, hf, h1p, h4, hc⟩ := iv_inframe hI hp List.not_mem_nil hk
    have e16 : ∀ v, sw_up σ 2 0 v 0 p = nI 1 := fun v => hk
    have e30 : ∀ v, sw_up σ 2 0 v 1 p = nI f := fun v => h1p
    have e41 : ∀ v w, sw_up (sw_up σ 2 0 v) 5 f w 1 p = nI f := fun v w => h1p
    refine r_aload G 0 dX0_bring_0 rfl ?_
    refine r_dup G 1 dX0_bring_1 ?_
    refine r_f2 G 2 dX0_bring_2 ?_
    refine r_iconst G 5 (nI 1) dX0_bring_5 (by decide) ?_
    refine r_iadd G 6 dX0_bring_6 rfl ?_
    refine r_p2 G 7 dX0_bring_7 ?_
    refine r_aload G 10 dX0_bring_10 rfl ?_
    refine r_f0 G 11 dX0_bring_11 ?_
    refine r_iload_n G 14 dX0_bring_14 rfl ?_
    refine r_ald G 15 12 rfl dX0_bring_15 rfl (by omega) ?_
    rw [e16]
    refine r_iconst G 16 (nI 1) dX0_bring_16 (by decide) ?_
    refine b_ne G 17 45 dX0_bring_17 (by decide) (by omega) (by omega) (fun h_17 => absurd rfl h_17) (fun h_17 => ?_)
    refine r_aload G 20 dX0_bring_20 rfl ?_
    refine r_f5 G 21 dX0_bring_21 ?_
    refine r_aload G 24 dX0_bring_24 rfl ?_
    refine r_f1 G 25 dX0_bring_25 ?_
    refine r_iload_n G 28 dX0_bring_28 rfl ?_
    refine r_ald G 29 12 rfl dX0_bring_29 rfl (by omega) ?_
    rw [e30]
    refine r_aload G 30 dX0_bring_30 rfl ?_
    refine r_f2 G 31 dX0_bring_31 ?_
    refine r_ast G 34 3 rfl dX0_bring_34 rfl (by omega) ?_
    refine r_aload G 35 dX0_bring_35 rfl ?_
    refine r_f1 G 36 dX0_bring_36 ?_
    refine r_iload_n G 39 dX0_bring_39 rfl ?_
    refine r_ald G 40 12 rfl dX0_bring_40 rfl (by omega) ?_
    rw [e41]
    refine r_bipush G 41 (nI 16) dX0_bring_41 (by decide) ?_
    refine r_imul G 43 dX0_bring_43 (pk_mul _ _) ?_
    exact hR 44 _ _ _ dX0_bring_44 (⟨f, hf, rfl, iv_same hI rfl rfl rfl rfl rfl rfl rfl rfl rfl, hk, h1p, rfl, rfl⟩)
  · skip
    refine r_aload G 0 dX0_bring_0 rfl ?_
    refine r_dup G 1 dX0_bring_1 ?_
    refine r_f2 G 2 dX0_bring_2 ?_
    refine r_iconst G 5 (nI 1) dX0_bring_5 (by decide) ?_
    refine r_iadd G 6 dX0_bring_6 rfl ?_
    refine r_p2 G 7 dX0_bring_7 ?_
    refine r_aload G 10 dX0_bring_10 rfl ?_
    refine r_f0 G 11 dX0_bring_11 ?_
    refine r_iload_n G 14 dX0_bring_14 rfl ?_
    refine r_ald G 15 12 rfl dX0_bring_15 rfl (by omega) ?_
    refine r_iconst G 16 (nI 1) dX0_bring_16 (by decide) ?_
    refine r_icmp_ne G 17 45 dX0_bring_17 (by decide) (fun h_17 => ?_) (fun h_17 => absurd h_17 hk)
    refine r_aload G 45 dX0_bring_45 rfl ?_
    refine c_I0 (hFF M) 46 dX0_bring_46 (Nat.le_of_ble_eq_true rfl) ⟨rfl, hIu _⟩ (fun r_46 σ_46 h_46 => ?_)
    obtain ⟨f, hf, hr46, h4, hI2, hkq, h15, h16⟩ := h_46
    rw [hr46]
    refine r_istore_n G 49 dX0_bring_49 (Nat.le_of_ble_eq_true rfl) ?_
    refine r_iconst G 50 (nI 0) dX0_bring_50 (by decide) ?_
    refine r_istore_n G 51 dX0_bring_51 (Nat.le_of_ble_eq_true rfl) ?_
    exact r_pick G [0, 1, 2, 3] (lpZ_bring (p := p) (f := f) (σ1 := σ_46) G (fun σ' hu1 hu2 => wk71_bring (σ0 := σ) G hRl hU hp hf (iv_same hI2 (hu2 0 (by decide)) (hu2 1 (by decide)) (hu2 3 (by decide)) (hu2 4 (by decide)) (hu2 6 (by decide)) (hu2 7 (by decide)) (hu2 8 (by decide)) (hu2 10 (by decide)) (hu2 11 (by decide))) (by rw [hu2 4 (by decide)]; exact h4) (fun e => hk (hkq p hp (by rw [hu2 0 (by decide)] at e; exact e))) hu1 ((hu2 15 (by decide)).trans h15) ((hu2 16 (by decide)).trans h16) hR) 17 0 σ_46 (by omega) (by omega) lt_0 (fun _ _ => rfl))
end BRING
abbrev rm_bring : Room := { frames := 5, cells := 0, slots := 0, locals := 122 }
theorem met_bring (l : Launch) (dC : Nat → ClassId) (dI : Nat → Nat → Nat) (ad : Nat → Nat) (d : ClassId) (p : Nat) (M : Nat → Nat → Int32) : xMetI l dC dI ad d yX0_bring cX0_bring 4 (some .int) rm_bring 2 1 (Pr_pg p M) (Po_bring p M) :=
  xMetI_of RX0 rfl (by decide) (by decide) (fun K G xs σ _ hp hR => by
    obtain ⟨hp, h1, h2⟩ := hp
    subst hp
    exact wk_bring G (fun p M => (x_callV G (met_release l dC dI ad d p M) (lw_V q177 q179 qs21 q29 q180) xRec2 (by decide +kernel) rfl rfl ⟨Nat.le_of_ble_eq_true rfl, Nat.le_of_ble_eq_true rfl⟩)) (fun e z n X => (x_callV G (met_unpack l dC dI ad d e z n X) (lw_V q161 q163 qs17 q29 q164) xRec2 (by decide +kernel) rfl rfl ⟨Nat.le_of_ble_eq_true rfl, Nat.le_of_ble_eq_true rfl⟩)) (fun M => (x_callI G (met_freeFrame l dC dI ad d M) (lw_V q109 q111 qs4 q29 q112) xRec2 (by decide +kernel) rfl rfl ⟨Nat.le_of_ble_eq_true rfl, Nat.le_of_ble_eq_true rfl⟩)) h1 h2 hR)
/-! hold -/
def Po_hold (q : Nat) (M : Nat → Nat → Int32) : List Int32 → Sg → Sg → Prop := fun _ σ σ' => Iv σ' M [] ∧ (∀ i, i < 16 → σ' 15 i = M q i) ∧ σ' 16 = σ 16
section HOLD
variable {l : Launch} {R : Room} {dC : Nat → ClassId} {dI : Nat → Nat → Nat} {ad : Nat → Nat} {d : ClassId} {K : xK}
theorem lp_hold (G : xGood l R dC dI ad d RX0 cX0_hold 4 K) {q f : Nat} {M : Nat → Nat → Int32} {σ0 σ1 : Sg} (hf : f < 3) (hI : Iv σ1 M []) (hc : ∀ i, i < 16 → σ1 3 (f * 16 + i) = M q i) (h16 : σ1 16 = σ0 16) (hR : xRetV cX0_hold K (Po_hold q M [] σ0)) :
    ∀ t i σ, i ≤ 16 → 17 ≤ t + i → (∀ j, j < i → σ 15 j = M q j) → (∀ a, a ≠ 15 → σ a = σ1 a) → K 8 [(0, .inr 2), (1, .inl (nI q)), (2, .inl (nI (f * 16))), (3, .inl (nI i))] [] σ := by
  intro t
  induction t with
  | zero => intro i σ h1 h2; omega
  | succ t ih =>
    intro i σ h1 h2 hd hk
    refine r_iload_n G 8 dX0_hold_8 rfl ?_
    refine r_bipush G 9 (nI 16) dX0_hold_9 (by decide) ?_
    refine b_ge G 11 34 dX0_hold_11 (by decide) (by omega) (by omega) (fun h_11 => ?_) (fun h_11 => ?_)
    · exact hR 34 _ _ dX0_hold_34 (⟨iv_same hI (hk 0 (by decide)) (hk 1 (by decide)) (hk 3 (by decide)) (hk 4 (by decide)) (hk 6 (by decide)) (hk 7 (by decide)) (hk 8 (by decide)) (hk 10 (by decide)) (hk 11 (by decide)), fun j hj => hd j (by omega), (hk 16 (by decide)).trans h16⟩)
    · refine r_aload G 14 dX0_hold_14 rfl ?_
      refine r_f15 G 15 dX0_hold_15 ?_
      refine r_iload_n G 18 dX0_hold_18 rfl ?_
      refine r_aload G 19 dX0_hold_19 rfl ?_
      refine r_f3 G 20 dX0_hold_20 ?_
      refine r_iload_n G 23 dX0_hold_23 rfl ?_
      refine r_iload_n G 24 dX0_hold_24 rfl ?_
      refine r_iadd G 25 dX0_hold_25 (nI_add _ _) ?_
      refine r_ald G 26 48 rfl dX0_hold_26 rfl (by omega) ?_
      refine r_ast G 27 16 rfl dX0_hold_27 rfl (by omega) ?_
      refine r_iinc G 28 dX0_hold_28 rfl (c_inc _) (Nat.le_of_ble_eq_true rfl) ?_
      refine r_goto G 31 8 dX0_hold_31 (by decide) ?_
      exact r_pick G [0, 1, 2, 3] (ih (i + 1) _ (by omega) (by omega) (fun j hj => by by_cases e : j = i; subst e; rw [sw_up_s, hk 3 (by decide)]; exact hc j (by omega); rw [sw_up_o e]; exact hd j (by omega)) (fun a ha => (sw_up_n ha).trans (hk a ha)))
theorem wk_hold (G : xGood l R dC dI ad d RX0 cX0_hold 4 K) (hB : ∀ p M, xCallI cX0_hold K 119 2 1 (Pr_pg p M) (Po_bring p M)) {q : Nat} {M : Nat → Nat → Int32} {σ : Sg} (hq : q < 12) (hI : Iv σ M []) (hR : xRetV cX0_hold K (Po_hold q M [] σ)) : K 0 [(0, .inr 2), (1, .inl (nI q))] [] σ := by
  refine r_aload G 0 dX0_hold_0 rfl ?_
  refine r_iload_n G 1 dX0_hold_1 rfl ?_
  refine c_I1 (hB q M) 2 dX0_hold_2 (Nat.le_of_ble_eq_true rfl) ⟨rfl, hq, hI⟩ (fun r_2 σ_2 h_2 => ?_)
  obtain ⟨f, hf, hr2, hI2, hk0, hk1, h15, h16⟩ := h_2
  rw [hr2]
  refine r_istore_n G 5 dX0_hold_5 (Nat.le_of_ble_eq_true rfl) ?_
  refine r_iconst G 6 (nI 0) dX0_hold_6 (by decide) ?_
  refine r_istore_n G 7 dX0_hold_7 (Nat.le_of_ble_eq_true rfl) ?_
  exact r_pick G [0, 1, 2, 3] (lp_hold (σ0 := σ) G hf hI2 (iv_at hI2 hq List.not_mem_nil hk0 hk1 (by omega)).2.2 h16 hR 17 0 σ_2 (by omega) (by omega) lt_0 (fun _ _ => rfl))
end HOLD
abbrev rm_hold : Room := { frames := 6, cells := 0, slots := 0, locals := 145 }
theorem met_hold (l : Launch) (dC : Nat → ClassId) (dI : Nat → Nat → Nat) (ad : Nat → Nat) (d : ClassId) (p : Nat) (M : Nat → Nat → Int32) : xMetV l dC dI ad d yX0_hold cX0_hold 4 rm_hold 2 1 (Pr_pg p M) (Po_hold p M) :=
  xMetV_of RX0 rfl (by decide) (by decide) (fun K G xs σ _ hp hR => by
    obtain ⟨hp, h1, h2⟩ := hp
    subst hp
    exact wk_hold G (fun p M => (x_callI G (met_bring l dC dI ad d p M) (lw_V q105 q107 qs3 q29 q108) xRec2 (by decide +kernel) rfl rfl ⟨Nat.le_of_ble_eq_true rfl, Nat.le_of_ble_eq_true rfl⟩)) h1 h2 hR)
/-! firstDifference -/
def isFD (X Y : Nat → Int32) (r : Int32) : Prop := (r = -4 ∧ ∀ i, i < 16 → X i = Y i) ∨ ∃ i, i < 16 ∧ r = nI i ∧ X i ≠ Y i ∧ ∀ j, j < i → X j = Y j
theorem isFD_u {X Y : Nat → Int32} {r s : Int32} (h : isFD X Y r) (g : isFD X Y s) : r = s := by
  rcases h with ⟨h1, h2⟩ | ⟨i, h1, h2, h3, h4⟩ <;> rcases g with ⟨g1, g2⟩ | ⟨j, g1, g2, g3, g4⟩
  · rw [h1, g1]
  · exact absurd (h2 j g1) g3
  · exact absurd (g2 i h1) h3
  · have : i = j := by
      rcases Nat.lt_trichotomy i j with z | z | z
      · exact absurd (g4 i z) h3
      · exact z
      · exact absurd (h4 j z) g3
    subst this
    rw [h2, g2]
theorem isFD_sym {X Y : Nat → Int32} {r : Int32} (h : isFD X Y r) : isFD Y X r := by
  rcases h with ⟨h1, h2⟩ | ⟨i, h1, h2, h3, h4⟩
  · exact Or.inl ⟨h1, fun i hi => (h2 i hi).symm⟩
  · exact Or.inr ⟨i, h1, h2, fun e => h3 e.symm, fun j hj => (h4 j hj).symm⟩
def Pr_fd (q : Nat) (M : Nat → Nat → Int32) (X : Nat → Int32) : List Int32 → Sg → Prop := fun xs σ => xs = [nI q] ∧ q < 12 ∧ Iv σ M [] ∧ ∀ i, i < 16 → σ 15 i = X i
def Po_fd (q : Nat) (M : Nat → Nat → Int32) (X : Nat → Int32) : List Int32 → Sg → Int32 → Sg → Prop := fun _ σ r σ' => isFD X (M q) r ∧ Iv σ' M [] ∧ σ' 15 = σ 15 ∧ σ' 16 = σ 16
section FD
variable {l : Launch} {R : Room} {dC : Nat → ClassId} {dI : Nat → Nat → Nat} {ad : Nat → Nat} {d : ClassId} {K : xK}
theorem lp_fd (G : xGood l R dC dI ad d RX0 cX0_firstDifference 4 K) {q f : Nat} {M : Nat → Nat → Int32} {X : Nat → Int32} {σ0 σ : Sg} (hf : f < 3) (hI : Iv σ M []) (hc : ∀ i, i < 16 → σ 3 (f * 16 + i) = M q i) (hX : ∀ i, i < 16 → σ 15 i = X i) (h15 : σ 15 = σ0 15) (h16 : σ 16 = σ0 16) (hR : xRetI cX0_firstDifference K (Po_fd q M X [] σ0)) :
    ∀ t i, i ≤ 16 → 17 ≤ t + i → (∀ j, j < i → X j = M q j) → K 8 [(0, .inr 2), (1, .inl (nI q)), (2, .inl (nI (f * 16))), (3, .inl (nI i))] [] σ := by
  intro t
  induction t with
  | zero => intro i h1 h2; omega
  | succ t ih =>
    intro i h1 h2 hd
    refine r_iload_n G 8 dX0_firstDifference_8 rfl ?_
    refine r_bipush G 9 (nI 16) dX0_firstDifference_9 (by decide) ?_
    refine b_ge G 11 39 dX0_firstDifference_11 (by decide) (by omega) (by omega) (fun h_11 => ?_) (fun h_11 => ?_)
    · refine r_bipush G 39 (-4) dX0_firstDifference_39 (by decide) ?_
      exact hR 41 _ _ _ dX0_firstDifference_41 (⟨Or.inl ⟨rfl, fun j hj => hd j (by omega)⟩, hI, h15, h16⟩)
    · refine r_aload G 14 dX0_firstDifference_14 rfl ?_
      refine r_f3 G 15 dX0_firstDifference_15 ?_
      refine r_iload_n G 18 dX0_firstDifference_18 rfl ?_
      refine r_iload_n G 19 dX0_firstDifference_19 rfl ?_
      refine r_iadd G 20 dX0_firstDifference_20 (nI_add _ _) ?_
      refine r_ald G 21 48 rfl dX0_firstDifference_21 rfl (by omega) ?_
      refine r_aload G 22 dX0_firstDifference_22 rfl ?_
      refine r_f15 G 23 dX0_firstDifference_23 ?_
      refine r_iload_n G 26 dX0_firstDifference_26 rfl ?_
      refine r_ald G 27 16 rfl dX0_firstDifference_27 rfl (by omega) ?_
      refine r_icmp_eq G 28 33 dX0_firstDifference_28 (by decide) (fun h_28 => ?_) (fun h_28 => ?_)
      · refine r_iinc G 33 dX0_firstDifference_33 rfl (c_inc _) (Nat.le_of_ble_eq_true rfl) ?_
        refine r_goto G 36 8 dX0_firstDifference_36 (by decide) ?_
        exact r_pick G [0, 1, 2, 3] (ih (i + 1) (by omega) (by omega) (lt_s hd (by rw [← hX i h_11, ← hc i h_11, h_28])))
      · refine r_iload_n G 31 dX0_firstDifference_31 rfl ?_
        exact hR 32 _ _ _ dX0_firstDifference_32 (⟨Or.inr ⟨i, h_11, rfl, fun e => h_28 (by rw [hc i h_11, hX i h_11, e]), hd⟩, hI, h15, h16⟩)
theorem wk_fd (G : xGood l R dC dI ad d RX0 cX0_firstDifference 4 K) (hB : ∀ p M, xCallI cX0_firstDifference K 119 2 1 (Pr_pg p M) (Po_bring p M)) {q : Nat} {M : Nat → Nat → Int32} {X : Nat → Int32} {σ : Sg} (hq : q < 12) (hI : Iv σ M []) (hX : ∀ i, i < 16 → σ 15 i = X i) (hR : xRetI cX0_firstDifference K (Po_fd q M X [] σ)) : K 0 [(0, .inr 2), (1, .inl (nI q))] [] σ := by
  refine r_aload G 0 dX0_firstDifference_0 rfl ?_
  refine r_iload_n G 1 dX0_firstDifference_1 rfl ?_
  refine c_I1 (hB q M) 2 dX0_firstDifference_2 (Nat.le_of_ble_eq_true rfl) ⟨rfl, hq, hI⟩ (fun r_2 σ_2 h_2 => ?_)
  obtain ⟨f, hf, hr2, hI2, hk0, hk1, h15, h16⟩ := h_2
  rw [hr2]
  refine r_istore_n G 5 dX0_firstDifference_5 (Nat.le_of_ble_eq_true rfl) ?_
  refine r_iconst G 6 (nI 0) dX0_firstDifference_6 (by decide) ?_
  refine r_istore_n G 7 dX0_firstDifference_7 (Nat.le_of_ble_eq_true rfl) ?_
  exact r_pick G [0, 1, 2, 3] (lp_fd (σ0 := σ) G hf hI2 (iv_at hI2 hq List.not_mem_nil hk0 hk1 (by omega)).2.2 (fun i hi => by rw [h15]; exact hX i hi) h15 h16 hR 17 0 (by omega) (by omega) lt_0)
end FD
theorem met_firstDifference (l : Launch) (dC : Nat → ClassId) (dI : Nat → Nat → Nat) (ad : Nat → Nat) (d : ClassId) (q : Nat) (M : Nat → Nat → Int32) (X : Nat → Int32) : xMetI l dC dI ad d yX0_firstDifference cX0_firstDifference 4 (some .int) rm_hold 2 1 (Pr_fd q M X) (Po_fd q M X) :=
  xMetI_of RX0 rfl (by decide) (by decide) (fun K G xs σ _ hp hR => by
    obtain ⟨hp, h1, h2, h3⟩ := hp
    subst hp
    exact wk_fd G (fun p M => (x_callI G (met_bring l dC dI ad d p M) (lw_V q105 q107 qs3 q29 q108) xRec2 (by decide +kernel) rfl rfl ⟨Nat.le_of_ble_eq_true rfl, Nat.le_of_ble_eq_true rfl⟩)) h1 h2 h3 hR)
end
section
/-! WHAT THE CALLS MEAN: over the pages' bytes M *)-/
abbrev Mm : Type := Nat → Nat → Int32
abbrev Sp : Type := Mm → Int32 → Mm → Prop
def BY (M : Mm) : Prop := ∀ p, p < 12 → ∀ i, i < 16 → ∃ b, b < 256 ∧ M p i = nI b
def setR (M : Mm) (p : Nat) (X : Nat → Int32) : Mm := fun q => if q = p then X else M q
theorem setR_s (M : Mm) (p : Nat) (X : Nat → Int32) : setR M p X p = X := if_pos rfl
theorem setR_o {M : Mm} {p q : Nat} {X : Nat → Int32} (h : q ≠ p) : setR M p X q = M q := if_neg h
theorem BY_set {M : Mm} {p : Nat} {X : Nat → Int32} (h : BY M) (hX : ∀ i, i < 16 → ∃ b, b < 256 ∧ X i = nI b) : BY (setR M p X) := by
  intro q hq i hi
  by_cases e : q = p
  · rw [e, setR_s]; exact hX i hi
  · rw [setR_o e]; exact h q hq i hi
/-- deterministic, and bytes stay bytes -/
def Sok (S : Sp) : Prop := (∀ M r1 M1 r2 M2, BY M → S M r1 M1 → S M r2 M2 → r1 = r2 ∧ M1 = M2) ∧ ∀ M r M', BY M → S M r M' → BY M'
def GG (b1 b2 b3 b4 : Nat) (C : Nat → Nat → Nat → Nat → Prop) (x y z w : Int32) (p j k n : Nat) : Prop := p < b1 ∧ j < b2 ∧ k < b3 ∧ n < b4 ∧ x = nI p ∧ y = nI j ∧ z = nI k ∧ w = nI n ∧ C p j k n
def S1 (b1 b2 b3 b4 : Nat) (C : Nat → Nat → Nat → Nat → Prop) (x y z w : Int32) (P : Nat → Nat → Nat → Nat → Sp) : Sp := fun M r M' =>
  (¬ (∃ p j k n, GG b1 b2 b3 b4 C x y z w p j k n) ∧ r = -1 ∧ M' = M) ∨ ∃ p j k n, GG b1 b2 b3 b4 C x y z w p j k n ∧ P p j k n M r M'
section GGR
variable {b1 b2 b3 b4 : Nat} {C : Nat → Nat → Nat → Nat → Prop} {x y z w : Int32}
theorem nb1 (h : ¬ inN b1 x) : ¬ ∃ p j k n, GG b1 b2 b3 b4 C x y z w p j k n := fun ⟨p, j, k, n, g⟩ => h ⟨p, g.1, g.2.2.2.2.1⟩
theorem nb2 (h : ¬ inN b2 y) : ¬ ∃ p j k n, GG b1 b2 b3 b4 C x y z w p j k n := fun ⟨p, j, k, n, g⟩ => h ⟨j, g.2.1, g.2.2.2.2.2.1⟩
theorem nb3 (h : ¬ inN b3 z) : ¬ ∃ p j k n, GG b1 b2 b3 b4 C x y z w p j k n := fun ⟨p, j, k, n, g⟩ => h ⟨k, g.2.2.1, g.2.2.2.2.2.2.1⟩
theorem nb4 (h : ¬ inN b4 w) : ¬ ∃ p j k n, GG b1 b2 b3 b4 C x y z w p j k n := fun ⟨p, j, k, n, g⟩ => h ⟨n, g.2.2.2.1, g.2.2.2.2.2.2.2.1⟩
theorem S1_bad {P : Nat → Nat → Nat → Nat → Sp} {M : Mm} (h : ¬ ∃ p j k n, GG b1 b2 b3 b4 C x y z w p j k n) : S1 b1 b2 b3 b4 C x y z w P M (-1) M := Or.inl ⟨h, rfl, rfl⟩
theorem S1_ok {P : Nat → Nat → Nat → Nat → Sp} (h1 : b1 ≤ 256) (h2 : b2 ≤ 256) (h3 : b3 ≤ 256) (h4 : b4 ≤ 256) (hP : ∀ p j k n, GG b1 b2 b3 b4 C x y z w p j k n → Sok (P p j k n)) : Sok (S1 b1 b2 b3 b4 C x y z w P) := by
  constructor
  · intro M r1 M1 r2 M2 hb g1 g2
    rcases g1 with ⟨n1, a1, a2⟩ | ⟨p, j, k, n, g, hp⟩ <;> rcases g2 with ⟨n2, c1, c2⟩ | ⟨p', j', k', n', g', hp'⟩
    · exact ⟨a1.trans c1.symm, a2.trans c2.symm⟩
    · exact absurd ⟨p', j', k', n', g'⟩ n1
    · exact absurd ⟨p, j, k, n, g⟩ n2
    · obtain ⟨u1, u2, u3, u4, u5, u6, u7, u8, -⟩ := id g
      obtain ⟨v1, v2, v3, v4, v5, v6, v7, v8, -⟩ := id g'
      have e1 := nI_inj (by omega) (by omega) (u5.symm.trans v5)
      have e2 := nI_inj (by omega) (by omega) (u6.symm.trans v6)
      have e3 := nI_inj (by omega) (by omega) (u7.symm.trans v7)
      have e4 := nI_inj (by omega) (by omega) (u8.symm.trans v8)
      subst e1; subst e2; subst e3; subst e4
      exact (hP p j k n g).1 M r1 M1 r2 M2 hb hp hp'
  · intro M r M' hb g
    rcases g with ⟨n1, a1, a2⟩ | ⟨p, j, k, n, g, hp⟩
    · rw [a2]; exact hb
    · exact (hP p j k n g).2 M r M' hb hp
end GGR
/-- a call that answers by the bytes alone, and sets one row (or none) -/
theorem Sok_fun (f : Mm → Int32) (g : Mm → Mm) (hg : ∀ M, BY M → BY (g M)) : Sok (fun M r M' => r = f M ∧ M' = g M) :=
  ⟨fun M r1 M1 r2 M2 _ h1 h2 => ⟨h1.1.trans h2.1.symm, h1.2.trans h2.2.symm⟩, fun M r M' hb h => by rw [h.2]; exact hg M hb⟩
theorem Sok_rel (f : Mm → Int32 → Prop) (hu : ∀ M r s, BY M → f M r → f M s → r = s) : Sok (fun M r M' => f M r ∧ M' = M) :=
  ⟨fun M r1 M1 r2 M2 hb h1 h2 => ⟨hu M r1 r2 hb h1.1 h2.1, h1.2.trans h2.2.symm⟩, fun M r M' hb h => by rw [h.2]; exact hb⟩
def TT : Nat → Nat → Nat → Nat → Prop := fun _ _ _ _ => True
def cntD (X Y : Nat → Int32) : Nat → Nat
  | 0 => 0
  | n + 1 => cntD X Y n + (if X n = Y n then 0 else 1)
theorem cntD_le (X Y : Nat → Int32) : ∀ n, cntD X Y n ≤ n := by
  intro n
  induction n with
  | zero => exact Nat.le_refl _
  | succ n ih =>
    show cntD X Y n + (if X n = Y n then 0 else 1) ≤ n + 1
    split <;> omega
theorem cntD_e {X Y : Nat → Int32} {n : Nat} (h : X n = Y n) : cntD X Y (n + 1) = cntD X Y n := by
  show cntD X Y n + (if X n = Y n then 0 else 1) = _
  rw [if_pos h]; rfl
theorem cntD_n {X Y : Nat → Int32} {n : Nat} (h : ¬ X n = Y n) : cntD X Y (n + 1) = cntD X Y n + 1 := by
  show cntD X Y n + (if X n = Y n then 0 else 1) = _
  rw [if_neg h]
def sumF (X : Nat → Int32) : Nat → Int32
  | 0 => 0
  | n + 1 => sumF X n + nI (n + 1) * X n
def mvF (X : Nat → Int32) (a c : Nat) : Nat → (Nat → Int32)
  | 0 => X
  | k + 1 => upd (mvF X a c k) (c + k) (mvF X a c k (a + k))
noncomputable def bl1 (X : Nat → Int32) : Nat := @ite Nat (∀ i, i < 16 → X i = 0) (Classical.propDecidable _) 1 0
theorem bl1_1 {X : Nat → Int32} (h : ∀ i, i < 16 → X i = 0) : bl1 X = 1 := @if_pos _ (Classical.propDecidable _) h _ _ _
theorem bl1_0 {X : Nat → Int32} (h : pg_nz X) : bl1 X = 0 := @if_neg _ (Classical.propDecidable _) (fun z => by obtain ⟨i, h1, h2⟩ := h; exact h2 (z i h1)) _ _ _
noncomputable def cntB (M : Mm) : Nat → Nat
  | 0 => 0
  | n + 1 => cntB M n + bl1 (M n)
theorem bl1_le (X : Nat → Int32) : bl1 X ≤ 1 := by
  by_cases h : ∀ i, i < 16 → X i = 0
  · rw [bl1_1 h]; exact Nat.le_refl _
  · rw [show bl1 X = 0 from @if_neg _ (Classical.propDecidable _) h _ _ _]; exact Nat.zero_le _
theorem cntB_le (M : Mm) : ∀ n, cntB M n ≤ n := by
  intro n
  induction n with
  | zero => exact Nat.le_refl _
  | succ n ih =>
    have := bl1_le (M n)
    show cntB M n + bl1 (M n) ≤ n + 1
    omega
def isFind (X : Nat → Int32) (a : Nat) (b r : Int32) : Prop := (r = -4 ∧ ∀ i, a ≤ i → i < 16 → X i ≠ b) ∨ ∃ i, a ≤ i ∧ i < 16 ∧ r = nI i ∧ X i = b ∧ ∀ j, a ≤ j → j < i → X j ≠ b
theorem isFind_u {X : Nat → Int32} {a : Nat} {b r s : Int32} (h : isFind X a b r) (g : isFind X a b s) : r = s := by
  rcases h with ⟨h1, h2⟩ | ⟨i, h1, h2, h3, h4, h5⟩ <;> rcases g with ⟨g1, g2⟩ | ⟨j, g1, g2, g3, g4, g5⟩
  · rw [h1, g1]
  · exact absurd g4 (h2 j g1 g2)
  · exact absurd h4 (g2 i h1 h2)
  · have : i = j := by
      rcases Nat.lt_trichotomy i j with z | z | z
      · exact absurd h4 (g5 i h1 z)
      · exact z
      · exact absurd g4 (h5 j g1 z)
    subst this
    rw [h3, g3]
def eqR (X Y : Nat → Int32) : Prop := ∀ i, i < 16 → X i = Y i
def isTwin (M : Mm) (p : Nat) (r : Int32) : Prop := (r = -4 ∧ ∀ q, q < 12 → q ≠ p → ¬ eqR (M p) (M q)) ∨ ∃ q, q < 12 ∧ q ≠ p ∧ r = nI q ∧ eqR (M p) (M q) ∧ ∀ t, t < q → t ≠ p → ¬ eqR (M p) (M t)
theorem isTwin_u {M : Mm} {p : Nat} {r s : Int32} (h : isTwin M p r) (g : isTwin M p s) : r = s := by
  rcases h with ⟨h1, h2⟩ | ⟨i, h1, h2, h3, h4, h5⟩ <;> rcases g with ⟨g1, g2⟩ | ⟨j, g1, g2, g3, g4, g5⟩
  · rw [h1, g1]
  · exact absurd g4 (h2 j g1 g2)
  · exact absurd h4 (g2 i h1 h2)
  · have : i = j := by
      rcases Nat.lt_trichotomy i j with z | z | z
      · exact absurd h4 (g5 i z h2)
      · exact z
      · exact absurd g4 (h5 j z g2)
    subst this
    rw [h3, g3]
theorem fd_eq {X Y : Nat → Int32} {r : Int32} (h : isFD X Y r) : r = -4 ↔ eqR X Y := by
  rcases h with ⟨h1, h2⟩ | ⟨i, h1, h2, h3, h4⟩
  · exact ⟨fun _ => h2, fun _ => h1⟩
  · refine ⟨fun e => ?_, fun e => absurd (e i h1) h3⟩
    rw [h2] at e
    exact absurd (by rw [e]; decide) (nI_pos (show i < 2 ^ 31 by omega))
/-! the calls -/
def S_write (x y z : Int32) : Sp := S1 12 16 256 1 TT x y z (nI 0) (fun p j k _ M r M' => r = M p j ∧ M' = setR M p (upd (M p) j (nI k)))
def S_read (x y : Int32) : Sp := S1 12 16 1 1 TT x y (nI 0) (nI 0) (fun p j _ _ M r M' => r = M p j ∧ M' = M)
def S_fill (x y z w : Int32) : Sp := S1 12 16 16 256 TT x y z w (fun p j k n M r M' => r = nI (k + 1 - j) ∧ M' = setR M p (fun t => if j ≤ t ∧ t ≤ k then nI n else M p t))
def S_copy (x y : Int32) : Sp := S1 12 12 1 1 TT x y (nI 0) (nI 0) (fun p q _ _ M r M' => r = nI (cntD (M p) (M q) 16) ∧ M' = setR M p (M q))
def S_exchange (x y : Int32) : Sp := S1 12 12 1 1 TT x y (nI 0) (nI 0) (fun p q _ _ M r M' => r = 0 ∧ M' = setR (setR M p (M q)) q (M p))
def S_move (x y z w : Int32) : Sp := S1 12 16 16 17 (fun _ j k n => j + n ≤ 16 ∧ k + n ≤ 16) x y z w (fun p j k n M r M' => r = 0 ∧ M' = setR M p (mvF (M p) j k n))
def S_mix (x y : Int32) : Sp := S1 12 12 1 1 TT x y (nI 0) (nI 0) (fun p q _ _ M r M' => r = 0 ∧ M' = setR M p (fun t => M p t ^^^ M q t))
def S_drop (x : Int32) : Sp := S1 12 1 1 1 TT x (nI 0) (nI 0) (nI 0) (fun p _ _ _ M r M' => r = 0 ∧ M' = setR M p (fun _ => 0))
def S_sum (x : Int32) : Sp := S1 12 1 1 1 TT x (nI 0) (nI 0) (nI 0) (fun p _ _ _ M r M' => r = sumF (M p) 16 ∧ M' = M)
def S_differ (x y : Int32) : Sp := S1 12 12 1 1 TT x y (nI 0) (nI 0) (fun p q _ _ M r M' => isFD (M p) (M q) r ∧ M' = M)
def S_find (x y z : Int32) : Sp := S1 12 16 256 1 TT x y z (nI 0) (fun p j k _ M r M' => isFind (M p) j (nI k) r ∧ M' = M)
def S_blank : Sp := fun M r M' => r = nI (cntB M 12) ∧ M' = M
def S_twin (x : Int32) : Sp := S1 12 1 1 1 TT x (nI 0) (nI 0) (nI 0) (fun p _ _ _ M r M' => isTwin M p r ∧ M' = M)
def S_away (x : Int32) : Sp := S1 12 1 1 1 TT x (nI 0) (nI 0) (nI 0) (fun _ _ _ _ M r M' => r = 0 ∧ M' = M)
theorem nx_xor (a b : Nat) : nI a ^^^ nI b = nI (a ^^^ b) := by
  apply Int32.toBitVec_inj.1
  show BitVec.ofNat 32 a ^^^ BitVec.ofNat 32 b = BitVec.ofNat 32 (a ^^^ b)
  apply BitVec.eq_of_getLsbD_eq
  intro i hi
  simp [hi]
theorem mvF_by {X : Nat → Int32} {a c : Nat} (h : ∀ i, i < 16 → ∃ b, b < 256 ∧ X i = nI b) : ∀ n, a + n ≤ 16 → ∀ i, i < 16 → ∃ b, b < 256 ∧ mvF X a c n i = nI b := by
  intro n
  induction n with
  | zero => intro _; exact h
  | succ n ih =>
    intro hn i hi
    show ∃ b, b < 256 ∧ upd (mvF X a c n) (c + n) (mvF X a c n (a + n)) i = nI b
    by_cases e : i = c + n
    · rw [e, upd_s]; exact ih (by omega) (a + n) (by omega)
    · rw [upd_o e]; exact ih (by omega) i hi
theorem ok_write (x y z : Int32) : Sok (S_write x y z) := S1_ok (by decide) (by decide) (by decide) (by decide) (fun p j k n g => Sok_fun (fun M => M p j) _ (fun M hb => BY_set hb (fun i hi => by
  by_cases e : i = j
  · rw [e, upd_s]; exact ⟨k, g.2.2.1, rfl⟩
  · rw [upd_o e]; exact hb p g.1 i hi)))
theorem ok_read (x y : Int32) : Sok (S_read x y) := S1_ok (by decide) (by decide) (by decide) (by decide) (fun p j k n g => Sok_fun (fun M => M p j) (fun M => M) (fun M hb => hb))
theorem ok_fill (x y z w : Int32) : Sok (S_fill x y z w) := S1_ok (by decide) (by decide) (by decide) (by decide) (fun p j k n g => Sok_fun (fun _ => nI (k + 1 - j)) _ (fun M hb => BY_set hb (fun i hi => by
  show ∃ b, b < 256 ∧ (if j ≤ i ∧ i ≤ k then nI n else M p i) = nI b
  split
  · exact ⟨n, g.2.2.2.1, rfl⟩
  · exact hb p g.1 i hi)))
theorem ok_copy (x y : Int32) : Sok (S_copy x y) := S1_ok (by decide) (by decide) (by decide) (by decide) (fun p q k n g => Sok_fun (fun M => nI (cntD (M p) (M q) 16)) _ (fun M hb => BY_set hb (fun i hi => hb q g.2.1 i hi)))
theorem ok_exchange (x y : Int32) : Sok (S_exchange x y) := S1_ok (by decide) (by decide) (by decide) (by decide) (fun p q k n g => Sok_fun (fun _ => 0) _ (fun M hb => BY_set (BY_set hb (fun i hi => hb q g.2.1 i hi)) (fun i hi => hb p g.1 i hi)))
theorem ok_move (x y z w : Int32) : Sok (S_move x y z w) := S1_ok (by decide) (by decide) (by decide) (by decide) (fun p j k n g => Sok_fun (fun _ => 0) _ (fun M hb => BY_set hb (fun i hi => mvF_by (fun i hi => hb p g.1 i hi) n g.2.2.2.2.2.2.2.2.1 i hi)))
theorem ok_mix (x y : Int32) : Sok (S_mix x y) := S1_ok (by decide) (by decide) (by decide) (by decide) (fun p q k n g => Sok_fun (fun _ => 0) _ (fun M hb => BY_set hb (fun i hi => by
  obtain ⟨a, ha, ea⟩ := hb p g.1 i hi
  obtain ⟨b, hb', eb⟩ := hb q g.2.1 i hi
  exact ⟨a ^^^ b, Nat.xor_lt_two_pow (n := 8) ha hb', by rw [ea, eb, nx_xor]⟩)))
theorem ok_drop (x : Int32) : Sok (S_drop x) := S1_ok (by decide) (by decide) (by decide) (by decide) (fun p q k n g => Sok_fun (fun _ => 0) _ (fun M hb => BY_set hb (fun i hi => ⟨0, by decide, rfl⟩)))
theorem ok_sum (x : Int32) : Sok (S_sum x) := S1_ok (by decide) (by decide) (by decide) (by decide) (fun p q k n g => Sok_fun (fun M => sumF (M p) 16) (fun M => M) (fun M hb => hb))
theorem ok_differ (x y : Int32) : Sok (S_differ x y) := S1_ok (by decide) (by decide) (by decide) (by decide) (fun p q k n g => Sok_rel (fun M r => isFD (M p) (M q) r) (fun M r s _ h1 h2 => isFD_u h1 h2))
theorem ok_find (x y z : Int32) : Sok (S_find x y z) := S1_ok (by decide) (by decide) (by decide) (by decide) (fun p j k n g => Sok_rel (fun M r => isFind (M p) j (nI k) r) (fun M r s _ h1 h2 => isFind_u h1 h2))
theorem ok_blank : Sok S_blank := Sok_fun (fun M => nI (cntB M 12)) (fun M => M) (fun M hb => hb)
theorem ok_twin (x : Int32) : Sok (S_twin x) := S1_ok (by decide) (by decide) (by decide) (by decide) (fun p j k n g => Sok_rel (fun M r => isTwin M p r) (fun M r s _ h1 h2 => isTwin_u h1 h2))
theorem ok_away (x : Int32) : Sok (S_away x) := S1_ok (by decide) (by decide) (by decide) (by decide) (fun p q k n g => Sok_fun (fun _ => 0) (fun M => M) (fun M hb => hb))
/-! contracts of the calls -/
def Pr_S (as : List Int32) (M : Mm) : List Int32 → Sg → Prop := fun xs σ => xs = as ∧ Iv σ M []
def Po_S (S : Sp) (M : Mm) : List Int32 → Sg → Int32 → Sg → Prop := fun _ σ r σ' => ∃ M', S M r M' ∧ Iv σ' M' [] ∧ σ' 16 = σ 16
def mem (σ : Sg) (M : Mm) : Prop := ∀ q, q < 12 → ∀ i, i < 16 → σ 16 (16 * q + i) = M q i
def Pr_M (as : List Int32) (M : Mm) : List Int32 → Sg → Prop := fun xs σ => xs = as ∧ mem σ M ∧ BY M
def Po_M (S : Sp) (M : Mm) : List Int32 → Sg → Int32 → Sg → Prop := fun _ σ r σ' => ∃ M', S M r M' ∧ mem σ' M' ∧ ∀ a, a ≠ 16 → σ' a = σ a
theorem chk_bad {n : Nat} {x r : Int32} (h : (r = 1 ∧ ¬ inN n x) ∨ (r = 0 ∧ inN n x)) (hr : ¬ r = 0) : ¬ inN n x := by
  rcases h with h | h
  · exact h.2
  · exact absurd h.1 hr
theorem chk_ok {n : Nat} {x r : Int32} (h : (r = 1 ∧ ¬ inN n x) ∨ (r = 0 ∧ inN n x)) (hr : r = 0) : inN n x := by
  rcases h with h | h
  · rw [h.1] at hr; exact absurd hr (by decide)
  · exact h.2
theorem iv_row {σ σ' : Sg} {M : Mm} {p f : Nat} {X : Nat → Int32} (h : Iv σ M []) (hp : p < 12) (hf : f < 3) (h0 : σ 0 p = nI 1) (h1 : σ 1 p = nI f) (e3 : ∀ t, (t < f * 16 ∨ f * 16 + 16 ≤ t) → σ' 3 t = σ 3 t) (ek : ∀ k, k ≠ 3 → σ' k = σ k) (hX : ∀ i, i < 16 → σ' 3 (f * 16 + i) = X i) : Iv σ' (setR M p X) [] :=
  iv_frame h hp hf h0 h1 e3 ek (fun q _ hq i _ => by rw [setR_o hq]) (fun i hi => by rw [setR_s]; exact hX i hi)
theorem mem_row {σ σ' : Sg} {M : Mm} {p : Nat} {X : Nat → Int32} (h : mem σ M) (hp : p < 12) (e : ∀ t, (t < 16 * p ∨ 16 * p + 16 ≤ t) → σ' 16 t = σ 16 t) (hX : ∀ i, i < 16 → σ' 16 (16 * p + i) = X i) : mem σ' (setR M p X) := by
  intro q hq i hi
  by_cases z : q = p
  · subst z; rw [setR_s]; exact hX i hi
  · rw [setR_o z, e _ (by omega)]; exact h q hq i hi
end
section
/-! the swap's calls, printed by gen31.py -/
section WRITE
variable {l : Launch} {R : Room} {dC : Nat → ClassId} {dI : Nat → Nat → Nat} {ad : Nat → Nat} {d : ClassId} {K : xK}
theorem wk_write (G : xGood l R dC dI ad d RX0 cX0_write 6 K) (h122 : ∀ x, xCallI cX0_write K 122 2 1 (Pr_1 x) (Po_chk 12 x)) (h125 : ∀ x, xCallI cX0_write K 125 2 1 (Pr_1 x) (Po_chk 16 x)) (h128 : ∀ x, xCallI cX0_write K 128 2 1 (Pr_1 x) (Po_chk 256 x)) (hB : ∀ p M, xCallI cX0_write K 119 2 1 (Pr_pg p M) (Po_bring p M)) {x y z : Int32} {M : Mm} {σ : Sg} (hI : Iv σ M []) (hR : xRetI cX0_write K (Po_S (S_write x y z) M [] σ)) : K 0 [(0, .inr 2), (1, .inl x), (2, .inl y), (3, .inl z)] [] σ := by
  refine r_aload G 0 dX0_write_0 rfl ?_
  refine r_iload_n G 1 dX0_write_1 rfl ?_
  refine c_I1 (h122 x) 2 dX0_write_2 (Nat.le_of_ble_eq_true rfl) rfl (fun r_2 σ_2 h_2 => ?_)
  obtain ⟨hs2, hb2⟩ := h_2
  rw [hs2]
  refine r_if_ne G 5 24 dX0_write_5 (by decide) (fun h_5 => ?_) (fun h_5 => ?_)
  · refine r_iconst G 24 (-1) dX0_write_24 (by decide) ?_
    exact hR 25 _ _ _ dX0_write_25 (⟨M, S1_bad (nb1 (chk_bad hb2 h_5)), hI, rfl⟩)
  · refine r_aload G 8 dX0_write_8 rfl ?_
    refine r_iload_n G 9 dX0_write_9 rfl ?_
    refine c_I1 (h125 y) 10 dX0_write_10 (Nat.le_of_ble_eq_true rfl) rfl (fun r_10 σ_10 h_10 => ?_)
    obtain ⟨hs10, hb10⟩ := h_10
    rw [hs10]
    refine r_if_ne G 13 24 dX0_write_13 (by decide) (fun h_13 => ?_) (fun h_13 => ?_)
    · refine r_iconst G 24 (-1) dX0_write_24 (by decide) ?_
      exact hR 25 _ _ _ dX0_write_25 (⟨M, S1_bad (nb2 (chk_bad hb10 h_13)), hI, rfl⟩)
    · refine r_aload G 16 dX0_write_16 rfl ?_
      refine r_iload_n G 17 dX0_write_17 rfl ?_
      refine c_I1 (h128 z) 18 dX0_write_18 (Nat.le_of_ble_eq_true rfl) rfl (fun r_18 σ_18 h_18 => ?_)
      obtain ⟨hs18, hb18⟩ := h_18
      rw [hs18]
      refine r_if_eq G 21 26 dX0_write_21 (by decide) (fun h_21 => ?_) (fun h_21 => ?_)
      · obtain ⟨p, hp, ex⟩ := chk_ok hb2 h_5
        obtain ⟨j, hj, ey⟩ := chk_ok hb10 h_13
        obtain ⟨v, hv, ez⟩ := chk_ok hb18 h_21
        subst ex; subst ey; subst ez
        refine r_aload G 26 dX0_write_26 rfl ?_
        refine r_iload_n G 27 dX0_write_27 rfl ?_
        refine c_I1 (hB p M) 28 dX0_write_28 (Nat.le_of_ble_eq_true rfl) ⟨rfl, hp, hI⟩ (fun r_28 σ_28 h_28 => ?_)
        obtain ⟨f, hf, hr28, hI2, hk0, hk1, h15, h16⟩ := h_28
        rw [hr28]
        have hc := (iv_at hI2 hp List.not_mem_nil hk0 hk1 (by omega)).2.2
        refine r_istore G 31 dX0_write_31 (Nat.le_of_ble_eq_true rfl) ?_
        refine r_aload G 33 dX0_write_33 rfl ?_
        refine r_f3 G 34 dX0_write_34 ?_
        refine r_iload G 37 dX0_write_37 rfl ?_
        refine r_iload_n G 39 dX0_write_39 rfl ?_
        refine r_iadd G 40 dX0_write_40 (nI_add _ _) ?_
        refine r_ald G 41 48 rfl dX0_write_41 rfl (by omega) ?_
        refine r_istore G 42 dX0_write_42 (Nat.le_of_ble_eq_true rfl) ?_
        refine r_aload G 44 dX0_write_44 rfl ?_
        refine r_f3 G 45 dX0_write_45 ?_
        refine r_iload G 48 dX0_write_48 rfl ?_
        refine r_iload_n G 50 dX0_write_50 rfl ?_
        refine r_iadd G 51 dX0_write_51 (nI_add _ _) ?_
        refine r_iload_n G 52 dX0_write_52 rfl ?_
        refine r_ast G 53 48 rfl dX0_write_53 rfl (by omega) ?_
        refine r_iload G 54 dX0_write_54 rfl ?_
        exact hR 56 _ _ _ dX0_write_56 (⟨setR M p (upd (M p) j (nI v)), Or.inr ⟨p, j, v, 0, ⟨hp, hj, hv, by decide, rfl, rfl, rfl, rfl, trivial⟩, hc j hj, rfl⟩, iv_row hI2 hp hf hk0 hk1 (fun t ht => sw_up_o (by omega)) (fun k hk => sw_up_n hk) (fun i hi => by by_cases e : i = j; rw [e, sw_up_s, upd_s]; rw [sw_up_o (by omega), upd_o e]; exact hc i hi), h16⟩)
      · refine r_iconst G 24 (-1) dX0_write_24 (by decide) ?_
        exact hR 25 _ _ _ dX0_write_25 (⟨M, S1_bad (nb3 (chk_bad hb18 h_21)), hI, rfl⟩)
end WRITE
abbrev rm_write : Room := { frames := 6, cells := 0, slots := 0, locals := 145 }
theorem met_write (l : Launch) (dC : Nat → ClassId) (dI : Nat → Nat → Nat) (ad : Nat → Nat) (d : ClassId) (x y z : Int32) (M : Mm) : xMetI l dC dI ad d yX0_write cX0_write 6 (some .int) rm_write 2 3 (Pr_S [x, y, z] M) (Po_S (S_write x y z) M) :=
  xMetI_of RX0 rfl (by decide) (by decide) (fun K G xs σ _ hp hR => by
    obtain ⟨hp, h1⟩ := hp
    subst hp
    exact wk_write G (fun x => (x_callI G (met_badPage l dC dI ad d x) (lw_V q93 q95 qs0 q29 q96) xRec2 (by decide +kernel) rfl rfl ⟨Nat.le_of_ble_eq_true rfl, Nat.le_of_ble_eq_true rfl⟩)) (fun x => (x_callI G (met_badPlace l dC dI ad d x) (lw_V q97 q99 qs1 q29 q100) xRec2 (by decide +kernel) rfl rfl ⟨Nat.le_of_ble_eq_true rfl, Nat.le_of_ble_eq_true rfl⟩)) (fun x => (x_callI G (met_badByte l dC dI ad d x) (lw_V q101 q103 qs2 q29 q104) xRec2 (by decide +kernel) rfl rfl ⟨Nat.le_of_ble_eq_true rfl, Nat.le_of_ble_eq_true rfl⟩)) (fun p M => (x_callI G (met_bring l dC dI ad d p M) (lw_V q105 q107 qs3 q29 q108) xRec2 (by decide +kernel) rfl rfl ⟨Nat.le_of_ble_eq_true rfl, Nat.le_of_ble_eq_true rfl⟩)) h1 hR)
section READ
variable {l : Launch} {R : Room} {dC : Nat → ClassId} {dI : Nat → Nat → Nat} {ad : Nat → Nat} {d : ClassId} {K : xK}
theorem wk_read (G : xGood l R dC dI ad d RX0 cX0_read 4 K) (h122 : ∀ x, xCallI cX0_read K 122 2 1 (Pr_1 x) (Po_chk 12 x)) (h125 : ∀ x, xCallI cX0_read K 125 2 1 (Pr_1 x) (Po_chk 16 x)) (hB : ∀ p M, xCallI cX0_read K 119 2 1 (Pr_pg p M) (Po_bring p M)) {x y : Int32} {M : Mm} {σ : Sg} (hI : Iv σ M []) (hR : xRetI cX0_read K (Po_S (S_read x y) M [] σ)) : K 0 [(0, .inr 2), (1, .inl x), (2, .inl y)] [] σ := by
  refine r_aload G 0 dX0_read_0 rfl ?_
  refine r_iload_n G 1 dX0_read_1 rfl ?_
  refine c_I1 (h122 x) 2 dX0_read_2 (Nat.le_of_ble_eq_true rfl) rfl (fun r_2 σ_2 h_2 => ?_)
  obtain ⟨hs2, hb2⟩ := h_2
  rw [hs2]
  refine r_if_ne G 5 16 dX0_read_5 (by decide) (fun h_5 => ?_) (fun h_5 => ?_)
  · refine r_iconst G 16 (-1) dX0_read_16 (by decide) ?_
    exact hR 17 _ _ _ dX0_read_17 (⟨M, S1_bad (nb1 (chk_bad hb2 h_5)), hI, rfl⟩)
  · refine r_aload G 8 dX0_read_8 rfl ?_
    refine r_iload_n G 9 dX0_read_9 rfl ?_
    refine c_I1 (h125 y) 10 dX0_read_10 (Nat.le_of_ble_eq_true rfl) rfl (fun r_10 σ_10 h_10 => ?_)
    obtain ⟨hs10, hb10⟩ := h_10
    rw [hs10]
    refine r_if_eq G 13 18 dX0_read_13 (by decide) (fun h_13 => ?_) (fun h_13 => ?_)
    · obtain ⟨p, hp, ex⟩ := chk_ok hb2 h_5
      obtain ⟨j, hj, ey⟩ := chk_ok hb10 h_13
      subst ex; subst ey
      refine r_aload G 18 dX0_read_18 rfl ?_
      refine r_iload_n G 19 dX0_read_19 rfl ?_
      refine c_I1 (hB p M) 20 dX0_read_20 (Nat.le_of_ble_eq_true rfl) ⟨rfl, hp, hI⟩ (fun r_20 σ_20 h_20 => ?_)
      obtain ⟨f, hf, hr20, hI2, hk0, hk1, h15, h16⟩ := h_20
      rw [hr20]
      have hc := (iv_at hI2 hp List.not_mem_nil hk0 hk1 (by omega)).2.2
      refine r_istore_n G 23 dX0_read_23 (Nat.le_of_ble_eq_true rfl) ?_
      refine r_aload G 24 dX0_read_24 rfl ?_
      refine r_f3 G 25 dX0_read_25 ?_
      refine r_iload_n G 28 dX0_read_28 rfl ?_
      refine r_iload_n G 29 dX0_read_29 rfl ?_
      refine r_iadd G 30 dX0_read_30 (nI_add _ _) ?_
      refine r_ald G 31 48 rfl dX0_read_31 rfl (by omega) ?_
      exact hR 32 _ _ _ dX0_read_32 (⟨M, Or.inr ⟨p, j, 0, 0, ⟨hp, hj, by decide, by decide, rfl, rfl, rfl, rfl, trivial⟩, hc j hj, rfl⟩, hI2, h16⟩)
    · refine r_iconst G 16 (-1) dX0_read_16 (by decide) ?_
      exact hR 17 _ _ _ dX0_read_17 (⟨M, S1_bad (nb2 (chk_bad hb10 h_13)), hI, rfl⟩)
end READ
abbrev rm_read : Room := { frames := 6, cells := 0, slots := 0, locals := 145 }
theorem met_read (l : Launch) (dC : Nat → ClassId) (dI : Nat → Nat → Nat) (ad : Nat → Nat) (d : ClassId) (x y : Int32) (M : Mm) : xMetI l dC dI ad d yX0_read cX0_read 4 (some .int) rm_read 2 2 (Pr_S [x, y] M) (Po_S (S_read x y) M) :=
  xMetI_of RX0 rfl (by decide) (by decide) (fun K G xs σ _ hp hR => by
    obtain ⟨hp, h1⟩ := hp
    subst hp
    exact wk_read G (fun x => (x_callI G (met_badPage l dC dI ad d x) (lw_V q93 q95 qs0 q29 q96) xRec2 (by decide +kernel) rfl rfl ⟨Nat.le_of_ble_eq_true rfl, Nat.le_of_ble_eq_true rfl⟩)) (fun x => (x_callI G (met_badPlace l dC dI ad d x) (lw_V q97 q99 qs1 q29 q100) xRec2 (by decide +kernel) rfl rfl ⟨Nat.le_of_ble_eq_true rfl, Nat.le_of_ble_eq_true rfl⟩)) (fun p M => (x_callI G (met_bring l dC dI ad d p M) (lw_V q105 q107 qs3 q29 q108) xRec2 (by decide +kernel) rfl rfl ⟨Nat.le_of_ble_eq_true rfl, Nat.le_of_ble_eq_true rfl⟩)) h1 hR)
section FILL
variable {l : Launch} {R : Room} {dC : Nat → ClassId} {dI : Nat → Nat → Nat} {ad : Nat → Nat} {d : ClassId} {K : xK}
theorem lp_fill (G : xGood l R dC dI ad d RX0 cX0_fill 7 K) {p a c v f : Nat} {M : Mm} {σ0 σ1 : Sg} (hp : p < 12) (ha : a < 16) (hc16 : c < 16) (hv : v < 256) (hf : f < 3) (hI2 : Iv σ1 M []) (hk0 : σ1 0 p = nI 1) (hk1 : σ1 1 p = nI f) (h16 : σ1 16 = σ0 16) (hR : xRetI cX0_fill K (Po_S (S_fill (nI p) (nI a) (nI c) (nI v)) M [] σ0)) :
    ∀ t i σ, i ≤ 16 → 17 ≤ t + i → a ≤ i → (i ≤ c + 1 ∨ i = a) → (∀ t, t < 16 → σ 3 (f * 16 + t) = if a ≤ t ∧ t < i then nI v else M p t) → (∀ t, (t < f * 16 ∨ f * 16 + 16 ≤ t) → σ 3 t = σ1 3 t) → (∀ k, k ≠ 3 → σ k = σ1 k) → K 45 [(0, .inr 2), (1, .inl (nI p)), (2, .inl (nI a)), (3, .inl (nI c)), (4, .inl (nI v)), (5, .inl (nI (f * 16))), (6, .inl (nI i))] [] σ := by
  intro t
  induction t with
  | zero => intro i σ h1 h2; omega
  | succ t ih =>
    intro i σ h1 h2 h3 h4 hrow ho hk
    have hfin : c < i → Iv σ (setR M p (fun t => if a ≤ t ∧ t ≤ c then nI v else M p t)) [] := fun hci => iv_row hI2 hp hf hk0 hk1 ho hk (fun t ht => by
      rw [hrow t ht]
      by_cases q : a ≤ t ∧ t ≤ c
      · rw [if_pos q, if_pos (by omega)]
      · rw [if_neg q, if_neg (by omega)])
    refine r_iload G 45 dX0_fill_45 rfl ?_
    refine r_iload_n G 47 dX0_fill_47 rfl ?_
    refine b_gt G 48 69 dX0_fill_48 (by decide) (by omega) (by omega) (fun h_48 => ?_) (fun h_48 => ?_)
    · refine r_iload_n G 69 dX0_fill_69 rfl ?_
      refine r_iload_n G 70 dX0_fill_70 rfl ?_
      refine b_le G 71 78 dX0_fill_71 (by decide) (by omega) (by omega) (fun h_71 => ?_) (fun h_71 => ?_)
      · refine r_iload_n G 78 dX0_fill_78 rfl ?_
        refine r_iload_n G 79 dX0_fill_79 rfl ?_
        refine r_isub G 80 dX0_fill_80 (pk_sub h_71) ?_
        refine r_iconst G 81 (nI 1) dX0_fill_81 (by decide) ?_
        refine r_iadd G 82 dX0_fill_82 (nI_add _ _) ?_
        exact hR 83 _ _ _ dX0_fill_83 (⟨_, Or.inr ⟨p, a, c, v, ⟨hp, ha, hc16, hv, rfl, rfl, rfl, rfl, trivial⟩, congrArg nI (by omega), rfl⟩, hfin h_48, (hk 16 (by decide)).trans h16⟩)
      · refine r_iconst G 74 (nI 0) dX0_fill_74 (by decide) ?_
        refine r_goto G 75 83 dX0_fill_75 (by decide) ?_
        exact hR 83 _ _ _ dX0_fill_83 (⟨_, Or.inr ⟨p, a, c, v, ⟨hp, ha, hc16, hv, rfl, rfl, rfl, rfl, trivial⟩, congrArg nI (by omega), rfl⟩, hfin h_48, (hk 16 (by decide)).trans h16⟩)
    · refine r_aload G 51 dX0_fill_51 rfl ?_
      refine r_f3 G 52 dX0_fill_52 ?_
      refine r_iload G 55 dX0_fill_55 rfl ?_
      refine r_iload G 57 dX0_fill_57 rfl ?_
      refine r_iadd G 59 dX0_fill_59 (nI_add _ _) ?_
      refine r_iload G 60 dX0_fill_60 rfl ?_
      refine r_ast G 62 48 rfl dX0_fill_62 rfl (by omega) ?_
      refine r_iinc G 63 dX0_fill_63 rfl (c_inc _) (Nat.le_of_ble_eq_true rfl) ?_
      refine r_goto G 66 45 dX0_fill_66 (by decide) ?_
      exact r_pick G [0, 1, 2, 3, 4, 5, 6] (ih (i + 1) _ (by omega) (by omega) (by omega) (by omega) (fun t ht => by by_cases e : t = i; rw [e, sw_up_s, if_pos (by omega)]; rw [sw_up_o (by omega), hrow t ht]; by_cases q : a ≤ t ∧ t < i; rw [if_pos q, if_pos (by omega)]; rw [if_neg q, if_neg (by omega)]) (fun t ht => by rw [sw_up_o (by omega)]; exact ho t ht) (fun k hk' => (sw_up_n hk').trans (hk k hk')))
theorem wk_fill (G : xGood l R dC dI ad d RX0 cX0_fill 7 K) (h122 : ∀ x, xCallI cX0_fill K 122 2 1 (Pr_1 x) (Po_chk 12 x)) (h125 : ∀ x, xCallI cX0_fill K 125 2 1 (Pr_1 x) (Po_chk 16 x)) (h128 : ∀ x, xCallI cX0_fill K 128 2 1 (Pr_1 x) (Po_chk 256 x)) (hB : ∀ p M, xCallI cX0_fill K 119 2 1 (Pr_pg p M) (Po_bring p M)) {x y z w : Int32} {M : Mm} {σ : Sg} (hI : Iv σ M []) (hR : xRetI cX0_fill K (Po_S (S_fill x y z w) M [] σ)) : K 0 [(0, .inr 2), (1, .inl x), (2, .inl y), (3, .inl z), (4, .inl w)] [] σ := by
  refine r_aload G 0 dX0_fill_0 rfl ?_
  refine r_iload_n G 1 dX0_fill_1 rfl ?_
  refine c_I1 (h122 x) 2 dX0_fill_2 (Nat.le_of_ble_eq_true rfl) rfl (fun r_2 σ_2 h_2 => ?_)
  obtain ⟨hs2, hb2⟩ := h_2
  rw [hs2]
  refine r_if_ne G 5 33 dX0_fill_5 (by decide) (fun h_5 => ?_) (fun h_5 => ?_)
  · refine r_iconst G 33 (-1) dX0_fill_33 (by decide) ?_
    exact hR 34 _ _ _ dX0_fill_34 (⟨M, S1_bad (nb1 (chk_bad hb2 h_5)), hI, rfl⟩)
  · refine r_aload G 8 dX0_fill_8 rfl ?_
    refine r_iload_n G 9 dX0_fill_9 rfl ?_
    refine c_I1 (h125 y) 10 dX0_fill_10 (Nat.le_of_ble_eq_true rfl) rfl (fun r_10 σ_10 h_10 => ?_)
    obtain ⟨hs10, hb10⟩ := h_10
    rw [hs10]
    refine r_if_ne G 13 33 dX0_fill_13 (by decide) (fun h_13 => ?_) (fun h_13 => ?_)
    · refine r_iconst G 33 (-1) dX0_fill_33 (by decide) ?_
      exact hR 34 _ _ _ dX0_fill_34 (⟨M, S1_bad (nb2 (chk_bad hb10 h_13)), hI, rfl⟩)
    · refine r_aload G 16 dX0_fill_16 rfl ?_
      refine r_iload_n G 17 dX0_fill_17 rfl ?_
      refine c_I1 (h125 z) 18 dX0_fill_18 (Nat.le_of_ble_eq_true rfl) rfl (fun r_18 σ_18 h_18 => ?_)
      obtain ⟨hs18, hb18⟩ := h_18
      rw [hs18]
      refine r_if_ne G 21 33 dX0_fill_21 (by decide) (fun h_21 => ?_) (fun h_21 => ?_)
      · refine r_iconst G 33 (-1) dX0_fill_33 (by decide) ?_
        exact hR 34 _ _ _ dX0_fill_34 (⟨M, S1_bad (nb3 (chk_bad hb18 h_21)), hI, rfl⟩)
      · refine r_aload G 24 dX0_fill_24 rfl ?_
        refine r_iload G 25 dX0_fill_25 rfl ?_
        refine c_I1 (h128 w) 27 dX0_fill_27 (Nat.le_of_ble_eq_true rfl) rfl (fun r_27 σ_27 h_27 => ?_)
        obtain ⟨hs27, hb27⟩ := h_27
        rw [hs27]
        refine r_if_eq G 30 35 dX0_fill_30 (by decide) (fun h_30 => ?_) (fun h_30 => ?_)
        · obtain ⟨p, hp, ex⟩ := chk_ok hb2 h_5
          obtain ⟨a, ha, ey⟩ := chk_ok hb10 h_13
          obtain ⟨c, hc16, ez⟩ := chk_ok hb18 h_21
          obtain ⟨v, hv, ew⟩ := chk_ok hb27 h_30
          subst ex; subst ey; subst ez; subst ew
          refine r_aload G 35 dX0_fill_35 rfl ?_
          refine r_iload_n G 36 dX0_fill_36 rfl ?_
          refine c_I1 (hB p M) 37 dX0_fill_37 (Nat.le_of_ble_eq_true rfl) ⟨rfl, hp, hI⟩ (fun r_37 σ_37 h_37 => ?_)
          obtain ⟨f, hf, hr37, hI2, hk0, hk1, h15, h16⟩ := h_37
          rw [hr37]
          have hc := (iv_at hI2 hp List.not_mem_nil hk0 hk1 (by omega)).2.2
          refine r_istore G 40 dX0_fill_40 (Nat.le_of_ble_eq_true rfl) ?_
          refine r_iload_n G 42 dX0_fill_42 rfl ?_
          refine r_istore G 43 dX0_fill_43 (Nat.le_of_ble_eq_true rfl) ?_
          exact r_pick G [0, 1, 2, 3, 4, 5, 6] (lp_fill (σ0 := σ) G hp ha hc16 hv hf hI2 hk0 hk1 h16 hR 17 a σ_37 (by omega) (by omega) (Nat.le_refl _) (Or.inr rfl) (fun t ht => by rw [hc t ht, if_neg (by omega)]) (fun _ _ => rfl) (fun _ _ => rfl))
        · refine r_iconst G 33 (-1) dX0_fill_33 (by decide) ?_
          exact hR 34 _ _ _ dX0_fill_34 (⟨M, S1_bad (nb4 (chk_bad hb27 h_30)), hI, rfl⟩)
end FILL
abbrev rm_fill : Room := { frames := 6, cells := 0, slots := 0, locals := 145 }
theorem met_fill (l : Launch) (dC : Nat → ClassId) (dI : Nat → Nat → Nat) (ad : Nat → Nat) (d : ClassId) (x y z w : Int32) (M : Mm) : xMetI l dC dI ad d yX0_fill cX0_fill 7 (some .int) rm_fill 2 4 (Pr_S [x, y, z, w] M) (Po_S (S_fill x y z w) M) :=
  xMetI_of RX0 rfl (by decide) (by decide) (fun K G xs σ _ hp hR => by
    obtain ⟨hp, h1⟩ := hp
    subst hp
    exact wk_fill G (fun x => (x_callI G (met_badPage l dC dI ad d x) (lw_V q93 q95 qs0 q29 q96) xRec2 (by decide +kernel) rfl rfl ⟨Nat.le_of_ble_eq_true rfl, Nat.le_of_ble_eq_true rfl⟩)) (fun x => (x_callI G (met_badPlace l dC dI ad d x) (lw_V q97 q99 qs1 q29 q100) xRec2 (by decide +kernel) rfl rfl ⟨Nat.le_of_ble_eq_true rfl, Nat.le_of_ble_eq_true rfl⟩)) (fun x => (x_callI G (met_badByte l dC dI ad d x) (lw_V q101 q103 qs2 q29 q104) xRec2 (by decide +kernel) rfl rfl ⟨Nat.le_of_ble_eq_true rfl, Nat.le_of_ble_eq_true rfl⟩)) (fun p M => (x_callI G (met_bring l dC dI ad d p M) (lw_V q105 q107 qs3 q29 q108) xRec2 (by decide +kernel) rfl rfl ⟨Nat.le_of_ble_eq_true rfl, Nat.le_of_ble_eq_true rfl⟩)) h1 hR)
section COPY
variable {l : Launch} {R : Room} {dC : Nat → ClassId} {dI : Nat → Nat → Nat} {ad : Nat → Nat} {d : ClassId} {K : xK}
theorem lp_copy (G : xGood l R dC dI ad d RX0 cX0_copy 6 K) {p q f : Nat} {M : Mm} {σ0 σ1 : Sg} (hp : p < 12) (hq : q < 12) (hf : f < 3) (hI2 : Iv σ1 M []) (hk0 : σ1 0 p = nI 1) (hk1 : σ1 1 p = nI f) (hh : ∀ i, i < 16 → σ1 15 i = M q i) (h16 : σ1 16 = σ0 16) (hR : xRetI cX0_copy K (Po_S (S_copy (nI p) (nI q)) M [] σ0)) :
    ∀ t i σ, i ≤ 16 → 17 ≤ t + i → (∀ t, t < 16 → σ 3 (f * 16 + t) = if t < i then M q t else M p t) → (∀ t, (t < f * 16 ∨ f * 16 + 16 ≤ t) → σ 3 t = σ1 3 t) → (∀ k, k ≠ 3 → σ k = σ1 k) → K 35 [(0, .inr 2), (1, .inl (nI p)), (2, .inl (nI q)), (3, .inl (nI (f * 16))), (4, .inl (nI (cntD (M p) (M q) i))), (5, .inl (nI i))] [] σ := by
  intro t
  induction t with
  | zero => intro i σ h1 h2; omega
  | succ t ih =>
    intro i σ h1 h2 hrow ho hk
    have h15 : ∀ i, i < 16 → σ 15 i = M q i := fun i hi => by rw [hk 15 (by decide)]; exact hh i hi
    have hstep : i < 16 → ∀ t, t < 16 → sw_up σ 3 (f * 16 + i) (σ 15 i) 3 (f * 16 + t) = if t < i + 1 then M q t else M p t := fun hi t ht => by
      by_cases e : t = i
      · rw [e, sw_up_s, if_pos (by omega)]; exact h15 i hi
      · rw [sw_up_o (by omega), hrow t ht]
        by_cases z : t < i
        · rw [if_pos z, if_pos (by omega)]
        · rw [if_neg z, if_neg (by omega)]
    refine r_iload G 35 dX0_copy_35 rfl ?_
    refine r_bipush G 37 (nI 16) dX0_copy_37 (by decide) ?_
    refine b_ge G 39 86 dX0_copy_39 (by decide) (by omega) (by omega) (fun h_39 => ?_) (fun h_39 => ?_)
    · refine r_iload G 86 dX0_copy_86 rfl ?_
      exact hR 88 _ _ _ dX0_copy_88 (⟨_, Or.inr ⟨p, q, 0, 0, ⟨hp, hq, by decide, by decide, rfl, rfl, rfl, rfl, trivial⟩, congrArg nI (by rw [show i = 16 by omega]), rfl⟩, iv_row hI2 hp hf hk0 hk1 ho hk (fun t ht => by rw [hrow t ht, if_pos (by omega)]), (hk 16 (by decide)).trans h16⟩)
    · refine r_aload G 42 dX0_copy_42 rfl ?_
      refine r_f3 G 43 dX0_copy_43 ?_
      refine r_iload_n G 46 dX0_copy_46 rfl ?_
      refine r_iload G 47 dX0_copy_47 rfl ?_
      refine r_iadd G 49 dX0_copy_49 (nI_add _ _) ?_
      refine r_ald G 50 48 rfl dX0_copy_50 rfl (by omega) ?_
      refine r_aload G 51 dX0_copy_51 rfl ?_
      refine r_f15 G 52 dX0_copy_52 ?_
      refine r_iload G 55 dX0_copy_55 rfl ?_
      refine r_ald G 57 16 rfl dX0_copy_57 rfl (by omega) ?_
      refine r_icmp_eq G 58 64 dX0_copy_58 (by decide) (fun h_58 => ?_) (fun h_58 => ?_)
      · refine r_aload G 64 dX0_copy_64 rfl ?_
        refine r_f3 G 65 dX0_copy_65 ?_
        refine r_iload_n G 68 dX0_copy_68 rfl ?_
        refine r_iload G 69 dX0_copy_69 rfl ?_
        refine r_iadd G 71 dX0_copy_71 (nI_add _ _) ?_
        refine r_aload G 72 dX0_copy_72 rfl ?_
        refine r_f15 G 73 dX0_copy_73 ?_
        refine r_iload G 76 dX0_copy_76 rfl ?_
        refine r_ald G 78 16 rfl dX0_copy_78 rfl (by omega) ?_
        refine r_ast G 79 48 rfl dX0_copy_79 rfl (by omega) ?_
        refine r_iinc G 80 dX0_copy_80 rfl (c_inc _) (Nat.le_of_ble_eq_true rfl) ?_
        refine r_goto G 83 35 dX0_copy_83 (by decide) ?_
        rw [hrow i h_39, if_neg (by omega), h15 i h_39] at h_58
        exact r_pick G [0, 1, 2, 3, 4, 5] (by have g := ih (i + 1) (sw_up σ 3 (f * 16 + i) (σ 15 i)) (by omega) (by omega) (hstep h_39) (fun t ht => by rw [sw_up_o (by omega)]; exact ho t ht) (fun k hk' => (sw_up_n hk').trans (hk k hk')); rw [cntD_e h_58] at g; exact g)
      · refine r_iinc G 61 dX0_copy_61 rfl (c_inc _) (Nat.le_of_ble_eq_true rfl) ?_
        refine r_aload G 64 dX0_copy_64 rfl ?_
        refine r_f3 G 65 dX0_copy_65 ?_
        refine r_iload_n G 68 dX0_copy_68 rfl ?_
        refine r_iload G 69 dX0_copy_69 rfl ?_
        refine r_iadd G 71 dX0_copy_71 (nI_add _ _) ?_
        refine r_aload G 72 dX0_copy_72 rfl ?_
        refine r_f15 G 73 dX0_copy_73 ?_
        refine r_iload G 76 dX0_copy_76 rfl ?_
        refine r_ald G 78 16 rfl dX0_copy_78 rfl (by omega) ?_
        refine r_ast G 79 48 rfl dX0_copy_79 rfl (by omega) ?_
        refine r_iinc G 80 dX0_copy_80 rfl (c_inc _) (Nat.le_of_ble_eq_true rfl) ?_
        refine r_goto G 83 35 dX0_copy_83 (by decide) ?_
        rw [hrow i h_39, if_neg (by omega), h15 i h_39] at h_58
        exact r_pick G [0, 1, 2, 3, 4, 5] (by have g := ih (i + 1) (sw_up σ 3 (f * 16 + i) (σ 15 i)) (by omega) (by omega) (hstep h_39) (fun t ht => by rw [sw_up_o (by omega)]; exact ho t ht) (fun k hk' => (sw_up_n hk').trans (hk k hk')); rw [cntD_n h_58] at g; exact g)
theorem wk_copy (G : xGood l R dC dI ad d RX0 cX0_copy 6 K) (h122 : ∀ x, xCallI cX0_copy K 122 2 1 (Pr_1 x) (Po_chk 12 x)) (hB : ∀ p M, xCallI cX0_copy K 119 2 1 (Pr_pg p M) (Po_bring p M)) (hH : ∀ p M, xCallV cX0_copy K 131 2 1 (Pr_pg p M) (Po_hold p M)) {x y : Int32} {M : Mm} {σ : Sg} (hI : Iv σ M []) (hR : xRetI cX0_copy K (Po_S (S_copy x y) M [] σ)) : K 0 [(0, .inr 2), (1, .inl x), (2, .inl y)] [] σ := by
  refine r_aload G 0 dX0_copy_0 rfl ?_
  refine r_iload_n G 1 dX0_copy_1 rfl ?_
  refine c_I1 (h122 x) 2 dX0_copy_2 (Nat.le_of_ble_eq_true rfl) rfl (fun r_2 σ_2 h_2 => ?_)
  obtain ⟨hs2, hb2⟩ := h_2
  rw [hs2]
  refine r_if_ne G 5 16 dX0_copy_5 (by decide) (fun h_5 => ?_) (fun h_5 => ?_)
  · refine r_iconst G 16 (-1) dX0_copy_16 (by decide) ?_
    exact hR 17 _ _ _ dX0_copy_17 (⟨M, S1_bad (nb1 (chk_bad hb2 h_5)), hI, rfl⟩)
  · refine r_aload G 8 dX0_copy_8 rfl ?_
    refine r_iload_n G 9 dX0_copy_9 rfl ?_
    refine c_I1 (h122 y) 10 dX0_copy_10 (Nat.le_of_ble_eq_true rfl) rfl (fun r_10 σ_10 h_10 => ?_)
    obtain ⟨hs10, hb10⟩ := h_10
    rw [hs10]
    refine r_if_eq G 13 18 dX0_copy_13 (by decide) (fun h_13 => ?_) (fun h_13 => ?_)
    · obtain ⟨p, hp, ex⟩ := chk_ok hb2 h_5
      obtain ⟨q, hq, ey⟩ := chk_ok hb10 h_13
      subst ex; subst ey
      refine r_aload G 18 dX0_copy_18 rfl ?_
      refine r_iload_n G 19 dX0_copy_19 rfl ?_
      refine c_V1 (hH q M) 20 dX0_copy_20 (Nat.le_of_ble_eq_true rfl) ⟨rfl, hq, hI⟩ (fun σ_20 h_20 => ?_)
      obtain ⟨hI1, hh1, hg16⟩ := h_20
      refine r_aload G 23 dX0_copy_23 rfl ?_
      refine r_iload_n G 24 dX0_copy_24 rfl ?_
      refine c_I1 (hB p M) 25 dX0_copy_25 (Nat.le_of_ble_eq_true rfl) ⟨rfl, hp, hI1⟩ (fun r_25 σ_25 h_25 => ?_)
      obtain ⟨f, hf, hr25, hI2, hk0, hk1, h15, h16⟩ := h_25
      rw [hr25]
      have hc := (iv_at hI2 hp List.not_mem_nil hk0 hk1 (by omega)).2.2
      refine r_istore_n G 28 dX0_copy_28 (Nat.le_of_ble_eq_true rfl) ?_
      refine r_iconst G 29 (nI 0) dX0_copy_29 (by decide) ?_
      refine r_istore G 30 dX0_copy_30 (Nat.le_of_ble_eq_true rfl) ?_
      refine r_iconst G 32 (nI 0) dX0_copy_32 (by decide) ?_
      refine r_istore G 33 dX0_copy_33 (Nat.le_of_ble_eq_true rfl) ?_
      exact r_pick G [0, 1, 2, 3, 4, 5] (lp_copy (σ0 := σ) G hp hq hf hI2 hk0 hk1 (fun i hi => by rw [h15]; exact hh1 i hi) (h16.trans hg16) hR 17 0 σ_25 (by omega) (by omega) (fun t ht => by rw [hc t ht, if_neg (by omega)]) (fun _ _ => rfl) (fun _ _ => rfl))
    · refine r_iconst G 16 (-1) dX0_copy_16 (by decide) ?_
      exact hR 17 _ _ _ dX0_copy_17 (⟨M, S1_bad (nb2 (chk_bad hb10 h_13)), hI, rfl⟩)
end COPY
abbrev rm_copy : Room := { frames := 7, cells := 0, slots := 0, locals := 168 }
theorem met_copy (l : Launch) (dC : Nat → ClassId) (dI : Nat → Nat → Nat) (ad : Nat → Nat) (d : ClassId) (x y : Int32) (M : Mm) : xMetI l dC dI ad d yX0_copy cX0_copy 6 (some .int) rm_copy 2 2 (Pr_S [x, y] M) (Po_S (S_copy x y) M) :=
  xMetI_of RX0 rfl (by decide) (by decide) (fun K G xs σ _ hp hR => by
    obtain ⟨hp, h1⟩ := hp
    subst hp
    exact wk_copy G (fun x => (x_callI G (met_badPage l dC dI ad d x) (lw_V q93 q95 qs0 q29 q96) xRec2 (by decide +kernel) rfl rfl ⟨Nat.le_of_ble_eq_true rfl, Nat.le_of_ble_eq_true rfl⟩)) (fun p M => (x_callI G (met_bring l dC dI ad d p M) (lw_V q105 q107 qs3 q29 q108) xRec2 (by decide +kernel) rfl rfl ⟨Nat.le_of_ble_eq_true rfl, Nat.le_of_ble_eq_true rfl⟩)) (fun p M => (x_callV G (met_hold l dC dI ad d p M) (lw_V q193 q195 qs22 q29 q196) xRec2 (by decide +kernel) rfl rfl ⟨Nat.le_of_ble_eq_true rfl, Nat.le_of_ble_eq_true rfl⟩)) h1 hR)
section MIX
variable {l : Launch} {R : Room} {dC : Nat → ClassId} {dI : Nat → Nat → Nat} {ad : Nat → Nat} {d : ClassId} {K : xK}
theorem lp_mix (G : xGood l R dC dI ad d RX0 cX0_mix 5 K) {p q f : Nat} {M : Mm} {σ0 σ1 : Sg} (hp : p < 12) (hq : q < 12) (hf : f < 3) (hI2 : Iv σ1 M []) (hk0 : σ1 0 p = nI 1) (hk1 : σ1 1 p = nI f) (hh : ∀ i, i < 16 → σ1 15 i = M q i) (h16 : σ1 16 = σ0 16) (hR : xRetI cX0_mix K (Po_S (S_mix (nI p) (nI q)) M [] σ0)) :
    ∀ t i σ, i ≤ 16 → 17 ≤ t + i → (∀ t, t < 16 → σ 3 (f * 16 + t) = if t < i then M p t ^^^ M q t else M p t) → (∀ t, (t < f * 16 ∨ f * 16 + 16 ≤ t) → σ 3 t = σ1 3 t) → (∀ k, k ≠ 3 → σ k = σ1 k) → K 32 [(0, .inr 2), (1, .inl (nI p)), (2, .inl (nI q)), (3, .inl (nI (f * 16))), (4, .inl (nI i))] [] σ := by
  intro t
  induction t with
  | zero => intro i σ h1 h2; omega
  | succ t ih =>
    intro i σ h1 h2 hrow ho hk
    have h15 : ∀ i, i < 16 → σ 15 i = M q i := fun i hi => by rw [hk 15 (by decide)]; exact hh i hi
    refine r_iload G 32 dX0_mix_32 rfl ?_
    refine r_bipush G 34 (nI 16) dX0_mix_34 (by decide) ?_
    refine b_ge G 36 71 dX0_mix_36 (by decide) (by omega) (by omega) (fun h_36 => ?_) (fun h_36 => ?_)
    · refine r_iconst G 71 (nI 0) dX0_mix_71 (by decide) ?_
      exact hR 72 _ _ _ dX0_mix_72 (⟨_, Or.inr ⟨p, q, 0, 0, ⟨hp, hq, by decide, by decide, rfl, rfl, rfl, rfl, trivial⟩, rfl, rfl⟩, iv_row hI2 hp hf hk0 hk1 ho hk (fun t ht => by rw [hrow t ht, if_pos (by omega)]), (hk 16 (by decide)).trans h16⟩)
    · refine r_aload G 39 dX0_mix_39 rfl ?_
      refine r_f3 G 40 dX0_mix_40 ?_
      refine r_iload_n G 43 dX0_mix_43 rfl ?_
      refine r_iload G 44 dX0_mix_44 rfl ?_
      refine r_iadd G 46 dX0_mix_46 (nI_add _ _) ?_
      refine r_aload G 47 dX0_mix_47 rfl ?_
      refine r_f3 G 48 dX0_mix_48 ?_
      refine r_iload_n G 51 dX0_mix_51 rfl ?_
      refine r_iload G 52 dX0_mix_52 rfl ?_
      refine r_iadd G 54 dX0_mix_54 (nI_add _ _) ?_
      refine r_ald G 55 48 rfl dX0_mix_55 rfl (by omega) ?_
      refine r_aload G 56 dX0_mix_56 rfl ?_
      refine r_f15 G 57 dX0_mix_57 ?_
      refine r_iload G 60 dX0_mix_60 rfl ?_
      refine r_ald G 62 16 rfl dX0_mix_62 rfl (by omega) ?_
      refine r_ixor G 63 dX0_mix_63 rfl ?_
      refine r_ast G 64 48 rfl dX0_mix_64 rfl (by omega) ?_
      refine r_iinc G 65 dX0_mix_65 rfl (c_inc _) (Nat.le_of_ble_eq_true rfl) ?_
      refine r_goto G 68 32 dX0_mix_68 (by decide) ?_
      exact r_pick G [0, 1, 2, 3, 4] (ih (i + 1) _ (by omega) (by omega) (fun t ht => by by_cases e : t = i; rw [e, sw_up_s, if_pos (by omega), hrow i h_36, if_neg (by omega), h15 i h_36]; rw [sw_up_o (by omega), hrow t ht]; by_cases z : t < i; rw [if_pos z, if_pos (by omega)]; rw [if_neg z, if_neg (by omega)]) (fun t ht => by rw [sw_up_o (by omega)]; exact ho t ht) (fun k hk' => (sw_up_n hk').trans (hk k hk')))
theorem wk_mix (G : xGood l R dC dI ad d RX0 cX0_mix 5 K) (h122 : ∀ x, xCallI cX0_mix K 122 2 1 (Pr_1 x) (Po_chk 12 x)) (hB : ∀ p M, xCallI cX0_mix K 119 2 1 (Pr_pg p M) (Po_bring p M)) (hH : ∀ p M, xCallV cX0_mix K 131 2 1 (Pr_pg p M) (Po_hold p M)) {x y : Int32} {M : Mm} {σ : Sg} (hI : Iv σ M []) (hR : xRetI cX0_mix K (Po_S (S_mix x y) M [] σ)) : K 0 [(0, .inr 2), (1, .inl x), (2, .inl y)] [] σ := by
  refine r_aload G 0 dX0_mix_0 rfl ?_
  refine r_iload_n G 1 dX0_mix_1 rfl ?_
  refine c_I1 (h122 x) 2 dX0_mix_2 (Nat.le_of_ble_eq_true rfl) rfl (fun r_2 σ_2 h_2 => ?_)
  obtain ⟨hs2, hb2⟩ := h_2
  rw [hs2]
  refine r_if_ne G 5 16 dX0_mix_5 (by decide) (fun h_5 => ?_) (fun h_5 => ?_)
  · refine r_iconst G 16 (-1) dX0_mix_16 (by decide) ?_
    exact hR 17 _ _ _ dX0_mix_17 (⟨M, S1_bad (nb1 (chk_bad hb2 h_5)), hI, rfl⟩)
  · refine r_aload G 8 dX0_mix_8 rfl ?_
    refine r_iload_n G 9 dX0_mix_9 rfl ?_
    refine c_I1 (h122 y) 10 dX0_mix_10 (Nat.le_of_ble_eq_true rfl) rfl (fun r_10 σ_10 h_10 => ?_)
    obtain ⟨hs10, hb10⟩ := h_10
    rw [hs10]
    refine r_if_eq G 13 18 dX0_mix_13 (by decide) (fun h_13 => ?_) (fun h_13 => ?_)
    · obtain ⟨p, hp, ex⟩ := chk_ok hb2 h_5
      obtain ⟨q, hq, ey⟩ := chk_ok hb10 h_13
      subst ex; subst ey
      refine r_aload G 18 dX0_mix_18 rfl ?_
      refine r_iload_n G 19 dX0_mix_19 rfl ?_
      refine c_V1 (hH q M) 20 dX0_mix_20 (Nat.le_of_ble_eq_true rfl) ⟨rfl, hq, hI⟩ (fun σ_20 h_20 => ?_)
      obtain ⟨hI1, hh1, hg16⟩ := h_20
      refine r_aload G 23 dX0_mix_23 rfl ?_
      refine r_iload_n G 24 dX0_mix_24 rfl ?_
      refine c_I1 (hB p M) 25 dX0_mix_25 (Nat.le_of_ble_eq_true rfl) ⟨rfl, hp, hI1⟩ (fun r_25 σ_25 h_25 => ?_)
      obtain ⟨f, hf, hr25, hI2, hk0, hk1, h15, h16⟩ := h_25
      rw [hr25]
      have hc := (iv_at hI2 hp List.not_mem_nil hk0 hk1 (by omega)).2.2
      refine r_istore_n G 28 dX0_mix_28 (Nat.le_of_ble_eq_true rfl) ?_
      refine r_iconst G 29 (nI 0) dX0_mix_29 (by decide) ?_
      refine r_istore G 30 dX0_mix_30 (Nat.le_of_ble_eq_true rfl) ?_
      exact r_pick G [0, 1, 2, 3, 4] (lp_mix (σ0 := σ) G hp hq hf hI2 hk0 hk1 (fun i hi => by rw [h15]; exact hh1 i hi) (h16.trans hg16) hR 17 0 σ_25 (by omega) (by omega) (fun t ht => by rw [hc t ht, if_neg (by omega)]) (fun _ _ => rfl) (fun _ _ => rfl))
    · refine r_iconst G 16 (-1) dX0_mix_16 (by decide) ?_
      exact hR 17 _ _ _ dX0_mix_17 (⟨M, S1_bad (nb2 (chk_bad hb10 h_13)), hI, rfl⟩)
end MIX
abbrev rm_mix : Room := { frames := 7, cells := 0, slots := 0, locals := 168 }
theorem met_mix (l : Launch) (dC : Nat → ClassId) (dI : Nat → Nat → Nat) (ad : Nat → Nat) (d : ClassId) (x y : Int32) (M : Mm) : xMetI l dC dI ad d yX0_mix cX0_mix 5 (some .int) rm_mix 2 2 (Pr_S [x, y] M) (Po_S (S_mix x y) M) :=
  xMetI_of RX0 rfl (by decide) (by decide) (fun K G xs σ _ hp hR => by
    obtain ⟨hp, h1⟩ := hp
    subst hp
    exact wk_mix G (fun x => (x_callI G (met_badPage l dC dI ad d x) (lw_V q93 q95 qs0 q29 q96) xRec2 (by decide +kernel) rfl rfl ⟨Nat.le_of_ble_eq_true rfl, Nat.le_of_ble_eq_true rfl⟩)) (fun p M => (x_callI G (met_bring l dC dI ad d p M) (lw_V q105 q107 qs3 q29 q108) xRec2 (by decide +kernel) rfl rfl ⟨Nat.le_of_ble_eq_true rfl, Nat.le_of_ble_eq_true rfl⟩)) (fun p M => (x_callV G (met_hold l dC dI ad d p M) (lw_V q193 q195 qs22 q29 q196) xRec2 (by decide +kernel) rfl rfl ⟨Nat.le_of_ble_eq_true rfl, Nat.le_of_ble_eq_true rfl⟩)) h1 hR)
section DROP
variable {l : Launch} {R : Room} {dC : Nat → ClassId} {dI : Nat → Nat → Nat} {ad : Nat → Nat} {d : ClassId} {K : xK}
theorem wk_drop (G : xGood l R dC dI ad d RX0 cX0_drop 2 K) (h122 : ∀ x, xCallI cX0_drop K 122 2 1 (Pr_1 x) (Po_chk 12 x)) (hRl : ∀ p M, xCallV cX0_drop K 116 2 1 (Pr_pg p M) (Po_release p M)) {x : Int32} {M : Mm} {σ : Sg} (hI : Iv σ M []) (hR : xRetI cX0_drop K (Po_S (S_drop x) M [] σ)) : K 0 [(0, .inr 2), (1, .inl x)] [] σ := by
  refine r_aload G 0 dX0_drop_0 rfl ?_
  refine r_iload_n G 1 dX0_drop_1 rfl ?_
  refine c_I1 (h122 x) 2 dX0_drop_2 (Nat.le_of_ble_eq_true rfl) rfl (fun r_2 σ_2 h_2 => ?_)
  obtain ⟨hs2, hb2⟩ := h_2
  rw [hs2]
  refine r_if_eq G 5 10 dX0_drop_5 (by decide) (fun h_5 => ?_) (fun h_5 => ?_)
  · obtain ⟨p, hp, ex⟩ := chk_ok hb2 h_5
    subst ex
    refine r_aload G 10 dX0_drop_10 rfl ?_
    refine r_iload_n G 11 dX0_drop_11 rfl ?_
    refine c_V1 (hRl p M) 12 dX0_drop_12 (Nat.le_of_ble_eq_true rfl) ⟨rfl, hp, hI⟩ (fun σ_12 h_12 => ?_)
    obtain ⟨hI2, hk0, hk4, hk⟩ := h_12
    refine r_iconst G 15 (nI 0) dX0_drop_15 (by decide) ?_
    exact hR 16 _ _ _ dX0_drop_16 (⟨setR M p (fun _ => 0), Or.inr ⟨p, 0, 0, 0, ⟨hp, by decide, by decide, by decide, rfl, rfl, rfl, rfl, trivial⟩, rfl, rfl⟩, iv_blank (iv_M hI2 (fun q _ hq i _ => by rw [setR_o (fun e => hq (by rw [e]; exact List.mem_cons_self))])) hk0 (fun i _ => by rw [setR_s]), hk 16 (by decide) (by decide) (by decide) (by decide)⟩)
  · refine r_iconst G 8 (-1) dX0_drop_8 (by decide) ?_
    exact hR 9 _ _ _ dX0_drop_9 (⟨M, S1_bad (nb1 (chk_bad hb2 h_5)), hI, rfl⟩)
end DROP
abbrev rm_drop : Room := { frames := 1, cells := 0, slots := 0, locals := 21 }
theorem met_drop (l : Launch) (dC : Nat → ClassId) (dI : Nat → Nat → Nat) (ad : Nat → Nat) (d : ClassId) (x : Int32) (M : Mm) : xMetI l dC dI ad d yX0_drop cX0_drop 2 (some .int) rm_drop 2 1 (Pr_S [x] M) (Po_S (S_drop x) M) :=
  xMetI_of RX0 rfl (by decide) (by decide) (fun K G xs σ _ hp hR => by
    obtain ⟨hp, h1⟩ := hp
    subst hp
    exact wk_drop G (fun x => (x_callI G (met_badPage l dC dI ad d x) (lw_V q93 q95 qs0 q29 q96) xRec2 (by decide +kernel) rfl rfl ⟨Nat.le_of_ble_eq_true rfl, Nat.le_of_ble_eq_true rfl⟩)) (fun p M => (x_callV G (met_release l dC dI ad d p M) (lw_V q177 q179 qs21 q29 q180) xRec2 (by decide +kernel) rfl rfl ⟨Nat.le_of_ble_eq_true rfl, Nat.le_of_ble_eq_true rfl⟩)) h1 hR)
section SUM
variable {l : Launch} {R : Room} {dC : Nat → ClassId} {dI : Nat → Nat → Nat} {ad : Nat → Nat} {d : ClassId} {K : xK}
theorem lp_sum (G : xGood l R dC dI ad d RX0 cX0_sum 5 K) {p f : Nat} {M : Mm} {σ0 σ : Sg} (hp : p < 12) (hf : f < 3) (hI2 : Iv σ M []) (hc : ∀ i, i < 16 → σ 3 (f * 16 + i) = M p i) (h16 : σ 16 = σ0 16) (hR : xRetI cX0_sum K (Po_S (S_sum (nI p)) M [] σ0)) :
    ∀ t i, i ≤ 16 → 17 ≤ t + i → K 21 [(0, .inr 2), (1, .inl (nI p)), (2, .inl (nI (f * 16))), (3, .inl (sumF (M p) i)), (4, .inl (nI i))] [] σ := by
  intro t
  induction t with
  | zero => intro i h1 h2; omega
  | succ t ih =>
    intro i h1 h2
    refine r_iload G 21 dX0_sum_21 rfl ?_
    refine r_bipush G 23 (nI 16) dX0_sum_23 (by decide) ?_
    refine b_ge G 25 51 dX0_sum_25 (by decide) (by omega) (by omega) (fun h_25 => ?_) (fun h_25 => ?_)
    · refine r_iload_n G 51 dX0_sum_51 rfl ?_
      exact hR 52 _ _ _ dX0_sum_52 (⟨M, Or.inr ⟨p, 0, 0, 0, ⟨hp, by decide, by decide, by decide, rfl, rfl, rfl, rfl, trivial⟩, by rw [show i = 16 by omega], rfl⟩, hI2, h16⟩)
    · refine r_iload_n G 28 dX0_sum_28 rfl ?_
      refine r_iload G 29 dX0_sum_29 rfl ?_
      refine r_iconst G 31 (nI 1) dX0_sum_31 (by decide) ?_
      refine r_iadd G 32 dX0_sum_32 (nI_add _ _) ?_
      refine r_aload G 33 dX0_sum_33 rfl ?_
      refine r_f3 G 34 dX0_sum_34 ?_
      refine r_iload_n G 37 dX0_sum_37 rfl ?_
      refine r_iload G 38 dX0_sum_38 rfl ?_
      refine r_iadd G 40 dX0_sum_40 (nI_add _ _) ?_
      refine r_ald G 41 48 rfl dX0_sum_41 rfl (by omega) ?_
      rw [hc i h_25]
      refine r_imul G 42 dX0_sum_42 rfl ?_
      refine r_iadd G 43 dX0_sum_43 rfl ?_
      refine r_istore_n G 44 dX0_sum_44 (Nat.le_of_ble_eq_true rfl) ?_
      refine r_iinc G 45 dX0_sum_45 rfl (c_inc _) (Nat.le_of_ble_eq_true rfl) ?_
      refine r_goto G 48 21 dX0_sum_48 (by decide) ?_
      exact r_pick G [0, 1, 2, 3, 4] (ih (i + 1) (by omega) (by omega))
theorem wk_sum (G : xGood l R dC dI ad d RX0 cX0_sum 5 K) (h122 : ∀ x, xCallI cX0_sum K 122 2 1 (Pr_1 x) (Po_chk 12 x)) (hB : ∀ p M, xCallI cX0_sum K 119 2 1 (Pr_pg p M) (Po_bring p M)) {x : Int32} {M : Mm} {σ : Sg} (hI : Iv σ M []) (hR : xRetI cX0_sum K (Po_S (S_sum x) M [] σ)) : K 0 [(0, .inr 2), (1, .inl x)] [] σ := by
  refine r_aload G 0 dX0_sum_0 rfl ?_
  refine r_iload_n G 1 dX0_sum_1 rfl ?_
  refine c_I1 (h122 x) 2 dX0_sum_2 (Nat.le_of_ble_eq_true rfl) rfl (fun r_2 σ_2 h_2 => ?_)
  obtain ⟨hs2, hb2⟩ := h_2
  rw [hs2]
  refine r_if_eq G 5 10 dX0_sum_5 (by decide) (fun h_5 => ?_) (fun h_5 => ?_)
  · obtain ⟨p, hp, ex⟩ := chk_ok hb2 h_5
    subst ex
    refine r_aload G 10 dX0_sum_10 rfl ?_
    refine r_iload_n G 11 dX0_sum_11 rfl ?_
    refine c_I1 (hB p M) 12 dX0_sum_12 (Nat.le_of_ble_eq_true rfl) ⟨rfl, hp, hI⟩ (fun r_12 σ_12 h_12 => ?_)
    obtain ⟨f, hf, hr12, hI2, hk0, hk1, h15, h16⟩ := h_12
    rw [hr12]
    have hc := (iv_at hI2 hp List.not_mem_nil hk0 hk1 (by omega)).2.2
    refine r_istore_n G 15 dX0_sum_15 (Nat.le_of_ble_eq_true rfl) ?_
    refine r_iconst G 16 (nI 0) dX0_sum_16 (by decide) ?_
    refine r_istore_n G 17 dX0_sum_17 (Nat.le_of_ble_eq_true rfl) ?_
    refine r_iconst G 18 (nI 0) dX0_sum_18 (by decide) ?_
    refine r_istore G 19 dX0_sum_19 (Nat.le_of_ble_eq_true rfl) ?_
    exact r_pick G [0, 1, 2, 3, 4] (lp_sum (σ0 := σ) G hp hf hI2 hc h16 hR 17 0 (by omega) (by omega))
  · refine r_iconst G 8 (-1) dX0_sum_8 (by decide) ?_
    exact hR 9 _ _ _ dX0_sum_9 (⟨M, S1_bad (nb1 (chk_bad hb2 h_5)), hI, rfl⟩)
end SUM
abbrev rm_sum : Room := { frames := 6, cells := 0, slots := 0, locals := 145 }
theorem met_sum (l : Launch) (dC : Nat → ClassId) (dI : Nat → Nat → Nat) (ad : Nat → Nat) (d : ClassId) (x : Int32) (M : Mm) : xMetI l dC dI ad d yX0_sum cX0_sum 5 (some .int) rm_sum 2 1 (Pr_S [x] M) (Po_S (S_sum x) M) :=
  xMetI_of RX0 rfl (by decide) (by decide) (fun K G xs σ _ hp hR => by
    obtain ⟨hp, h1⟩ := hp
    subst hp
    exact wk_sum G (fun x => (x_callI G (met_badPage l dC dI ad d x) (lw_V q93 q95 qs0 q29 q96) xRec2 (by decide +kernel) rfl rfl ⟨Nat.le_of_ble_eq_true rfl, Nat.le_of_ble_eq_true rfl⟩)) (fun p M => (x_callI G (met_bring l dC dI ad d p M) (lw_V q105 q107 qs3 q29 q108) xRec2 (by decide +kernel) rfl rfl ⟨Nat.le_of_ble_eq_true rfl, Nat.le_of_ble_eq_true rfl⟩)) h1 hR)
section DIFFER
variable {l : Launch} {R : Room} {dC : Nat → ClassId} {dI : Nat → Nat → Nat} {ad : Nat → Nat} {d : ClassId} {K : xK}
theorem wk_differ (G : xGood l R dC dI ad d RX0 cX0_differ 3 K) (h122 : ∀ x, xCallI cX0_differ K 122 2 1 (Pr_1 x) (Po_chk 12 x)) (hH : ∀ p M, xCallV cX0_differ K 131 2 1 (Pr_pg p M) (Po_hold p M)) (hFD : ∀ q M X, xCallI cX0_differ K 137 2 1 (Pr_fd q M X) (Po_fd q M X)) {x y : Int32} {M : Mm} {σ : Sg} (hI : Iv σ M []) (hR : xRetI cX0_differ K (Po_S (S_differ x y) M [] σ)) : K 0 [(0, .inr 2), (1, .inl x), (2, .inl y)] [] σ := by
  refine r_aload G 0 dX0_differ_0 rfl ?_
  refine r_iload_n G 1 dX0_differ_1 rfl ?_
  refine c_I1 (h122 x) 2 dX0_differ_2 (Nat.le_of_ble_eq_true rfl) rfl (fun r_2 σ_2 h_2 => ?_)
  obtain ⟨hs2, hb2⟩ := h_2
  rw [hs2]
  refine r_if_ne G 5 16 dX0_differ_5 (by decide) (fun h_5 => ?_) (fun h_5 => ?_)
  · refine r_iconst G 16 (-1) dX0_differ_16 (by decide) ?_
    exact hR 17 _ _ _ dX0_differ_17 (⟨M, S1_bad (nb1 (chk_bad hb2 h_5)), hI, rfl⟩)
  · refine r_aload G 8 dX0_differ_8 rfl ?_
    refine r_iload_n G 9 dX0_differ_9 rfl ?_
    refine c_I1 (h122 y) 10 dX0_differ_10 (Nat.le_of_ble_eq_true rfl) rfl (fun r_10 σ_10 h_10 => ?_)
    obtain ⟨hs10, hb10⟩ := h_10
    rw [hs10]
    refine r_if_eq G 13 18 dX0_differ_13 (by decide) (fun h_13 => ?_) (fun h_13 => ?_)
    · obtain ⟨p, hp, ex⟩ := chk_ok hb2 h_5
      obtain ⟨q, hq, ey⟩ := chk_ok hb10 h_13
      subst ex; subst ey
      refine r_aload G 18 dX0_differ_18 rfl ?_
      refine r_iload_n G 19 dX0_differ_19 rfl ?_
      refine c_V1 (hH p M) 20 dX0_differ_20 (Nat.le_of_ble_eq_true rfl) ⟨rfl, hp, hI⟩ (fun σ_20 h_20 => ?_)
      obtain ⟨hI1, hh1, hg16⟩ := h_20
      refine r_aload G 23 dX0_differ_23 rfl ?_
      refine r_iload_n G 24 dX0_differ_24 rfl ?_
      refine c_I1 (hFD q M (M p)) 25 dX0_differ_25 (Nat.le_of_ble_eq_true rfl) ⟨rfl, hq, hI1, hh1⟩ (fun r_25 σ_25 h_25 => ?_)
      obtain ⟨hfd, hI2, h15, h16⟩ := h_25
      exact hR 28 _ _ _ dX0_differ_28 (⟨M, Or.inr ⟨p, q, 0, 0, ⟨hp, hq, by decide, by decide, rfl, rfl, rfl, rfl, trivial⟩, hfd, rfl⟩, hI2, h16.trans hg16⟩)
    · refine r_iconst G 16 (-1) dX0_differ_16 (by decide) ?_
      exact hR 17 _ _ _ dX0_differ_17 (⟨M, S1_bad (nb2 (chk_bad hb10 h_13)), hI, rfl⟩)
end DIFFER
abbrev rm_differ : Room := { frames := 7, cells := 0, slots := 0, locals := 168 }
theorem met_differ (l : Launch) (dC : Nat → ClassId) (dI : Nat → Nat → Nat) (ad : Nat → Nat) (d : ClassId) (x y : Int32) (M : Mm) : xMetI l dC dI ad d yX0_differ cX0_differ 3 (some .int) rm_differ 2 2 (Pr_S [x, y] M) (Po_S (S_differ x y) M) :=
  xMetI_of RX0 rfl (by decide) (by decide) (fun K G xs σ _ hp hR => by
    obtain ⟨hp, h1⟩ := hp
    subst hp
    exact wk_differ G (fun x => (x_callI G (met_badPage l dC dI ad d x) (lw_V q93 q95 qs0 q29 q96) xRec2 (by decide +kernel) rfl rfl ⟨Nat.le_of_ble_eq_true rfl, Nat.le_of_ble_eq_true rfl⟩)) (fun p M => (x_callV G (met_hold l dC dI ad d p M) (lw_V q193 q195 qs22 q29 q196) xRec2 (by decide +kernel) rfl rfl ⟨Nat.le_of_ble_eq_true rfl, Nat.le_of_ble_eq_true rfl⟩)) (fun q M X => (x_callI G (met_firstDifference l dC dI ad d q M X) (lw_V q225 q227 qs24 q29 q228) xRec2 (by decide +kernel) rfl rfl ⟨Nat.le_of_ble_eq_true rfl, Nat.le_of_ble_eq_true rfl⟩)) h1 hR)
section FIND
variable {l : Launch} {R : Room} {dC : Nat → ClassId} {dI : Nat → Nat → Nat} {ad : Nat → Nat} {d : ClassId} {K : xK}
theorem lp_find (G : xGood l R dC dI ad d RX0 cX0_find 6 K) {p a v f : Nat} {M : Mm} {σ0 σ : Sg} (hp : p < 12) (ha : a < 16) (hv : v < 256) (hf : f < 3) (hI2 : Iv σ M []) (hc : ∀ i, i < 16 → σ 3 (f * 16 + i) = M p i) (h16 : σ 16 = σ0 16) (hR : xRetI cX0_find K (Po_S (S_find (nI p) (nI a) (nI v)) M [] σ0)) :
    ∀ t i, i ≤ 16 → 17 ≤ t + i → a ≤ i → (∀ j, a ≤ j → j < i → M p j ≠ nI v) → K 36 [(0, .inr 2), (1, .inl (nI p)), (2, .inl (nI a)), (3, .inl (nI v)), (4, .inl (nI (f * 16))), (5, .inl (nI i))] [] σ := by
  intro t
  induction t with
  | zero => intro i h1 h2; omega
  | succ t ih =>
    intro i h1 h2 h3 hn
    refine r_iload G 36 dX0_find_36 rfl ?_
    refine r_bipush G 38 (nI 16) dX0_find_38 (by decide) ?_
    refine b_ge G 40 66 dX0_find_40 (by decide) (by omega) (by omega) (fun h_40 => ?_) (fun h_40 => ?_)
    · refine r_bipush G 66 (-4) dX0_find_66 (by decide) ?_
      exact hR 68 _ _ _ dX0_find_68 (⟨M, Or.inr ⟨p, a, v, 0, ⟨hp, ha, hv, by decide, rfl, rfl, rfl, rfl, trivial⟩, Or.inl ⟨rfl, fun j q1 q2 => hn j q1 (by omega)⟩, rfl⟩, hI2, h16⟩)
    · refine r_aload G 43 dX0_find_43 rfl ?_
      refine r_f3 G 44 dX0_find_44 ?_
      refine r_iload G 47 dX0_find_47 rfl ?_
      refine r_iload G 49 dX0_find_49 rfl ?_
      refine r_iadd G 51 dX0_find_51 (nI_add _ _) ?_
      refine r_ald G 52 48 rfl dX0_find_52 rfl (by omega) ?_
      rw [hc i h_40]
      refine r_iload_n G 53 dX0_find_53 rfl ?_
      refine r_icmp_ne G 54 60 dX0_find_54 (by decide) (fun h_54 => ?_) (fun h_54 => ?_)
      · refine r_iinc G 60 dX0_find_60 rfl (c_inc _) (Nat.le_of_ble_eq_true rfl) ?_
        refine r_goto G 63 36 dX0_find_63 (by decide) ?_
        exact r_pick G [0, 1, 2, 3, 4, 5] (ih (i + 1) (by omega) (by omega) (by omega) (fun j q1 q2 => by by_cases e : j = i; rw [e]; exact h_54; exact hn j q1 (by omega)))
      · refine r_iload G 57 dX0_find_57 rfl ?_
        exact hR 59 _ _ _ dX0_find_59 (⟨M, Or.inr ⟨p, a, v, 0, ⟨hp, ha, hv, by decide, rfl, rfl, rfl, rfl, trivial⟩, Or.inr ⟨i, h3, h_40, rfl, h_54, hn⟩, rfl⟩, hI2, h16⟩)
theorem wk_find (G : xGood l R dC dI ad d RX0 cX0_find 6 K) (h122 : ∀ x, xCallI cX0_find K 122 2 1 (Pr_1 x) (Po_chk 12 x)) (h125 : ∀ x, xCallI cX0_find K 125 2 1 (Pr_1 x) (Po_chk 16 x)) (h128 : ∀ x, xCallI cX0_find K 128 2 1 (Pr_1 x) (Po_chk 256 x)) (hB : ∀ p M, xCallI cX0_find K 119 2 1 (Pr_pg p M) (Po_bring p M)) {x y z : Int32} {M : Mm} {σ : Sg} (hI : Iv σ M []) (hR : xRetI cX0_find K (Po_S (S_find x y z) M [] σ)) : K 0 [(0, .inr 2), (1, .inl x), (2, .inl y), (3, .inl z)] [] σ := by
  refine r_aload G 0 dX0_find_0 rfl ?_
  refine r_iload_n G 1 dX0_find_1 rfl ?_
  refine c_I1 (h122 x) 2 dX0_find_2 (Nat.le_of_ble_eq_true rfl) rfl (fun r_2 σ_2 h_2 => ?_)
  obtain ⟨hs2, hb2⟩ := h_2
  rw [hs2]
  refine r_if_ne G 5 24 dX0_find_5 (by decide) (fun h_5 => ?_) (fun h_5 => ?_)
  · refine r_iconst G 24 (-1) dX0_find_24 (by decide) ?_
    exact hR 25 _ _ _ dX0_find_25 (⟨M, S1_bad (nb1 (chk_bad hb2 h_5)), hI, rfl⟩)
  · refine r_aload G 8 dX0_find_8 rfl ?_
    refine r_iload_n G 9 dX0_find_9 rfl ?_
    refine c_I1 (h125 y) 10 dX0_find_10 (Nat.le_of_ble_eq_true rfl) rfl (fun r_10 σ_10 h_10 => ?_)
    obtain ⟨hs10, hb10⟩ := h_10
    rw [hs10]
    refine r_if_ne G 13 24 dX0_find_13 (by decide) (fun h_13 => ?_) (fun h_13 => ?_)
    · refine r_iconst G 24 (-1) dX0_find_24 (by decide) ?_
      exact hR 25 _ _ _ dX0_find_25 (⟨M, S1_bad (nb2 (chk_bad hb10 h_13)), hI, rfl⟩)
    · refine r_aload G 16 dX0_find_16 rfl ?_
      refine r_iload_n G 17 dX0_find_17 rfl ?_
      refine c_I1 (h128 z) 18 dX0_find_18 (Nat.le_of_ble_eq_true rfl) rfl (fun r_18 σ_18 h_18 => ?_)
      obtain ⟨hs18, hb18⟩ := h_18
      rw [hs18]
      refine r_if_eq G 21 26 dX0_find_21 (by decide) (fun h_21 => ?_) (fun h_21 => ?_)
      · obtain ⟨p, hp, ex⟩ := chk_ok hb2 h_5
        obtain ⟨a, ha, ey⟩ := chk_ok hb10 h_13
        obtain ⟨v, hv, ez⟩ := chk_ok hb18 h_21
        subst ex; subst ey; subst ez
        refine r_aload G 26 dX0_find_26 rfl ?_
        refine r_iload_n G 27 dX0_find_27 rfl ?_
        refine c_I1 (hB p M) 28 dX0_find_28 (Nat.le_of_ble_eq_true rfl) ⟨rfl, hp, hI⟩ (fun r_28 σ_28 h_28 => ?_)
        obtain ⟨f, hf, hr28, hI2, hk0, hk1, h15, h16⟩ := h_28
        rw [hr28]
        have hc := (iv_at hI2 hp List.not_mem_nil hk0 hk1 (by omega)).2.2
        refine r_istore G 31 dX0_find_31 (Nat.le_of_ble_eq_true rfl) ?_
        refine r_iload_n G 33 dX0_find_33 rfl ?_
        refine r_istore G 34 dX0_find_34 (Nat.le_of_ble_eq_true rfl) ?_
        exact r_pick G [0, 1, 2, 3, 4, 5] (lp_find (σ0 := σ) G hp ha hv hf hI2 hc h16 hR 17 a (by omega) (by omega) (Nat.le_refl _) (fun j q1 q2 => absurd q1 (by omega)))
      · refine r_iconst G 24 (-1) dX0_find_24 (by decide) ?_
        exact hR 25 _ _ _ dX0_find_25 (⟨M, S1_bad (nb3 (chk_bad hb18 h_21)), hI, rfl⟩)
end FIND
abbrev rm_find : Room := { frames := 6, cells := 0, slots := 0, locals := 145 }
theorem met_find (l : Launch) (dC : Nat → ClassId) (dI : Nat → Nat → Nat) (ad : Nat → Nat) (d : ClassId) (x y z : Int32) (M : Mm) : xMetI l dC dI ad d yX0_find cX0_find 6 (some .int) rm_find 2 3 (Pr_S [x, y, z] M) (Po_S (S_find x y z) M) :=
  xMetI_of RX0 rfl (by decide) (by decide) (fun K G xs σ _ hp hR => by
    obtain ⟨hp, h1⟩ := hp
    subst hp
    exact wk_find G (fun x => (x_callI G (met_badPage l dC dI ad d x) (lw_V q93 q95 qs0 q29 q96) xRec2 (by decide +kernel) rfl rfl ⟨Nat.le_of_ble_eq_true rfl, Nat.le_of_ble_eq_true rfl⟩)) (fun x => (x_callI G (met_badPlace l dC dI ad d x) (lw_V q97 q99 qs1 q29 q100) xRec2 (by decide +kernel) rfl rfl ⟨Nat.le_of_ble_eq_true rfl, Nat.le_of_ble_eq_true rfl⟩)) (fun x => (x_callI G (met_badByte l dC dI ad d x) (lw_V q101 q103 qs2 q29 q104) xRec2 (by decide +kernel) rfl rfl ⟨Nat.le_of_ble_eq_true rfl, Nat.le_of_ble_eq_true rfl⟩)) (fun p M => (x_callI G (met_bring l dC dI ad d p M) (lw_V q105 q107 qs3 q29 q108) xRec2 (by decide +kernel) rfl rfl ⟨Nat.le_of_ble_eq_true rfl, Nat.le_of_ble_eq_true rfl⟩)) h1 hR)
end
section
/-! the swap's calls, printed by gen32.py -/
section MOVE
variable {l : Launch} {R : Room} {dC : Nat → ClassId} {dI : Nat → Nat → Nat} {ad : Nat → Nat} {d : ClassId} {K : xK}
theorem lp_move (G : xGood l R dC dI ad d RX0 cX0_move 7 K) {p a c n f : Nat} {M : Mm} {σ0 σ1 : Sg} (hp : p < 12) (ha : a < 16) (hc16 : c < 16) (hn : n < 17) (han : a + n ≤ 16) (hcn : c + n ≤ 16) (hf : f < 3) (hI2 : Iv σ1 M []) (hk0 : σ1 0 p = nI 1) (hk1 : σ1 1 p = nI f) (h16 : σ1 16 = σ0 16) (hR : xRetI cX0_move K (Po_S (S_move (nI p) (nI a) (nI c) (nI n)) M [] σ0)) :
    ∀ t i σ, i ≤ n → n + 1 ≤ t + i → (∀ t, t < 16 → σ 3 (f * 16 + t) = mvF (M p) a c i t) → (∀ t, (t < f * 16 ∨ f * 16 + 16 ≤ t) → σ 3 t = σ1 3 t) → (∀ k, k ≠ 3 → σ k = σ1 k) → K 68 [(0, .inr 2), (1, .inl (nI p)), (2, .inl (nI a)), (3, .inl (nI c)), (4, .inl (nI n)), (5, .inl (nI (f * 16))), (6, .inl (nI i))] [] σ := by
  intro t
  induction t with
  | zero => intro i σ h1 h2; omega
  | succ t ih =>
    intro i σ h1 h2 hrow ho hk
    refine r_iload G 68 dX0_move_68 rfl ?_
    refine r_iload G 70 dX0_move_70 rfl ?_
    refine b_ge G 72 105 dX0_move_72 (by decide) (by omega) (by omega) (fun h_72 => ?_) (fun h_72 => ?_)
    · refine r_iconst G 105 (nI 0) dX0_move_105 (by decide) ?_
      exact hR 106 _ _ _ dX0_move_106 (⟨_, Or.inr ⟨p, a, c, n, ⟨hp, ha, hc16, hn, rfl, rfl, rfl, rfl, han, hcn⟩, rfl, rfl⟩, iv_row hI2 hp hf hk0 hk1 ho hk (fun t ht => by rw [hrow t ht, show i = n by omega]), (hk 16 (by decide)).trans h16⟩)
    · refine r_aload G 75 dX0_move_75 rfl ?_
      refine r_f3 G 76 dX0_move_76 ?_
      refine r_iload G 79 dX0_move_79 rfl ?_
      refine r_iload_n G 81 dX0_move_81 rfl ?_
      refine r_iadd G 82 dX0_move_82 (nI_add _ _) ?_
      refine r_iload G 83 dX0_move_83 rfl ?_
      refine r_iadd G 85 dX0_move_85 (nI_add _ _) ?_
      refine r_aload G 86 dX0_move_86 rfl ?_
      refine r_f3 G 87 dX0_move_87 ?_
      refine r_iload G 90 dX0_move_90 rfl ?_
      refine r_iload_n G 92 dX0_move_92 rfl ?_
      refine r_iadd G 93 dX0_move_93 (nI_add _ _) ?_
      refine r_iload G 94 dX0_move_94 rfl ?_
      refine r_iadd G 96 dX0_move_96 (nI_add _ _) ?_
      refine r_ald G 97 48 rfl dX0_move_97 rfl (by omega) ?_
      refine r_ast G 98 48 rfl dX0_move_98 rfl (by omega) ?_
      refine r_iinc G 99 dX0_move_99 rfl (c_inc _) (Nat.le_of_ble_eq_true rfl) ?_
      refine r_goto G 102 68 dX0_move_102 (by decide) ?_
      exact r_pick G [0, 1, 2, 3, 4, 5, 6] (ih (i + 1) _ (by omega) (by omega) (fun t ht => by show _ = upd (mvF (M p) a c i) (c + i) (mvF (M p) a c i (a + i)) t; by_cases e : t = c + i; rw [e, ← Nat.add_assoc, sw_up_s, upd_s, Nat.add_assoc]; exact hrow _ (by omega); rw [sw_up_o (by omega), upd_o e]; exact hrow t ht) (fun t ht => by rw [sw_up_o (by omega)]; exact ho t ht) (fun k hk' => (sw_up_n hk').trans (hk k hk')))
theorem wk_move (G : xGood l R dC dI ad d RX0 cX0_move 7 K) (h122 : ∀ x, xCallI cX0_move K 122 2 1 (Pr_1 x) (Po_chk 12 x)) (h125 : ∀ x, xCallI cX0_move K 125 2 1 (Pr_1 x) (Po_chk 16 x)) (hB : ∀ p M, xCallI cX0_move K 119 2 1 (Pr_pg p M) (Po_bring p M)) {x y z w : Int32} {M : Mm} {σ : Sg} (hI : Iv σ M []) (hR : xRetI cX0_move K (Po_S (S_move x y z w) M [] σ)) : K 0 [(0, .inr 2), (1, .inl x), (2, .inl y), (3, .inl z), (4, .inl w)] [] σ := by
  refine r_aload G 0 dX0_move_0 rfl ?_
  refine r_iload_n G 1 dX0_move_1 rfl ?_
  refine c_I1 (h122 x) 2 dX0_move_2 (Nat.le_of_ble_eq_true rfl) rfl (fun r_2 σ_2 h_2 => ?_)
  obtain ⟨hs2, hb2⟩ := h_2
  rw [hs2]
  refine r_if_ne G 5 24 dX0_move_5 (by decide) (fun h_5 => ?_) (fun h_5 => ?_)
  · refine r_iconst G 24 (-1) dX0_move_24 (by decide) ?_
    exact hR 25 _ _ _ dX0_move_25 (⟨M, S1_bad (nb1 (chk_bad hb2 h_5)), hI, rfl⟩)
  · refine r_aload G 8 dX0_move_8 rfl ?_
    refine r_iload_n G 9 dX0_move_9 rfl ?_
    refine c_I1 (h125 y) 10 dX0_move_10 (Nat.le_of_ble_eq_true rfl) rfl (fun r_10 σ_10 h_10 => ?_)
    obtain ⟨hs10, hb10⟩ := h_10
    rw [hs10]
    refine r_if_ne G 13 24 dX0_move_13 (by decide) (fun h_13 => ?_) (fun h_13 => ?_)
    · refine r_iconst G 24 (-1) dX0_move_24 (by decide) ?_
      exact hR 25 _ _ _ dX0_move_25 (⟨M, S1_bad (nb2 (chk_bad hb10 h_13)), hI, rfl⟩)
    · refine r_aload G 16 dX0_move_16 rfl ?_
      refine r_iload_n G 17 dX0_move_17 rfl ?_
      refine c_I1 (h125 z) 18 dX0_move_18 (Nat.le_of_ble_eq_true rfl) rfl (fun r_18 σ_18 h_18 => ?_)
      obtain ⟨hs18, hb18⟩ := h_18
      rw [hs18]
      refine r_if_eq G 21 26 dX0_move_21 (by decide) (fun h_21 => ?_) (fun h_21 => ?_)
      · obtain ⟨p, hp, ex⟩ := chk_ok hb2 h_5
        obtain ⟨a, ha, ey⟩ := chk_ok hb10 h_13
        obtain ⟨c, hc16, ez⟩ := chk_ok hb18 h_21
        subst ex; subst ey; subst ez
        refine r_iload G 26 dX0_move_26 rfl ?_
        refine r_if_lt G 28 56 dX0_move_28 (by decide) (fun h_28 => ?_) (fun h_28 => ?_)
        · refine r_iconst G 56 (-1) dX0_move_56 (by decide) ?_
          exact hR 57 _ _ _ dX0_move_57 (⟨M, S1_bad (nb4 (inN_neg h_28 (by decide))), hI, rfl⟩)
        · refine r_iload G 31 dX0_move_31 rfl ?_
          refine r_bipush G 33 (nI 16) dX0_move_33 (by decide) ?_
          refine r_icmp_gt G 35 56 dX0_move_35 (by decide) (fun h_35 => ?_) (fun h_35 => ?_)
          · refine r_iconst G 56 (-1) dX0_move_56 (by decide) ?_
            exact hR 57 _ _ _ dX0_move_57 (⟨M, S1_bad (nb4 (inN_bigL (n := 16) (by decide) (Int32.not_le.mpr h_35))), hI, rfl⟩)
          · obtain ⟨n, hn, ew⟩ := inN_ofL (n := 16) (by decide) h_28 (Int32.not_lt.mp h_35)
            subst ew
            refine r_iload_n G 38 dX0_move_38 rfl ?_
            refine r_iload G 39 dX0_move_39 rfl ?_
            refine r_iadd G 41 dX0_move_41 (nI_add _ _) ?_
            refine r_bipush G 42 (nI 16) dX0_move_42 (by decide) ?_
            refine b_gt G 44 56 dX0_move_44 (by decide) (by omega) (by omega) (fun h_44 => ?_) (fun h_44 => ?_)
            · refine r_iconst G 56 (-1) dX0_move_56 (by decide) ?_
              exact hR 57 _ _ _ dX0_move_57 (⟨M, S1_bad (fun ⟨p', j', k', n', g1, g2, g3, g4, g5, g6, g7, g8, g9, g10⟩ => by have e1 := nI_inj (by omega) (by omega) g6; have e2 := nI_inj (by omega) (by omega) g8; omega), hI, rfl⟩)
            · refine r_iload_n G 47 dX0_move_47 rfl ?_
              refine r_iload G 48 dX0_move_48 rfl ?_
              refine r_iadd G 50 dX0_move_50 (nI_add _ _) ?_
              refine r_bipush G 51 (nI 16) dX0_move_51 (by decide) ?_
              refine b_le G 53 58 dX0_move_53 (by decide) (by omega) (by omega) (fun h_53 => ?_) (fun h_53 => ?_)
              · refine r_aload G 58 dX0_move_58 rfl ?_
                refine r_iload_n G 59 dX0_move_59 rfl ?_
                refine c_I1 (hB p M) 60 dX0_move_60 (Nat.le_of_ble_eq_true rfl) ⟨rfl, hp, hI⟩ (fun r_60 σ_60 h_60 => ?_)
                obtain ⟨f, hf, hr60, hI2, hk0, hk1, h15, h16⟩ := h_60
                rw [hr60]
                have hc := (iv_at hI2 hp List.not_mem_nil hk0 hk1 (by omega)).2.2
                refine r_istore G 63 dX0_move_63 (Nat.le_of_ble_eq_true rfl) ?_
                refine r_iconst G 65 (nI 0) dX0_move_65 (by decide) ?_
                refine r_istore G 66 dX0_move_66 (Nat.le_of_ble_eq_true rfl) ?_
                exact r_pick G [0, 1, 2, 3, 4, 5, 6] (lp_move (σ0 := σ) G hp ha hc16 hn h_44 h_53 hf hI2 hk0 hk1 h16 hR (n + 1) 0 σ_60 (by omega) (by omega) hc (fun _ _ => rfl) (fun _ _ => rfl))
              · refine r_iconst G 56 (-1) dX0_move_56 (by decide) ?_
                exact hR 57 _ _ _ dX0_move_57 (⟨M, S1_bad (fun ⟨p', j', k', n', g1, g2, g3, g4, g5, g6, g7, g8, g9, g10⟩ => by have e1 := nI_inj (by omega) (by omega) g7; have e2 := nI_inj (by omega) (by omega) g8; omega), hI, rfl⟩)
      · refine r_iconst G 24 (-1) dX0_move_24 (by decide) ?_
        exact hR 25 _ _ _ dX0_move_25 (⟨M, S1_bad (nb3 (chk_bad hb18 h_21)), hI, rfl⟩)
end MOVE
abbrev rm_move : Room := { frames := 6, cells := 0, slots := 0, locals := 145 }
theorem met_move (l : Launch) (dC : Nat → ClassId) (dI : Nat → Nat → Nat) (ad : Nat → Nat) (d : ClassId) (x y z w : Int32) (M : Mm) : xMetI l dC dI ad d yX0_move cX0_move 7 (some .int) rm_move 2 4 (Pr_S [x, y, z, w] M) (Po_S (S_move x y z w) M) :=
  xMetI_of RX0 rfl (by decide) (by decide) (fun K G xs σ _ hp hR => by
    obtain ⟨hp, h1⟩ := hp
    subst hp
    exact wk_move G (fun x => (x_callI G (met_badPage l dC dI ad d x) (lw_V q93 q95 qs0 q29 q96) xRec2 (by decide +kernel) rfl rfl ⟨Nat.le_of_ble_eq_true rfl, Nat.le_of_ble_eq_true rfl⟩)) (fun x => (x_callI G (met_badPlace l dC dI ad d x) (lw_V q97 q99 qs1 q29 q100) xRec2 (by decide +kernel) rfl rfl ⟨Nat.le_of_ble_eq_true rfl, Nat.le_of_ble_eq_true rfl⟩)) (fun p M => (x_callI G (met_bring l dC dI ad d p M) (lw_V q105 q107 qs3 q29 q108) xRec2 (by decide +kernel) rfl rfl ⟨Nat.le_of_ble_eq_true rfl, Nat.le_of_ble_eq_true rfl⟩)) h1 hR)
section BLANK
variable {l : Launch} {R : Room} {dC : Nat → ClassId} {dI : Nat → Nat → Nat} {ad : Nat → Nat} {d : ClassId} {K : xK}
theorem lp_blank (G : xGood l R dC dI ad d RX0 cX0_blank 4 K) (hBl : ∀ f, xCallI cX0_blank K 90 2 1 (Pr_blankFrame f) (Po_blankFrame f)) {M : Mm} {σ : Sg} (hI : Iv σ M []) (hR : xRetI cX0_blank K (Po_S S_blank M [] σ)) :
    ∀ t p, p ≤ 12 → 13 ≤ t + p → K 4 [(0, .inr 2), (1, .inl (nI (cntB M p))), (2, .inl (nI p))] [] σ := by
  intro t
  induction t with
  | zero => intro p h1 h2; omega
  | succ t ih =>
    intro p h1 h2
    have hle := cntB_le M p
    by_cases hp : p < 12
    · rcases hI.1 p hp List.not_mem_nil with ⟨h0, hz⟩ | ⟨kd, j, q1, q2, q3, q4, q5, q6, q7⟩
      · have ht := ih (p + 1) (by omega) (by omega)
        rw [show cntB M (p + 1) = cntB M p + 1 from congrArg (cntB M p + ·) (bl1_1 hz)] at ht
        refine r_iload_n G 4 dX0_blank_4 rfl ?_
        refine r_bipush G 5 (nI 12) dX0_blank_5 (by decide) ?_
        refine b_ge G 7 59 dX0_blank_7 (by decide) (by omega) (by omega) (fun h_7 => absurd h_7 (by omega)) (fun h_7 => ?_)
        refine r_aload G 10 dX0_blank_10 rfl ?_
        refine r_f0 G 11 dX0_blank_11 ?_
        refine r_iload_n G 14 dX0_blank_14 rfl ?_
        refine r_ald G 15 12 rfl dX0_blank_15 rfl (by omega) ?_
        rw [h0]
        refine r_if_ne G 16 23 dX0_blank_16 (by decide) (fun h_16 => absurd rfl h_16) (fun h_16 => ?_)
        refine r_iconst G 19 (nI 1) dX0_blank_19 (by decide) ?_
        refine r_goto G 20 24 dX0_blank_20 (by decide) ?_
        refine r_istore_n G 24 dX0_blank_24 (Nat.le_of_ble_eq_true rfl) ?_
        refine r_aload G 25 dX0_blank_25 rfl ?_
        refine r_f0 G 26 dX0_blank_26 ?_
        refine r_iload_n G 29 dX0_blank_29 rfl ?_
        refine r_ald G 30 12 rfl dX0_blank_30 rfl (by omega) ?_
        rw [h0]
        refine r_iconst G 31 (nI 1) dX0_blank_31 (by decide) ?_
        refine b_ne G 32 46 dX0_blank_32 (by decide) (by omega) (by omega) (fun h_32 => ?_) (fun h_32 => absurd h_32 (by omega))
        refine r_iload_n G 46 dX0_blank_46 rfl ?_
        refine r_if_eq G 47 53 dX0_blank_47 (by decide) (fun h_47 => absurd h_47 (by decide)) (fun h_47 => ?_)
        refine r_iinc G 50 dX0_blank_50 rfl (c_inc _) (Nat.le_of_ble_eq_true rfl) ?_
        refine r_iinc G 53 dX0_blank_53 rfl (c_inc _) (Nat.le_of_ble_eq_true rfl) ?_
        refine r_goto G 56 4 dX0_blank_56 (by decide) ?_
        exact r_pick G [0, 1, 2] ht
      · rcases kd_cases q1 q2 with rfl | rfl | rfl
        · obtain ⟨f, hf, h1p, h4, hc⟩ := iv_inframe hI hp List.not_mem_nil q4
          refine r_iload_n G 4 dX0_blank_4 rfl ?_
          refine r_bipush G 5 (nI 12) dX0_blank_5 (by decide) ?_
          refine b_ge G 7 59 dX0_blank_7 (by decide) (by omega) (by omega) (fun h_7 => absurd h_7 (by omega)) (fun h_7 => ?_)
          refine r_aload G 10 dX0_blank_10 rfl ?_
          refine r_f0 G 11 dX0_blank_11 ?_
          refine r_iload_n G 14 dX0_blank_14 rfl ?_
          refine r_ald G 15 12 rfl dX0_blank_15 rfl (by omega) ?_
          rw [q4]
          refine r_if_ne G 16 23 dX0_blank_16 (by decide) (fun h_16 => ?_) (fun h_16 => absurd h_16 (by decide))
          refine r_iconst G 23 (nI 0) dX0_blank_23 (by decide) ?_
          refine r_istore_n G 24 dX0_blank_24 (Nat.le_of_ble_eq_true rfl) ?_
          refine r_aload G 25 dX0_blank_25 rfl ?_
          refine r_f0 G 26 dX0_blank_26 ?_
          refine r_iload_n G 29 dX0_blank_29 rfl ?_
          refine r_ald G 30 12 rfl dX0_blank_30 rfl (by omega) ?_
          rw [q4]
          refine r_iconst G 31 (nI 1) dX0_blank_31 (by decide) ?_
          refine b_ne G 32 46 dX0_blank_32 (by decide) (by omega) (by omega) (fun h_32 => absurd rfl h_32) (fun h_32 => ?_)
          refine r_aload G 35 dX0_blank_35 rfl ?_
          refine r_aload G 36 dX0_blank_36 rfl ?_
          refine r_f1 G 37 dX0_blank_37 ?_
          refine r_iload_n G 40 dX0_blank_40 rfl ?_
          refine r_ald G 41 12 rfl dX0_blank_41 rfl (by omega) ?_
          rw [h1p]
          refine c_I1 (hBl f) 42 dX0_blank_42 (Nat.le_of_ble_eq_true rfl) ⟨rfl, hf⟩ (fun r_42 σ_42 h_42 => ?_)
          obtain ⟨hs42, hb42⟩ := h_42
          rw [hs42]
          refine r_istore_n G 45 dX0_blank_45 (Nat.le_of_ble_eq_true rfl) ?_
          refine r_iload_n G 46 dX0_blank_46 rfl ?_
          refine r_if_eq G 47 53 dX0_blank_47 (by decide) (fun h_47 => ?_) (fun h_47 => ?_)
          · refine r_iinc G 53 dX0_blank_53 rfl (c_inc _) (Nat.le_of_ble_eq_true rfl) ?_
            refine r_goto G 56 4 dX0_blank_56 (by decide) ?_
            have ht := ih (p + 1) (by omega) (by omega)
            have nz : pg_nz (M p) := by
              rcases hb42 with ⟨b1, b2⟩ | ⟨b1, i, b2, b3⟩
              · rw [b1] at h_47; exact absurd h_47 (by decide)
              · exact ⟨i, b2, by rw [← hc i b2]; exact b3⟩
            rw [show cntB M (p + 1) = cntB M p from congrArg (cntB M p + ·) (bl1_0 nz)] at ht
            exact r_pick G [0, 1, 2] ht
          · refine r_iinc G 50 dX0_blank_50 rfl (c_inc _) (Nat.le_of_ble_eq_true rfl) ?_
            refine r_iinc G 53 dX0_blank_53 rfl (c_inc _) (Nat.le_of_ble_eq_true rfl) ?_
            refine r_goto G 56 4 dX0_blank_56 (by decide) ?_
            have ht := ih (p + 1) (by omega) (by omega)
            have hz : ∀ i, i < 16 → M p i = 0 := by
              rcases hb42 with ⟨b1, b2⟩ | ⟨b1, b2⟩
              · exact fun i hi => by rw [← hc i hi]; exact b2 i hi
              · exact absurd b1 h_47
            rw [show cntB M (p + 1) = cntB M p + 1 from congrArg (cntB M p + ·) (bl1_1 hz)] at ht
            exact r_pick G [0, 1, 2] ht
        · have nz : pg_nz (M p) := by
            rcases q7 with ⟨k1, _⟩ | ⟨k1, k2, _⟩ | ⟨k1, _⟩
            · exact absurd k1 (by decide)
            · exact k2
            · exact absurd k1 (by decide)
          have ht := ih (p + 1) (by omega) (by omega)
          rw [show cntB M (p + 1) = cntB M p from congrArg (cntB M p + ·) (bl1_0 nz)] at ht
          refine r_iload_n G 4 dX0_blank_4 rfl ?_
          refine r_bipush G 5 (nI 12) dX0_blank_5 (by decide) ?_
          refine b_ge G 7 59 dX0_blank_7 (by decide) (by omega) (by omega) (fun h_7 => absurd h_7 (by omega)) (fun h_7 => ?_)
          refine r_aload G 10 dX0_blank_10 rfl ?_
          refine r_f0 G 11 dX0_blank_11 ?_
          refine r_iload_n G 14 dX0_blank_14 rfl ?_
          refine r_ald G 15 12 rfl dX0_blank_15 rfl (by omega) ?_
          rw [q4]
          refine r_if_ne G 16 23 dX0_blank_16 (by decide) (fun h_16 => ?_) (fun h_16 => absurd h_16 (by decide))
          refine r_iconst G 23 (nI 0) dX0_blank_23 (by decide) ?_
          refine r_istore_n G 24 dX0_blank_24 (Nat.le_of_ble_eq_true rfl) ?_
          refine r_aload G 25 dX0_blank_25 rfl ?_
          refine r_f0 G 26 dX0_blank_26 ?_
          refine r_iload_n G 29 dX0_blank_29 rfl ?_
          refine r_ald G 30 12 rfl dX0_blank_30 rfl (by omega) ?_
          rw [q4]
          refine r_iconst G 31 (nI 1) dX0_blank_31 (by decide) ?_
          refine b_ne G 32 46 dX0_blank_32 (by decide) (by omega) (by omega) (fun h_32 => ?_) (fun h_32 => absurd h_32 (by omega))
          refine r_iload_n G 46 dX0_blank_46 rfl ?_
          refine r_if_eq G 47 53 dX0_blank_47 (by decide) (fun h_47 => ?_) (fun h_47 => absurd rfl h_47)
          refine r_iinc G 53 dX0_blank_53 rfl (c_inc _) (Nat.le_of_ble_eq_true rfl) ?_
          refine r_goto G 56 4 dX0_blank_56 (by decide) ?_
          exact r_pick G [0, 1, 2] ht
        · have nz : pg_nz (M p) := by
            rcases q7 with ⟨k1, _⟩ | ⟨k1, _⟩ | ⟨k1, k2, _⟩
            · exact absurd k1 (by decide)
            · exact absurd k1 (by decide)
            · exact k2
          have ht := ih (p + 1) (by omega) (by omega)
          rw [show cntB M (p + 1) = cntB M p from congrArg (cntB M p + ·) (bl1_0 nz)] at ht
          refine r_iload_n G 4 dX0_blank_4 rfl ?_
          refine r_bipush G 5 (nI 12) dX0_blank_5 (by decide) ?_
          refine b_ge G 7 59 dX0_blank_7 (by decide) (by omega) (by omega) (fun h_7 => absurd h_7 (by omega)) (fun h_7 => ?_)
          refine r_aload G 10 dX0_blank_10 rfl ?_
          refine r_f0 G 11 dX0_blank_11 ?_
          refine r_iload_n G 14 dX0_blank_14 rfl ?_
          refine r_ald G 15 12 rfl dX0_blank_15 rfl (by omega) ?_
          rw [q4]
          refine r_if_ne G 16 23 dX0_blank_16 (by decide) (fun h_16 => ?_) (fun h_16 => absurd h_16 (by decide))
          refine r_iconst G 23 (nI 0) dX0_blank_23 (by decide) ?_
          refine r_istore_n G 24 dX0_blank_24 (Nat.le_of_ble_eq_true rfl) ?_
          refine r_aload G 25 dX0_blank_25 rfl ?_
          refine r_f0 G 26 dX0_blank_26 ?_
          refine r_iload_n G 29 dX0_blank_29 rfl ?_
          refine r_ald G 30 12 rfl dX0_blank_30 rfl (by omega) ?_
          rw [q4]
          refine r_iconst G 31 (nI 1) dX0_blank_31 (by decide) ?_
          refine b_ne G 32 46 dX0_blank_32 (by decide) (by omega) (by omega) (fun h_32 => ?_) (fun h_32 => absurd h_32 (by omega))
          refine r_iload_n G 46 dX0_blank_46 rfl ?_
          refine r_if_eq G 47 53 dX0_blank_47 (by decide) (fun h_47 => ?_) (fun h_47 => absurd rfl h_47)
          refine r_iinc G 53 dX0_blank_53 rfl (c_inc _) (Nat.le_of_ble_eq_true rfl) ?_
          refine r_goto G 56 4 dX0_blank_56 (by decide) ?_
          exact r_pick G [0, 1, 2] ht
    · skip
      refine r_iload_n G 4 dX0_blank_4 rfl ?_
      refine r_bipush G 5 (nI 12) dX0_blank_5 (by decide) ?_
      refine b_ge G 7 59 dX0_blank_7 (by decide) (by omega) (by omega) (fun h_7 => ?_) (fun h_7 => absurd h_7 (by omega))
      refine r_iload_n G 59 dX0_blank_59 rfl ?_
      exact hR 60 _ _ _ dX0_blank_60 (⟨M, ⟨by rw [show p = 12 by omega], rfl⟩, hI, rfl⟩)
theorem wk_blank (G : xGood l R dC dI ad d RX0 cX0_blank 4 K) (hBl : ∀ f, xCallI cX0_blank K 90 2 1 (Pr_blankFrame f) (Po_blankFrame f)) {M : Mm} {σ : Sg} (hI : Iv σ M []) (hR : xRetI cX0_blank K (Po_S (S_blank) M [] σ)) : K 0 [(0, .inr 2)] [] σ := by
  refine r_iconst G 0 (nI 0) dX0_blank_0 (by decide) ?_
  refine r_istore_n G 1 dX0_blank_1 (Nat.le_of_ble_eq_true rfl) ?_
  refine r_iconst G 2 (nI 0) dX0_blank_2 (by decide) ?_
  refine r_istore_n G 3 dX0_blank_3 (Nat.le_of_ble_eq_true rfl) ?_
  exact r_pick G [0, 1, 2] (lp_blank G hBl hI hR 13 0 (by omega) (by omega))
end BLANK
abbrev rm_blank : Room := { frames := 1, cells := 0, slots := 0, locals := 23 }
theorem met_blank (l : Launch) (dC : Nat → ClassId) (dI : Nat → Nat → Nat) (ad : Nat → Nat) (d : ClassId) (M : Mm) : xMetI l dC dI ad d yX0_blank cX0_blank 4 (some .int) rm_blank 2 0 (Pr_S [] M) (Po_S (S_blank) M) :=
  xMetI_of RX0 rfl (by decide) (by decide) (fun K G xs σ _ hp hR => by
    obtain ⟨hp, h1⟩ := hp
    subst hp
    exact wk_blank G (fun f => (x_callI G (met_blankFrame l dC dI ad d f) (lw_V q117 q119 qs6 q29 q120) xRec2 (by decide +kernel) rfl rfl ⟨Nat.le_of_ble_eq_true rfl, Nat.le_of_ble_eq_true rfl⟩)) h1 hR)
section TWIN
variable {l : Launch} {R : Room} {dC : Nat → ClassId} {dI : Nat → Nat → Nat} {ad : Nat → Nat} {d : ClassId} {K : xK}
theorem lp_twin (G : xGood l R dC dI ad d RX0 cX0_twin 4 K) (hFD : ∀ q M X, xCallI cX0_twin K 137 2 1 (Pr_fd q M X) (Po_fd q M X)) {p : Nat} {M : Mm} {σ0 : Sg} (hp : p < 12) (hR : xRetI cX0_twin K (Po_S (S_twin (nI p)) M [] σ0)) :
    ∀ t q σ, q ≤ 12 → 13 ≤ t + q → Iv σ M [] → (∀ i, i < 16 → σ 15 i = M p i) → σ 16 = σ0 16 → (∀ s, s < q → s ≠ p → ¬ eqR (M p) (M s)) → K 17 [(0, .inr 2), (1, .inl (nI p)), (2, .inl (nI q))] [] σ := by
  intro t
  induction t with
  | zero => intro q σ h1 h2; omega
  | succ t ih =>
    intro q σ h1 h2 hI hh h16 hn
    refine r_iload_n G 17 dX0_twin_17 rfl ?_
    refine r_bipush G 18 (nI 12) dX0_twin_18 (by decide) ?_
    refine b_ge G 20 48 dX0_twin_20 (by decide) (by omega) (by omega) (fun h_20 => ?_) (fun h_20 => ?_)
    · refine r_bipush G 48 (-4) dX0_twin_48 (by decide) ?_
      exact hR 50 _ _ _ dX0_twin_50 (⟨M, Or.inr ⟨p, 0, 0, 0, ⟨hp, by decide, by decide, by decide, rfl, rfl, rfl, rfl, trivial⟩, Or.inl ⟨rfl, fun s hs => hn s (by omega)⟩, rfl⟩, hI, h16⟩)
    · refine r_iload_n G 23 dX0_twin_23 rfl ?_
      refine r_iload_n G 24 dX0_twin_24 rfl ?_
      refine b_eq G 25 42 dX0_twin_25 (by decide) (by omega) (by omega) (fun h_25 => ?_) (fun h_25 => ?_)
      · refine r_iinc G 42 dX0_twin_42 rfl (c_inc _) (Nat.le_of_ble_eq_true rfl) ?_
        refine r_goto G 45 17 dX0_twin_45 (by decide) ?_
        exact r_pick G [0, 1, 2] (ih (q + 1) σ (by omega) (by omega) hI hh h16 (fun s hs hsp => hn s (by omega) hsp))
      · refine r_aload G 28 dX0_twin_28 rfl ?_
        refine r_iload_n G 29 dX0_twin_29 rfl ?_
        refine c_I1 (hFD q M (M p)) 30 dX0_twin_30 (Nat.le_of_ble_eq_true rfl) ⟨rfl, h_20, hI, hh⟩ (fun r_30 σ_30 h_30 => ?_)
        obtain ⟨hfd, hI2, h15, h162⟩ := h_30
        refine r_istore_n G 33 dX0_twin_33 (Nat.le_of_ble_eq_true rfl) ?_
        refine r_iload_n G 34 dX0_twin_34 rfl ?_
        refine r_bipush G 35 (-4) dX0_twin_35 (by decide) ?_
        refine r_icmp_ne G 37 42 dX0_twin_37 (by decide) (fun h_37 => ?_) (fun h_37 => ?_)
        · refine r_iinc G 42 dX0_twin_42 rfl (c_inc _) (Nat.le_of_ble_eq_true rfl) ?_
          refine r_goto G 45 17 dX0_twin_45 (by decide) ?_
          exact r_pick G [0, 1, 2] (ih (q + 1) σ_30 (by omega) (by omega) hI2 (fun i hi => by rw [h15]; exact hh i hi) (h162.trans h16) (fun s hs hsp => by by_cases e : s = q; rw [e]; exact fun z => h_37 ((fd_eq hfd).mpr z); exact hn s (by omega) hsp))
        · refine r_iload_n G 40 dX0_twin_40 rfl ?_
          exact hR 41 _ _ _ dX0_twin_41 (⟨M, Or.inr ⟨p, 0, 0, 0, ⟨hp, by decide, by decide, by decide, rfl, rfl, rfl, rfl, trivial⟩, Or.inr ⟨q, h_20, h_25, rfl, (fd_eq hfd).mp h_37, hn⟩, rfl⟩, hI2, h162.trans h16⟩)
theorem wk_twin (G : xGood l R dC dI ad d RX0 cX0_twin 4 K) (h122 : ∀ x, xCallI cX0_twin K 122 2 1 (Pr_1 x) (Po_chk 12 x)) (hH : ∀ p M, xCallV cX0_twin K 131 2 1 (Pr_pg p M) (Po_hold p M)) (hFD : ∀ q M X, xCallI cX0_twin K 137 2 1 (Pr_fd q M X) (Po_fd q M X)) {x : Int32} {M : Mm} {σ : Sg} (hI : Iv σ M []) (hR : xRetI cX0_twin K (Po_S (S_twin x) M [] σ)) : K 0 [(0, .inr 2), (1, .inl x)] [] σ := by
  refine r_aload G 0 dX0_twin_0 rfl ?_
  refine r_iload_n G 1 dX0_twin_1 rfl ?_
  refine c_I1 (h122 x) 2 dX0_twin_2 (Nat.le_of_ble_eq_true rfl) rfl (fun r_2 σ_2 h_2 => ?_)
  obtain ⟨hs2, hb2⟩ := h_2
  rw [hs2]
  refine r_if_eq G 5 10 dX0_twin_5 (by decide) (fun h_5 => ?_) (fun h_5 => ?_)
  · obtain ⟨p, hp, ex⟩ := chk_ok hb2 h_5
    subst ex
    refine r_aload G 10 dX0_twin_10 rfl ?_
    refine r_iload_n G 11 dX0_twin_11 rfl ?_
    refine c_V1 (hH p M) 12 dX0_twin_12 (Nat.le_of_ble_eq_true rfl) ⟨rfl, hp, hI⟩ (fun σ_12 h_12 => ?_)
    obtain ⟨hI1, hh1, hg16⟩ := h_12
    refine r_iconst G 15 (nI 0) dX0_twin_15 (by decide) ?_
    refine r_istore_n G 16 dX0_twin_16 (Nat.le_of_ble_eq_true rfl) ?_
    exact r_pick G [0, 1, 2] (lp_twin (σ0 := σ) G hFD hp hR 13 0 σ_12 (by omega) (by omega) hI1 hh1 hg16 (fun s hs => absurd hs (by omega)))
  · refine r_iconst G 8 (-1) dX0_twin_8 (by decide) ?_
    exact hR 9 _ _ _ dX0_twin_9 (⟨M, S1_bad (nb1 (chk_bad hb2 h_5)), hI, rfl⟩)
end TWIN
abbrev rm_twin : Room := { frames := 7, cells := 0, slots := 0, locals := 168 }
theorem met_twin (l : Launch) (dC : Nat → ClassId) (dI : Nat → Nat → Nat) (ad : Nat → Nat) (d : ClassId) (x : Int32) (M : Mm) : xMetI l dC dI ad d yX0_twin cX0_twin 4 (some .int) rm_twin 2 1 (Pr_S [x] M) (Po_S (S_twin x) M) :=
  xMetI_of RX0 rfl (by decide) (by decide) (fun K G xs σ _ hp hR => by
    obtain ⟨hp, h1⟩ := hp
    subst hp
    exact wk_twin G (fun x => (x_callI G (met_badPage l dC dI ad d x) (lw_V q93 q95 qs0 q29 q96) xRec2 (by decide +kernel) rfl rfl ⟨Nat.le_of_ble_eq_true rfl, Nat.le_of_ble_eq_true rfl⟩)) (fun p M => (x_callV G (met_hold l dC dI ad d p M) (lw_V q193 q195 qs22 q29 q196) xRec2 (by decide +kernel) rfl rfl ⟨Nat.le_of_ble_eq_true rfl, Nat.le_of_ble_eq_true rfl⟩)) (fun q M X => (x_callI G (met_firstDifference l dC dI ad d q M X) (lw_V q225 q227 qs24 q29 q228) xRec2 (by decide +kernel) rfl rfl ⟨Nat.le_of_ble_eq_true rfl, Nat.le_of_ble_eq_true rfl⟩)) h1 hR)
section AWAY
variable {l : Launch} {R : Room} {dC : Nat → ClassId} {dI : Nat → Nat → Nat} {ad : Nat → Nat} {d : ClassId} {K : xK}
theorem wk2_away (G : xGood l R dC dI ad d RX0 cX0_away 2 K) (hE : ∀ f p M, xCallV cX0_away K 110 2 1 (Pr_evict f p M) (Po_evict f M)) {p : Nat} {M : Mm} {σ : Sg} (hp : p < 12) (hI : Iv σ M []) (hR : xRetI cX0_away K (Po_S (S_away (nI p)) M [] σ)) : K 10 [(0, .inr 2), (1, .inl (nI p))] [] σ := by
  by_cases hk : σ 0 p = nI 1
  · obtain ⟨f, hf, h1p, h4, hc⟩ := iv_inframe hI hp List.not_mem_nil hk
    refine r_aload G 10 dX0_away_10 rfl ?_
    refine r_f0 G 11 dX0_away_11 ?_
    refine r_iload_n G 14 dX0_away_14 rfl ?_
    refine r_ald G 15 12 rfl dX0_away_15 rfl (by omega) ?_
    rw [hk]
    refine r_iconst G 16 (nI 1) dX0_away_16 (by decide) ?_
    refine b_ne G 17 30 dX0_away_17 (by decide) (by omega) (by omega) (fun h_17 => absurd rfl h_17) (fun h_17 => ?_)
    refine r_aload G 20 dX0_away_20 rfl ?_
    refine r_aload G 21 dX0_away_21 rfl ?_
    refine r_f1 G 22 dX0_away_22 ?_
    refine r_iload_n G 25 dX0_away_25 rfl ?_
    refine r_ald G 26 12 rfl dX0_away_26 rfl (by omega) ?_
    rw [h1p]
    refine c_V1 (hE f p M) 27 dX0_away_27 (Nat.le_of_ble_eq_true rfl) ⟨rfl, hf, hp, h4, hI⟩ (fun σ_27 h_27 => ?_)
    obtain ⟨hI2, h42, hkq, h15, h16⟩ := h_27
    refine r_iconst G 30 (nI 0) dX0_away_30 (by decide) ?_
    exact hR 31 _ _ _ dX0_away_31 (⟨M, Or.inr ⟨p, 0, 0, 0, ⟨hp, by decide, by decide, by decide, rfl, rfl, rfl, rfl, trivial⟩, rfl, rfl⟩, hI2, h16⟩)
  · skip
    refine r_aload G 10 dX0_away_10 rfl ?_
    refine r_f0 G 11 dX0_away_11 ?_
    refine r_iload_n G 14 dX0_away_14 rfl ?_
    refine r_ald G 15 12 rfl dX0_away_15 rfl (by omega) ?_
    refine r_iconst G 16 (nI 1) dX0_away_16 (by decide) ?_
    refine r_icmp_ne G 17 30 dX0_away_17 (by decide) (fun h_17 => ?_) (fun h_17 => absurd h_17 hk)
    refine r_iconst G 30 (nI 0) dX0_away_30 (by decide) ?_
    exact hR 31 _ _ _ dX0_away_31 (⟨M, Or.inr ⟨p, 0, 0, 0, ⟨hp, by decide, by decide, by decide, rfl, rfl, rfl, rfl, trivial⟩, rfl, rfl⟩, hI, rfl⟩)
theorem wk_away (G : xGood l R dC dI ad d RX0 cX0_away 2 K) (h122 : ∀ x, xCallI cX0_away K 122 2 1 (Pr_1 x) (Po_chk 12 x)) (hE : ∀ f p M, xCallV cX0_away K 110 2 1 (Pr_evict f p M) (Po_evict f M)) {x : Int32} {M : Mm} {σ : Sg} (hI : Iv σ M []) (hR : xRetI cX0_away K (Po_S (S_away x) M [] σ)) : K 0 [(0, .inr 2), (1, .inl x)] [] σ := by
  refine r_aload G 0 dX0_away_0 rfl ?_
  refine r_iload_n G 1 dX0_away_1 rfl ?_
  refine c_I1 (h122 x) 2 dX0_away_2 (Nat.le_of_ble_eq_true rfl) rfl (fun r_2 σ_2 h_2 => ?_)
  obtain ⟨hs2, hb2⟩ := h_2
  rw [hs2]
  refine r_if_eq G 5 10 dX0_away_5 (by decide) (fun h_5 => ?_) (fun h_5 => ?_)
  · obtain ⟨p, hp, ex⟩ := chk_ok hb2 h_5
    subst ex
    exact r_pick G [0, 1] (wk2_away G hE hp hI hR)
  · refine r_iconst G 8 (-1) dX0_away_8 (by decide) ?_
    exact hR 9 _ _ _ dX0_away_9 (⟨M, S1_bad (nb1 (chk_bad hb2 h_5)), hI, rfl⟩)
end AWAY
abbrev rm_away : Room := { frames := 4, cells := 0, slots := 0, locals := 100 }
theorem met_away (l : Launch) (dC : Nat → ClassId) (dI : Nat → Nat → Nat) (ad : Nat → Nat) (d : ClassId) (x : Int32) (M : Mm) : xMetI l dC dI ad d yX0_away cX0_away 2 (some .int) rm_away 2 1 (Pr_S [x] M) (Po_S (S_away x) M) :=
  xMetI_of RX0 rfl (by decide) (by decide) (fun K G xs σ _ hp hR => by
    obtain ⟨hp, h1⟩ := hp
    subst hp
    exact wk_away G (fun x => (x_callI G (met_badPage l dC dI ad d x) (lw_V q93 q95 qs0 q29 q96) xRec2 (by decide +kernel) rfl rfl ⟨Nat.le_of_ble_eq_true rfl, Nat.le_of_ble_eq_true rfl⟩)) (fun f p M => (x_callV G (met_evict l dC dI ad d f p M) (lw_V q113 q115 qs5 q29 q116) xRec2 (by decide +kernel) rfl rfl ⟨Nat.le_of_ble_eq_true rfl, Nat.le_of_ble_eq_true rfl⟩)) h1 hR)
def Po_keep (M : Mm) : List Int32 → Sg → Sg → Prop := fun _ σ σ' => Iv σ' M [] ∧ σ' 16 = σ 16
section FLUSH
variable {l : Launch} {R : Room} {dC : Nat → ClassId} {dI : Nat → Nat → Nat} {ad : Nat → Nat} {d : ClassId} {K : xK}
theorem lp_flush (G : xGood l R dC dI ad d RX0 cX0_flush 4 K) (hO : xCallI cX0_flush K 100 2 0 Pr_0 Po_oldest) (hWB : ∀ f M L, xCallV cX0_flush K 104 2 1 (Pr_writeBack f M L) (Po_writeBack f M L)) {x : Int32} {M : Mm} {σ0 : Sg} (hR : xRetV cX0_flush K (Po_keep M [] σ0)) :
    ∀ t i σ, i ≤ 4 → 5 ≤ t + i → Iv σ M [] → σ 16 = σ0 16 → K 2 [(0, .inr 2), (1, .inl x), (2, .inl (nI i))] [] σ := by
  intro t
  induction t with
  | zero => intro i σ h1 h2; omega
  | succ t ih =>
    intro i σ h1 h2 hI h16
    refine r_iload_n G 2 dX0_flush_2 rfl ?_
    refine r_iload_n G 3 dX0_flush_3 rfl ?_
    refine r_icmp_ge G 4 32 dX0_flush_4 (by decide) (fun h_4 => ?_) (fun h_4 => ?_)
    · exact hR 32 _ _ dX0_flush_32 (⟨hI, h16⟩)
    · refine r_iload_n G 7 dX0_flush_7 rfl ?_
      refine r_iconst G 8 (nI 4) dX0_flush_8 (by decide) ?_
      refine b_ge G 9 32 dX0_flush_9 (by decide) (by omega) (by omega) (fun h_9 => ?_) (fun h_9 => ?_)
      · exact hR 32 _ _ dX0_flush_32 (⟨hI, h16⟩)
      · refine r_aload G 12 dX0_flush_12 rfl ?_
        refine c_I0 hO 13 dX0_flush_13 (Nat.le_of_ble_eq_true rfl) rfl (fun r_13 σ_13 h_13 => ?_)
        obtain ⟨hs13, hold⟩ := h_13
        rw [hs13]
        refine r_istore_n G 16 dX0_flush_16 (Nat.le_of_ble_eq_true rfl) ?_
        refine r_iload_n G 17 dX0_flush_17 rfl ?_
        refine r_if_lt G 18 26 dX0_flush_18 (by decide) (fun h_18 => ?_) (fun h_18 => ?_)
        · refine r_iinc G 26 dX0_flush_26 rfl (c_inc _) (Nat.le_of_ble_eq_true rfl) ?_
          refine r_goto G 29 2 dX0_flush_29 (by decide) ?_
          exact r_pick G [0, 1, 2] (ih (i + 1) σ (by omega) (by omega) hI h16)
        · obtain ⟨f, hf, er⟩ : ∃ f, f < 4 ∧ r_13 = nI f := by
            rcases hold with ⟨b1, b2⟩ | b
            · rw [b1] at h_18; exact absurd m1_lt h_18
            · exact b
          subst er
          refine r_aload G 21 dX0_flush_21 rfl ?_
          refine r_iload_n G 22 dX0_flush_22 rfl ?_
          refine c_V1 (hWB f M []) 23 dX0_flush_23 (Nat.le_of_ble_eq_true rfl) ⟨rfl, hf, hI⟩ (fun σ_23 h_23 => ?_)
          obtain ⟨hI4, h7a, h7b, hkq, hk23⟩ := h_23
          refine r_iinc G 26 dX0_flush_26 rfl (c_inc _) (Nat.le_of_ble_eq_true rfl) ?_
          refine r_goto G 29 2 dX0_flush_29 (by decide) ?_
          exact r_pick G [0, 1, 2] (ih (i + 1) σ_23 (by omega) (by omega) hI4 ((hk23 16 (by decide) (by decide) (by decide) (by decide) (by decide) (by decide)).trans h16))
theorem wk_flush (G : xGood l R dC dI ad d RX0 cX0_flush 4 K) (hO : xCallI cX0_flush K 100 2 0 Pr_0 Po_oldest) (hWB : ∀ f M L, xCallV cX0_flush K 104 2 1 (Pr_writeBack f M L) (Po_writeBack f M L)) {x : Int32} {M : Mm} {σ : Sg} (hI : Iv σ M []) (hR : xRetV cX0_flush K (Po_keep M [] σ)) : K 0 [(0, .inr 2), (1, .inl x)] [] σ := by
  refine r_iconst G 0 (nI 0) dX0_flush_0 (by decide) ?_
  refine r_istore_n G 1 dX0_flush_1 (Nat.le_of_ble_eq_true rfl) ?_
  exact r_pick G [0, 1, 2] (lp_flush G hO hWB hR 5 0 σ (by omega) (by omega) hI rfl)
theorem lp_rest (G : xGood l R dC dI ad d RX0 cX0_rest 3 K) (hB : ∀ p M, xCallI cX0_rest K 119 2 1 (Pr_pg p M) (Po_bring p M)) {x : Int32} {M : Mm} {σ0 : Sg} (hR : xRetV cX0_rest K (Po_keep M [] σ0)) :
    ∀ t p σ, p ≤ 12 → 13 ≤ t + p → Iv σ M [] → σ 16 = σ0 16 → K 2 [(0, .inr 2), (1, .inl x), (2, .inl (nI p))] [] σ := by
  intro t
  induction t with
  | zero => intro p σ h1 h2; omega
  | succ t ih =>
    intro p σ h1 h2 hI h16
    refine r_iload_n G 2 dX0_rest_2 rfl ?_
    refine r_iload_n G 3 dX0_rest_3 rfl ?_
    refine r_icmp_ge G 4 25 dX0_rest_4 (by decide) (fun h_4 => ?_) (fun h_4 => ?_)
    · exact hR 25 _ _ dX0_rest_25 (⟨hI, h16⟩)
    · refine r_iload_n G 7 dX0_rest_7 rfl ?_
      refine r_bipush G 8 (nI 12) dX0_rest_8 (by decide) ?_
      refine b_ge G 10 25 dX0_rest_10 (by decide) (by omega) (by omega) (fun h_10 => ?_) (fun h_10 => ?_)
      · exact hR 25 _ _ dX0_rest_25 (⟨hI, h16⟩)
      · refine r_aload G 13 dX0_rest_13 rfl ?_
        refine r_iload_n G 14 dX0_rest_14 rfl ?_
        refine c_I1 (hB p M) 15 dX0_rest_15 (Nat.le_of_ble_eq_true rfl) ⟨rfl, h_10, hI⟩ (fun r_15 σ_15 h_15 => ?_)
        obtain ⟨f, hf, hr15, hI2, hk0, hk1, h15, h162⟩ := h_15
        refine r_pop G 18 dX0_rest_18 ?_
        refine r_iinc G 19 dX0_rest_19 rfl (c_inc _) (Nat.le_of_ble_eq_true rfl) ?_
        refine r_goto G 22 2 dX0_rest_22 (by decide) ?_
        exact r_pick G [0, 1, 2] (ih (p + 1) σ_15 (by omega) (by omega) hI2 (h162.trans h16))
theorem wk_rest (G : xGood l R dC dI ad d RX0 cX0_rest 3 K) (hB : ∀ p M, xCallI cX0_rest K 119 2 1 (Pr_pg p M) (Po_bring p M)) {x : Int32} {M : Mm} {σ : Sg} (hI : Iv σ M []) (hR : xRetV cX0_rest K (Po_keep M [] σ)) : K 0 [(0, .inr 2), (1, .inl x)] [] σ := by
  refine r_iconst G 0 (nI 0) dX0_rest_0 (by decide) ?_
  refine r_istore_n G 1 dX0_rest_1 (Nat.le_of_ble_eq_true rfl) ?_
  exact r_pick G [0, 1, 2] (lp_rest G hB hR 13 0 σ (by omega) (by omega) hI rfl)
end FLUSH
abbrev rm_flush : Room := { frames := 3, cells := 0, slots := 0, locals := 76 }
theorem met_flush (l : Launch) (dC : Nat → ClassId) (dI : Nat → Nat → Nat) (ad : Nat → Nat) (d : ClassId) (x : Int32) (M : Mm) : xMetV l dC dI ad d yX0_flush cX0_flush 4 rm_flush 2 1 (Pr_S [x] M) (Po_keep M) :=
  xMetV_of RX0 rfl (by decide) (by decide) (fun K G xs σ _ hp hR => by
    obtain ⟨hp, h1⟩ := hp
    subst hp
    exact wk_flush G ((x_callI G (met_oldestPoolFrame l dC dI ad d) (lw_V q153 q155 qs15 q29 q156) xRec2 (by decide +kernel) rfl rfl ⟨Nat.le_of_ble_eq_true rfl, Nat.le_of_ble_eq_true rfl⟩)) (fun f M L => (x_callV G (met_writeBack l dC dI ad d f M L) (lw_V q157 q159 qs16 q29 q160) xRec2 (by decide +kernel) rfl rfl ⟨Nat.le_of_ble_eq_true rfl, Nat.le_of_ble_eq_true rfl⟩)) h1 hR)
abbrev rm_rest : Room := { frames := 6, cells := 0, slots := 0, locals := 145 }
theorem met_rest (l : Launch) (dC : Nat → ClassId) (dI : Nat → Nat → Nat) (ad : Nat → Nat) (d : ClassId) (x : Int32) (M : Mm) : xMetV l dC dI ad d yX0_rest cX0_rest 3 rm_rest 2 1 (Pr_S [x] M) (Po_keep M) :=
  xMetV_of RX0 rfl (by decide) (by decide) (fun K G xs σ _ hp hR => by
    obtain ⟨hp, h1⟩ := hp
    subst hp
    exact wk_rest G (fun p M => (x_callI G (met_bring l dC dI ad d p M) (lw_V q105 q107 qs3 q29 q108) xRec2 (by decide +kernel) rfl rfl ⟨Nat.le_of_ble_eq_true rfl, Nat.le_of_ble_eq_true rfl⟩)) h1 hR)
end
section
/-! claim, exchange -/
def clm (σ : Sg) (kd j p : Nat) : Sg := if kd = 0 then σ else sw_up σ (oa kd) j (nI p)
theorem clm_0 {σ : Sg} {j p : Nat} : clm σ 0 j p = σ := if_pos rfl
theorem clm_n {σ : Sg} {kd j p : Nat} (h : kd ≠ 0) : clm σ kd j p = sw_up σ (oa kd) j (nI p) := if_neg h
theorem clm_at {σ : Sg} {kd j p kd' j' : Nat} (h1 : 1 ≤ kd') (h3 : kd' ≤ 3) (k3 : kd ≤ 3) : clm σ kd j p (oa kd') j' = if kd = kd' ∧ j' = j then nI p else σ (oa kd') j' := by
  by_cases k0 : kd = 0
  · subst k0
    rw [clm_0, if_neg (fun g => by omega)]
  · rw [clm_n k0]
    by_cases e : kd = kd'
    · subst e
      by_cases z : j' = j
      · subst z
        rw [sw_up_s, if_pos ⟨rfl, rfl⟩]
      · rw [sw_up_o z, if_neg (fun g => z g.2)]
    · rw [sw_up_n (fun z => e (oa_inj h1 h3 (by omega) k3 z).symm), if_neg (fun g => e g.1)]
theorem clm_o {σ : Sg} {kd j p k : Nat} (k3 : kd ≤ 3) (h4 : k ≠ 4) (h7 : k ≠ 7) (h11 : k ≠ 11) : clm σ kd j p k = σ k := by
  rcases (show kd = 0 ∨ kd = 1 ∨ kd = 2 ∨ kd = 3 by omega) with rfl | rfl | rfl | rfl
  · rw [clm_0]
  · rw [clm_n (by decide)]; exact sw_up_n h4
  · rw [clm_n (by decide)]; exact sw_up_n h7
  · rw [clm_n (by decide)]; exact sw_up_n h11
def Pr_claim (p kd j : Nat) : List Int32 → Sg → Prop := fun xs σ => xs = [nI p] ∧ p < 12 ∧ kd ≤ 3 ∧ σ 0 p = nI kd ∧ (kd ≠ 0 → j < onum kd ∧ σ 1 p = nI j)
def Po_claim (p kd j : Nat) : List Int32 → Sg → Sg → Prop := fun _ σ σ' => σ' = clm σ kd j p
section CLAIM
variable {l : Launch} {R : Room} {dC : Nat → ClassId} {dI : Nat → Nat → Nat} {ad : Nat → Nat} {d : ClassId} {K : xK}
theorem wk_claim (G : xGood l R dC dI ad d RX0 cX0_claim 2 K) {p kd j : Nat} {σ : Sg} (hp : p < 12) (k3 : kd ≤ 3) (h0 : σ 0 p = nI kd) (hj : kd ≠ 0 → j < onum kd ∧ σ 1 p = nI j) (hR : xRetV cX0_claim K (Po_claim p kd j [] σ)) : K 0 [(0, .inr 2), (1, .inl (nI p))] [] σ := by
  rcases (show kd = 0 ∨ kd = 1 ∨ kd = 2 ∨ kd = 3 by omega) with rfl | rfl | rfl | rfl
  · skip
    refine r_aload G 0 dX0_claim_0 rfl ?_
    refine r_f0 G 1 dX0_claim_1 ?_
    refine r_iload_n G 4 dX0_claim_4 rfl ?_
    refine r_ald G 5 12 rfl dX0_claim_5 rfl (by omega) ?_
    rw [h0]
    refine r_iconst G 6 (nI 1) dX0_claim_6 (by decide) ?_
    refine b_ne G 7 25 dX0_claim_7 (by decide) (by omega) (by omega) (fun h_7 => ?_) (fun h_7 => absurd h_7 (by omega))
    refine r_aload G 25 dX0_claim_25 rfl ?_
    refine r_f0 G 26 dX0_claim_26 ?_
    refine r_iload_n G 29 dX0_claim_29 rfl ?_
    refine r_ald G 30 12 rfl dX0_claim_30 rfl (by omega) ?_
    rw [h0]
    refine r_iconst G 31 (nI 2) dX0_claim_31 (by decide) ?_
    refine b_ne G 32 50 dX0_claim_32 (by decide) (by omega) (by omega) (fun h_32 => ?_) (fun h_32 => absurd h_32 (by omega))
    refine r_aload G 50 dX0_claim_50 rfl ?_
    refine r_f0 G 51 dX0_claim_51 ?_
    refine r_iload_n G 54 dX0_claim_54 rfl ?_
    refine r_ald G 55 12 rfl dX0_claim_55 rfl (by omega) ?_
    rw [h0]
    refine r_iconst G 56 (nI 3) dX0_claim_56 (by decide) ?_
    refine b_ne G 57 72 dX0_claim_57 (by decide) (by omega) (by omega) (fun h_57 => ?_) (fun h_57 => absurd h_57 (by omega))
    exact hR 72 _ _ dX0_claim_72 (clm_0.symm)
  · obtain ⟨q3, q5⟩ := hj (by decide)
    refine r_aload G 0 dX0_claim_0 rfl ?_
    refine r_f0 G 1 dX0_claim_1 ?_
    refine r_iload_n G 4 dX0_claim_4 rfl ?_
    refine r_ald G 5 12 rfl dX0_claim_5 rfl (by omega) ?_
    rw [h0]
    refine r_iconst G 6 (nI 1) dX0_claim_6 (by decide) ?_
    refine b_ne G 7 25 dX0_claim_7 (by decide) (by omega) (by omega) (fun h_7 => absurd rfl h_7) (fun h_7 => ?_)
    refine r_aload G 10 dX0_claim_10 rfl ?_
    refine r_f4 G 11 dX0_claim_11 ?_
    refine r_aload G 14 dX0_claim_14 rfl ?_
    refine r_f1 G 15 dX0_claim_15 ?_
    refine r_iload_n G 18 dX0_claim_18 rfl ?_
    refine r_ald G 19 12 rfl dX0_claim_19 rfl (by omega) ?_
    rw [q5]
    refine r_iload_n G 20 dX0_claim_20 rfl ?_
    refine r_ast G 21 3 rfl dX0_claim_21 rfl q3 ?_
    refine r_goto G 22 72 dX0_claim_22 (by decide) ?_
    exact hR 72 _ _ dX0_claim_72 ((clm_n (kd := 1) (by decide)).symm)
  · obtain ⟨q3, q5⟩ := hj (by decide)
    refine r_aload G 0 dX0_claim_0 rfl ?_
    refine r_f0 G 1 dX0_claim_1 ?_
    refine r_iload_n G 4 dX0_claim_4 rfl ?_
    refine r_ald G 5 12 rfl dX0_claim_5 rfl (by omega) ?_
    rw [h0]
    refine r_iconst G 6 (nI 1) dX0_claim_6 (by decide) ?_
    refine b_ne G 7 25 dX0_claim_7 (by decide) (by omega) (by omega) (fun h_7 => ?_) (fun h_7 => absurd h_7 (by omega))
    refine r_aload G 25 dX0_claim_25 rfl ?_
    refine r_f0 G 26 dX0_claim_26 ?_
    refine r_iload_n G 29 dX0_claim_29 rfl ?_
    refine r_ald G 30 12 rfl dX0_claim_30 rfl (by omega) ?_
    rw [h0]
    refine r_iconst G 31 (nI 2) dX0_claim_31 (by decide) ?_
    refine b_ne G 32 50 dX0_claim_32 (by decide) (by omega) (by omega) (fun h_32 => absurd rfl h_32) (fun h_32 => ?_)
    refine r_aload G 35 dX0_claim_35 rfl ?_
    refine r_f7 G 36 dX0_claim_36 ?_
    refine r_aload G 39 dX0_claim_39 rfl ?_
    refine r_f1 G 40 dX0_claim_40 ?_
    refine r_iload_n G 43 dX0_claim_43 rfl ?_
    refine r_ald G 44 12 rfl dX0_claim_44 rfl (by omega) ?_
    rw [q5]
    refine r_iload_n G 45 dX0_claim_45 rfl ?_
    refine r_ast G 46 8 rfl dX0_claim_46 rfl q3 ?_
    refine r_goto G 47 72 dX0_claim_47 (by decide) ?_
    exact hR 72 _ _ dX0_claim_72 ((clm_n (kd := 2) (by decide)).symm)
  · obtain ⟨q3, q5⟩ := hj (by decide)
    refine r_aload G 0 dX0_claim_0 rfl ?_
    refine r_f0 G 1 dX0_claim_1 ?_
    refine r_iload_n G 4 dX0_claim_4 rfl ?_
    refine r_ald G 5 12 rfl dX0_claim_5 rfl (by omega) ?_
    rw [h0]
    refine r_iconst G 6 (nI 1) dX0_claim_6 (by decide) ?_
    refine b_ne G 7 25 dX0_claim_7 (by decide) (by omega) (by omega) (fun h_7 => ?_) (fun h_7 => absurd h_7 (by omega))
    refine r_aload G 25 dX0_claim_25 rfl ?_
    refine r_f0 G 26 dX0_claim_26 ?_
    refine r_iload_n G 29 dX0_claim_29 rfl ?_
    refine r_ald G 30 12 rfl dX0_claim_30 rfl (by omega) ?_
    rw [h0]
    refine r_iconst G 31 (nI 2) dX0_claim_31 (by decide) ?_
    refine b_ne G 32 50 dX0_claim_32 (by decide) (by omega) (by omega) (fun h_32 => ?_) (fun h_32 => absurd h_32 (by omega))
    refine r_aload G 50 dX0_claim_50 rfl ?_
    refine r_f0 G 51 dX0_claim_51 ?_
    refine r_iload_n G 54 dX0_claim_54 rfl ?_
    refine r_ald G 55 12 rfl dX0_claim_55 rfl (by omega) ?_
    rw [h0]
    refine r_iconst G 56 (nI 3) dX0_claim_56 (by decide) ?_
    refine b_ne G 57 72 dX0_claim_57 (by decide) (by omega) (by omega) (fun h_57 => absurd rfl h_57) (fun h_57 => ?_)
    refine r_aload G 60 dX0_claim_60 rfl ?_
    refine r_f11 G 61 dX0_claim_61 ?_
    refine r_aload G 64 dX0_claim_64 rfl ?_
    refine r_f1 G 65 dX0_claim_65 ?_
    refine r_iload_n G 68 dX0_claim_68 rfl ?_
    refine r_ald G 69 12 rfl dX0_claim_69 rfl (by omega) ?_
    rw [q5]
    refine r_iload_n G 70 dX0_claim_70 rfl ?_
    refine r_ast G 71 12 rfl dX0_claim_71 rfl q3 ?_
    exact hR 72 _ _ dX0_claim_72 ((clm_n (kd := 3) (by decide)).symm)
end CLAIM
theorem met_claim (l : Launch) (dC : Nat → ClassId) (dI : Nat → Nat → Nat) (ad : Nat → Nat) (d : ClassId) (p kd j : Nat) : xMetV l dC dI ad d yX0_claim cX0_claim 2 rmz 2 1 (Pr_claim p kd j) (Po_claim p kd j) :=
  xMetV_of RX0 rfl (by decide) (by decide) (fun K G xs σ _ hp hR => by
    obtain ⟨hp, h1, h2, h3, h4⟩ := hp
    subst hp; exact wk_claim G h1 h2 h3 h4 hR)
/-! two pages change names -/
def tau (p q r : Nat) : Nat := if r = p then q else if r = q then p else r
theorem tau_p {p q : Nat} : tau p q p = q := if_pos rfl
theorem tau_q {p q : Nat} : tau p q q = p := by
  unfold tau
  by_cases e : q = p
  · rw [if_pos e, e]
  · rw [if_neg e, if_pos rfl]
theorem tau_o {p q r : Nat} (h1 : r ≠ p) (h2 : r ≠ q) : tau p q r = r := by
  unfold tau
  rw [if_neg h1, if_neg h2]
theorem tau_t (p q r : Nat) : tau p q (tau p q r) = r := by
  by_cases e : r = p
  · rw [e, tau_p, tau_q]
  · by_cases z : r = q
    · rw [z, tau_q, tau_p]
    · rw [tau_o e z, tau_o e z]
theorem tau_lt {p q r : Nat} (hp : p < 12) (hq : q < 12) (hr : r < 12) : tau p q r < 12 := by
  unfold tau
  split
  · exact hq
  · split
    · exact hp
    · exact hr
theorem upd_sw (f : Nat → Int32) (p q r : Nat) : upd (upd f p (f q)) q (f p) r = f (tau p q r) := by
  by_cases e : r = q
  · rw [e, upd_s, tau_q]
  · rw [upd_o e]
    by_cases z : r = p
    · rw [z, upd_s, tau_p]
    · rw [upd_o z, tau_o z e]
theorem iv_perm {σ σ' : Sg} {M M' : Mm} {τ : Nat → Nat} (h : Iv σ M []) (ht : ∀ r, r < 12 → τ r < 12) (tt : ∀ r, τ (τ r) = r) (e0 : ∀ r, r < 12 → σ' 0 r = σ 0 (τ r)) (e1 : ∀ r, r < 12 → σ' 1 r = σ 1 (τ r)) (eo : ∀ kd j r, 1 ≤ kd → kd ≤ 3 → j < onum kd → r < 12 → σ (oa kd) j = nI r → σ' (oa kd) j = nI (τ r)) (en : ∀ kd j, 1 ≤ kd → kd ≤ 3 → j < onum kd → σ (oa kd) j = -1 → σ' (oa kd) j = -1) (e3 : σ' 3 = σ 3) (e6 : σ' 6 = σ 6) (e8 : σ' 8 = σ 8) (e10 : σ' 10 = σ 10) (hM : ∀ r, r < 12 → ∀ i, i < 16 → M' r i = M (τ r) i) : Iv σ' M' [] := by
  refine ⟨fun r hr _ => ?_, fun kd j h1 h3 hj => ?_, ?_⟩
  · rcases h.1 (τ r) (ht r hr) List.not_mem_nil with ⟨q1, q2⟩ | ⟨kd, j, q1, q2, q3, q4, q5, q6, q7⟩
    · exact Or.inl ⟨by rw [e0 r hr]; exact q1, fun i hi => by rw [hM r hr i hi]; exact q2 i hi⟩
    · exact Or.inr ⟨kd, j, q1, q2, q3, by rw [e0 r hr]; exact q4, by rw [e1 r hr]; exact q5, by rw [eo kd j (τ r) q1 q2 q3 (ht r hr) q6, tt], cont_X (cont_eq q7 e3 e6 e8 e10) (hM r hr)⟩
  · rcases h.2.1 kd j h1 h3 hj with g | ⟨r, g1, g2, g3, g4, g5⟩
    · exact Or.inl (en kd j h1 h3 hj g)
    · exact Or.inr ⟨τ r, ht r g1, List.not_mem_nil, eo kd j r h1 h3 hj g1 g3, by rw [e0 _ (ht r g1), tt]; exact g4, by rw [e1 _ (ht r g1), tt]; exact g5⟩
  · intro g hg n0 n1
    rw [e8]
    exact h.2.2 g hg (fun z => n0 (en 2 (g * 2) (by decide) (by decide) (show g * 2 < 8 by omega) z)) (fun z => n1 (en 2 (g * 2 + 1) (by decide) (by decide) (show g * 2 + 1 < 8 by omega) z))
/-- where a page is -/
theorem iv_wh {σ : Sg} {M : Mm} {p : Nat} (h : Iv σ M []) (hp : p < 12) : ∃ kd j, kd ≤ 3 ∧ σ 0 p = nI kd ∧ (kd ≠ 0 → j < onum kd ∧ σ 1 p = nI j ∧ σ (oa kd) j = nI p) := by
  rcases h.1 p hp List.not_mem_nil with ⟨q1, q2⟩ | ⟨kd, j, q1, q2, q3, q4, q5, q6, q7⟩
  · exact ⟨0, 0, by decide, q1, fun z => absurd rfl z⟩
  · exact ⟨kd, j, q2, q4, fun _ => ⟨q3, q5, q6⟩⟩
def exs (σ : Sg) (p q : Nat) : Sg := sw_up (sw_up (sw_up (sw_up σ 0 p (σ 0 q)) 1 p (σ 1 q)) 0 q (σ 0 p)) 1 q (σ 1 p)
theorem exs_0 (σ : Sg) (p q r : Nat) : exs σ p q 0 r = σ 0 (tau p q r) := upd_sw (σ 0) p q r
theorem exs_1 (σ : Sg) (p q r : Nat) : exs σ p q 1 r = σ 1 (tau p q r) := upd_sw (σ 1) p q r
theorem exs_n {σ : Sg} {p q k : Nat} (h0 : k ≠ 0) (h1 : k ≠ 1) : exs σ p q k = σ k := (sw_up_n h1).trans ((sw_up_n h0).trans ((sw_up_n h1).trans (sw_up_n h0)))
theorem iv_exch {σ : Sg} {M : Mm} {p q kp jp kq jq : Nat} (h : Iv σ M []) (hp : p < 12) (hq : q < 12) (kp3 : kp ≤ 3) (p0 : σ 0 p = nI kp) (p1 : kp ≠ 0 → jp < onum kp ∧ σ 1 p = nI jp ∧ σ (oa kp) jp = nI p) (kq3 : kq ≤ 3) (q0 : σ 0 q = nI kq) (q1 : kq ≠ 0 → jq < onum kq ∧ σ 1 q = nI jq ∧ σ (oa kq) jq = nI q) : Iv (clm (clm (exs σ p q) kq jq p) kp jp q) (setR (setR M p (M q)) q (M p)) [] := by
  have eA : ∀ kd j, 1 ≤ kd → kd ≤ 3 → clm (clm (exs σ p q) kq jq p) kp jp q (oa kd) j = if kp = kd ∧ j = jp then nI q else if kq = kd ∧ j = jq then nI p else σ (oa kd) j := by
    intro kd j g1 g3
    rw [clm_at g1 g3 kp3, clm_at g1 g3 kq3, exs_n (oa_ne g1 g3).1 (oa_ne g1 g3).2.1]
  have eK : ∀ k, k ≠ 4 → k ≠ 7 → k ≠ 11 → clm (clm (exs σ p q) kq jq p) kp jp q k = exs σ p q k := fun k a b c => (clm_o kp3 a b c).trans (clm_o kq3 a b c)
  refine iv_perm (τ := tau p q) h (fun r hr => tau_lt hp hq hr) (tau_t p q) (fun r _ => by rw [eK 0 (by decide) (by decide) (by decide)]; exact exs_0 σ p q r) (fun r _ => by rw [eK 1 (by decide) (by decide) (by decide)]; exact exs_1 σ p q r) ?_ ?_ ((eK 3 (by decide) (by decide) (by decide)).trans (exs_n (by decide) (by decide))) ((eK 6 (by decide) (by decide) (by decide)).trans (exs_n (by decide) (by decide))) ((eK 8 (by decide) (by decide) (by decide)).trans (exs_n (by decide) (by decide))) ((eK 10 (by decide) (by decide) (by decide)).trans (exs_n (by decide) (by decide))) ?_
  · intro kd j r g1 g3 gj gr er
    rw [eA kd j g1 g3]
    have hw : σ 0 r = nI kd ∧ σ 1 r = nI j := by
      rcases h.2.1 kd j g1 g3 gj with z | ⟨r', z1, z2, z3, z4, z5⟩
      · rw [z] at er; exact absurd er.symm (nI_nm1 (by omega))
      · rw [er] at z3
        have e := nI_inj (by omega) (by omega) z3
        subst e
        exact ⟨z4, z5⟩
    have hon := onum_le g1 g3
    by_cases a : kp = kd ∧ j = jp
    · rw [if_pos a]
      obtain ⟨a1, a2⟩ := a
      subst a1; subst a2
      have e := (p1 (by omega)).2.2
      rw [er] at e
      have e := nI_inj (by omega) (by omega) e
      rw [e, tau_p]
    · rw [if_neg a]
      by_cases b : kq = kd ∧ j = jq
      · rw [if_pos b]
        obtain ⟨b1, b2⟩ := b
        subst b1; subst b2
        have e := (q1 (by omega)).2.2
        rw [er] at e
        have e := nI_inj (by omega) (by omega) e
        rw [e, tau_q]
      · rw [if_neg b, er, tau_o (fun z => a ?_) (fun z => b ?_)]
        · subst z
          have e1 := nI_inj (by omega) (by omega) (p0.symm.trans hw.1)
          have e2 := p1 (by omega)
          have e3 := onum_le (show 1 ≤ kp by omega) kp3
          exact ⟨e1, (nI_inj (by omega) (by omega) (e2.2.1.symm.trans hw.2)).symm⟩
        · subst z
          have e1 := nI_inj (by omega) (by omega) (q0.symm.trans hw.1)
          have e2 := q1 (by omega)
          have e3 := onum_le (show 1 ≤ kq by omega) kq3
          exact ⟨e1, (nI_inj (by omega) (by omega) (e2.2.1.symm.trans hw.2)).symm⟩
  · intro kd j g1 g3 gj er
    rw [eA kd j g1 g3]
    rw [if_neg (fun a => ?_), if_neg (fun a => ?_)]
    · exact er
    · obtain ⟨a1, a2⟩ := a
      subst a1; subst a2
      have e := (q1 (by omega)).2.2
      rw [er] at e
      exact nI_nm1 (by omega) e.symm
    · obtain ⟨a1, a2⟩ := a
      subst a1; subst a2
      have e := (p1 (by omega)).2.2
      rw [er] at e
      exact nI_nm1 (by omega) e.symm
  · intro r hr i hi
    by_cases e : r = q
    · rw [e, setR_s, tau_q]
    · rw [setR_o e]
      by_cases z : r = p
      · rw [z, setR_s, tau_p]
      · rw [setR_o z, tau_o z e]
section EXCH
variable {l : Launch} {R : Room} {dC : Nat → ClassId} {dI : Nat → Nat → Nat} {ad : Nat → Nat} {d : ClassId} {K : xK}
theorem wk_exchange (G : xGood l R dC dI ad d RX0 cX0_exchange 5 K) (h122 : ∀ x, xCallI cX0_exchange K 122 2 1 (Pr_1 x) (Po_chk 12 x)) (hC : ∀ p kd j, xCallV cX0_exchange K 134 2 1 (Pr_claim p kd j) (Po_claim p kd j)) {x y : Int32} {M : Mm} {σ : Sg} (hI : Iv σ M []) (hR : xRetI cX0_exchange K (Po_S (S_exchange x y) M [] σ)) : K 0 [(0, .inr 2), (1, .inl x), (2, .inl y)] [] σ := by
  refine r_aload G 0 dX0_exchange_0 rfl ?_
  refine r_iload_n G 1 dX0_exchange_1 rfl ?_
  refine c_I1 (h122 x) 2 dX0_exchange_2 (Nat.le_of_ble_eq_true rfl) rfl (fun r_2 σ_2 h_2 => ?_)
  obtain ⟨hs2, hb2⟩ := h_2
  rw [hs2]
  refine r_if_ne G 5 16 dX0_exchange_5 (by decide) (fun h_5 => ?_) (fun h_5 => ?_)
  · refine r_iconst G 16 (-1) dX0_exchange_16 (by decide) ?_
    exact hR 17 _ _ _ dX0_exchange_17 (⟨M, S1_bad (nb1 (chk_bad hb2 h_5)), hI, rfl⟩)
  · refine r_aload G 8 dX0_exchange_8 rfl ?_
    refine r_iload_n G 9 dX0_exchange_9 rfl ?_
    refine c_I1 (h122 y) 10 dX0_exchange_10 (Nat.le_of_ble_eq_true rfl) rfl (fun r_10 σ_10 h_10 => ?_)
    obtain ⟨hs10, hb10⟩ := h_10
    rw [hs10]
    refine r_if_eq G 13 18 dX0_exchange_13 (by decide) (fun h_13 => ?_) (fun h_13 => ?_)
    · obtain ⟨p, hp, ex⟩ := chk_ok hb2 h_5
      obtain ⟨q, hq, ey⟩ := chk_ok hb10 h_13
      subst ex; subst ey
      obtain ⟨kp, jp, kp3, p0, p1⟩ := iv_wh hI hp
      obtain ⟨kq, jq, kq3, q0, q1⟩ := iv_wh hI hq
      refine r_aload G 18 dX0_exchange_18 rfl ?_
      refine r_f0 G 19 dX0_exchange_19 ?_
      refine r_iload_n G 22 dX0_exchange_22 rfl ?_
      refine r_ald G 23 12 rfl dX0_exchange_23 rfl (by omega) ?_
      refine r_istore_n G 24 dX0_exchange_24 (Nat.le_of_ble_eq_true rfl) ?_
      refine r_aload G 25 dX0_exchange_25 rfl ?_
      refine r_f1 G 26 dX0_exchange_26 ?_
      refine r_iload_n G 29 dX0_exchange_29 rfl ?_
      refine r_ald G 30 12 rfl dX0_exchange_30 rfl (by omega) ?_
      refine r_istore G 31 dX0_exchange_31 (Nat.le_of_ble_eq_true rfl) ?_
      refine r_aload G 33 dX0_exchange_33 rfl ?_
      refine r_f0 G 34 dX0_exchange_34 ?_
      refine r_iload_n G 37 dX0_exchange_37 rfl ?_
      refine r_aload G 38 dX0_exchange_38 rfl ?_
      refine r_f0 G 39 dX0_exchange_39 ?_
      refine r_iload_n G 42 dX0_exchange_42 rfl ?_
      refine r_ald G 43 12 rfl dX0_exchange_43 rfl (by omega) ?_
      refine r_ast G 44 12 rfl dX0_exchange_44 rfl (by omega) ?_
      refine r_aload G 45 dX0_exchange_45 rfl ?_
      refine r_f1 G 46 dX0_exchange_46 ?_
      refine r_iload_n G 49 dX0_exchange_49 rfl ?_
      refine r_aload G 50 dX0_exchange_50 rfl ?_
      refine r_f1 G 51 dX0_exchange_51 ?_
      refine r_iload_n G 54 dX0_exchange_54 rfl ?_
      refine r_ald G 55 12 rfl dX0_exchange_55 rfl (by omega) ?_
      refine r_ast G 56 12 rfl dX0_exchange_56 rfl (by omega) ?_
      refine r_aload G 57 dX0_exchange_57 rfl ?_
      refine r_f0 G 58 dX0_exchange_58 ?_
      refine r_iload_n G 61 dX0_exchange_61 rfl ?_
      refine r_iload_n G 62 dX0_exchange_62 rfl ?_
      refine r_ast G 63 12 rfl dX0_exchange_63 rfl (by omega) ?_
      refine r_aload G 64 dX0_exchange_64 rfl ?_
      refine r_f1 G 65 dX0_exchange_65 ?_
      refine r_iload_n G 68 dX0_exchange_68 rfl ?_
      refine r_iload G 69 dX0_exchange_69 rfl ?_
      refine r_ast G 71 12 rfl dX0_exchange_71 rfl (by omega) ?_
      refine r_aload G 72 dX0_exchange_72 rfl ?_
      refine r_iload_n G 73 dX0_exchange_73 rfl ?_
      refine c_V1 (hC p kq jq) 74 dX0_exchange_74 (Nat.le_of_ble_eq_true rfl) ⟨rfl, hp, kq3, (exs_0 σ p q p).trans (by rw [tau_p]; exact q0), fun z => ⟨(q1 z).1, (exs_1 σ p q p).trans (by rw [tau_p]; exact (q1 z).2.1)⟩⟩ (fun σ_74 h_74 => ?_)
      obtain rfl : σ_74 = clm (exs σ p q) kq jq p := h_74
      refine r_aload G 77 dX0_exchange_77 rfl ?_
      refine r_iload_n G 78 dX0_exchange_78 rfl ?_
      refine c_V1 (hC q kp jp) 79 dX0_exchange_79 (Nat.le_of_ble_eq_true rfl) ⟨rfl, hq, kp3, by rw [clm_o kq3 (by decide) (by decide) (by decide), exs_0, tau_q]; exact p0, fun z => ⟨(p1 z).1, by rw [clm_o kq3 (by decide) (by decide) (by decide), exs_1, tau_q]; exact (p1 z).2.1⟩⟩ (fun σ_79 h_79 => ?_)
      obtain rfl : σ_79 = clm (clm (exs σ p q) kq jq p) kp jp q := h_79
      refine r_iconst G 82 (nI 0) dX0_exchange_82 (by decide) ?_
      exact hR 83 _ _ _ dX0_exchange_83 (⟨_, Or.inr ⟨p, q, 0, 0, ⟨hp, hq, by decide, by decide, rfl, rfl, rfl, rfl, trivial⟩, rfl, rfl⟩, iv_exch hI hp hq kp3 p0 p1 kq3 q0 q1, (clm_o kp3 (by decide) (by decide) (by decide)).trans ((clm_o kq3 (by decide) (by decide) (by decide)).trans (exs_n (by decide) (by decide)))⟩)
    · refine r_iconst G 16 (-1) dX0_exchange_16 (by decide) ?_
      exact hR 17 _ _ _ dX0_exchange_17 (⟨M, S1_bad (nb2 (chk_bad hb10 h_13)), hI, rfl⟩)
end EXCH
abbrev rm_exchange : Room := { frames := 1, cells := 0, slots := 0, locals := 21 }
theorem met_exchange (l : Launch) (dC : Nat → ClassId) (dI : Nat → Nat → Nat) (ad : Nat → Nat) (d : ClassId) (x y : Int32) (M : Mm) : xMetI l dC dI ad d yX0_exchange cX0_exchange 5 (some .int) rm_exchange 2 2 (Pr_S [x, y] M) (Po_S (S_exchange x y) M) :=
  xMetI_of RX0 rfl (by decide) (by decide) (fun K G xs σ _ hp hR => by
    obtain ⟨hp, h1⟩ := hp
    subst hp
    exact wk_exchange G (fun x => (x_callI G (met_badPage l dC dI ad d x) (lw_V q93 q95 qs0 q29 q96) xRec2 (by decide +kernel) rfl rfl ⟨Nat.le_of_ble_eq_true rfl, Nat.le_of_ble_eq_true rfl⟩)) (fun p kd j => (x_callV G (met_claim l dC dI ad d p kd j) (lw_V q201 q203 qs23 q29 q204) xRec2 (by decide +kernel) rfl rfl ⟨Nat.le_of_ble_eq_true rfl, Nat.le_of_ble_eq_true rfl⟩)) h1 hR)
end
section
/-! THE MODEL: its methods, printed by gen40.py -/
def Po_is (n : Nat) (x : Int32) : List Int32 → Sg → Int32 → Sg → Prop := fun _ σ r σ' => σ' = σ ∧ ((r = 0 ∧ ¬ inN n x) ∨ (r = 1 ∧ inN n x))
theorem is_bad {n : Nat} {x r : Int32} (h : (r = 0 ∧ ¬ inN n x) ∨ (r = 1 ∧ inN n x)) (hr : r = 0) : ¬ inN n x := by
  rcases h with h | h
  · exact h.2
  · rw [h.1] at hr; exact absurd hr (by decide)
theorem is_ok {n : Nat} {x r : Int32} (h : (r = 0 ∧ ¬ inN n x) ∨ (r = 1 ∧ inN n x)) (hr : ¬ r = 0) : inN n x := by
  rcases h with h | h
  · exact absurd h.1 hr
  · exact h.2
theorem is_z {n : Nat} {x : Int32} (xs : List Int32) (σ : Sg) (r : Int32) (σ' : Sg) (h : Po_is n x xs σ r σ') : r = 0 ∨ r = 1 := by
  rcases h.2 with g | g
  · exact Or.inl g.1
  · exact Or.inr g.1
section MCHK
variable {l : Launch} {R : Room} {dC : Nat → ClassId} {dI : Nat → Nat → Nat} {ad : Nat → Nat} {d : ClassId} {K : xK}
theorem wm_isPage (G : xGood l R dC dI ad d RX1 cX1_isPage 2 K) (x : Int32) (σ : Sg) (hR : xRetI cX1_isPage K (Po_is 12 x [] σ)) : K 0 [(0, .inr 13), (1, .inl x)] [] σ := by
  refine r_iload_n G 0 dX1_isPage_0 rfl ?_
  refine r_if_lt G 1 14 dX1_isPage_1 (by decide) (fun h_1 => ?_) (fun h_1 => ?_)
  · refine r_iconst G 14 (nI 0) dX1_isPage_14 (by decide) ?_
    exact hR 15 _ _ _ dX1_isPage_15 (⟨rfl, Or.inl ⟨rfl, inN_neg h_1 (by decide)⟩⟩)
  · refine r_iload_n G 4 dX1_isPage_4 rfl ?_
    refine r_bipush G 5 (nI 11) dX1_isPage_5 (by decide) ?_
    refine r_icmp_gt G 7 14 dX1_isPage_7 (by decide) (fun h_7 => ?_) (fun h_7 => ?_)
    · refine r_iconst G 14 (nI 0) dX1_isPage_14 (by decide) ?_
      exact hR 15 _ _ _ dX1_isPage_15 (⟨rfl, Or.inl ⟨rfl, inN_bigL (n := 11) (by decide) (Int32.not_le.mpr h_7)⟩⟩)
    · refine r_iconst G 10 (nI 1) dX1_isPage_10 (by decide) ?_
      refine r_goto G 11 15 dX1_isPage_11 (by decide) ?_
      exact hR 15 _ _ _ dX1_isPage_15 (⟨rfl, Or.inr ⟨rfl, inN_ofL (n := 11) (by decide) h_1 (Int32.not_lt.mp h_7)⟩⟩)
theorem wm_isPlace (G : xGood l R dC dI ad d RX1 cX1_isPlace 2 K) (x : Int32) (σ : Sg) (hR : xRetI cX1_isPlace K (Po_is 16 x [] σ)) : K 0 [(0, .inr 13), (1, .inl x)] [] σ := by
  refine r_iload_n G 0 dX1_isPlace_0 rfl ?_
  refine r_if_lt G 1 14 dX1_isPlace_1 (by decide) (fun h_1 => ?_) (fun h_1 => ?_)
  · refine r_iconst G 14 (nI 0) dX1_isPlace_14 (by decide) ?_
    exact hR 15 _ _ _ dX1_isPlace_15 (⟨rfl, Or.inl ⟨rfl, inN_neg h_1 (by decide)⟩⟩)
  · refine r_iload_n G 4 dX1_isPlace_4 rfl ?_
    refine r_bipush G 5 (nI 15) dX1_isPlace_5 (by decide) ?_
    refine r_icmp_gt G 7 14 dX1_isPlace_7 (by decide) (fun h_7 => ?_) (fun h_7 => ?_)
    · refine r_iconst G 14 (nI 0) dX1_isPlace_14 (by decide) ?_
      exact hR 15 _ _ _ dX1_isPlace_15 (⟨rfl, Or.inl ⟨rfl, inN_bigL (n := 15) (by decide) (Int32.not_le.mpr h_7)⟩⟩)
    · refine r_iconst G 10 (nI 1) dX1_isPlace_10 (by decide) ?_
      refine r_goto G 11 15 dX1_isPlace_11 (by decide) ?_
      exact hR 15 _ _ _ dX1_isPlace_15 (⟨rfl, Or.inr ⟨rfl, inN_ofL (n := 15) (by decide) h_1 (Int32.not_lt.mp h_7)⟩⟩)
theorem wm_isByte (G : xGood l R dC dI ad d RX1 cX1_isByte 2 K) (x : Int32) (σ : Sg) (hR : xRetI cX1_isByte K (Po_is 256 x [] σ)) : K 0 [(0, .inr 13), (1, .inl x)] [] σ := by
  refine r_iload_n G 0 dX1_isByte_0 rfl ?_
  refine r_if_lt G 1 15 dX1_isByte_1 (by decide) (fun h_1 => ?_) (fun h_1 => ?_)
  · refine r_iconst G 15 (nI 0) dX1_isByte_15 (by decide) ?_
    exact hR 16 _ _ _ dX1_isByte_16 (⟨rfl, Or.inl ⟨rfl, inN_neg h_1 (by decide)⟩⟩)
  · refine r_iload_n G 4 dX1_isByte_4 rfl ?_
    refine r_sipush G 5 (nI 255) dX1_isByte_5 (by decide) ?_
    refine r_icmp_gt G 8 15 dX1_isByte_8 (by decide) (fun h_8 => ?_) (fun h_8 => ?_)
    · refine r_iconst G 15 (nI 0) dX1_isByte_15 (by decide) ?_
      exact hR 16 _ _ _ dX1_isByte_16 (⟨rfl, Or.inl ⟨rfl, inN_bigL (n := 255) (by decide) (Int32.not_le.mpr h_8)⟩⟩)
    · refine r_iconst G 11 (nI 1) dX1_isByte_11 (by decide) ?_
      refine r_goto G 12 16 dX1_isByte_12 (by decide) ?_
      exact hR 16 _ _ _ dX1_isByte_16 (⟨rfl, Or.inr ⟨rfl, inN_ofL (n := 255) (by decide) h_1 (Int32.not_lt.mp h_8)⟩⟩)
end MCHK
theorem mm_isPage (l : Launch) (dC : Nat → ClassId) (dI : Nat → Nat → Nat) (ad : Nat → Nat) (d : ClassId) (x : Int32) : xMetI l dC dI ad d yX1_isPage cX1_isPage 2 (some .boolean) rmz 13 1 (Pr_1 x) (Po_is 12 x) :=
  xMetZ_of RX1 rfl (by decide) (by decide) is_z (fun K G xs σ _ hp hR => by
    have hp : xs = [x] := hp
    subst hp; exact wm_isPage G x σ hR)
theorem mm_isPlace (l : Launch) (dC : Nat → ClassId) (dI : Nat → Nat → Nat) (ad : Nat → Nat) (d : ClassId) (x : Int32) : xMetI l dC dI ad d yX1_isPlace cX1_isPlace 2 (some .boolean) rmz 13 1 (Pr_1 x) (Po_is 16 x) :=
  xMetZ_of RX1 rfl (by decide) (by decide) is_z (fun K G xs σ _ hp hR => by
    have hp : xs = [x] := hp
    subst hp; exact wm_isPlace G x σ hR)
theorem mm_isByte (l : Launch) (dC : Nat → ClassId) (dI : Nat → Nat → Nat) (ad : Nat → Nat) (d : ClassId) (x : Int32) : xMetI l dC dI ad d yX1_isByte cX1_isByte 2 (some .boolean) rmz 13 1 (Pr_1 x) (Po_is 256 x) :=
  xMetZ_of RX1 rfl (by decide) (by decide) is_z (fun K G xs σ _ hp hR => by
    have hp : xs = [x] := hp
    subst hp; exact wm_isByte G x σ hR)
section MWRITE
variable {l : Launch} {R : Room} {dC : Nat → ClassId} {dI : Nat → Nat → Nat} {ad : Nat → Nat} {d : ClassId} {K : xK}
theorem wm_write (G : xGood l R dC dI ad d RX1 cX1_write 5 K) (h13 : ∀ x, xCallI cX1_write K 13 13 1 (Pr_1 x) (Po_is 12 x)) (h17 : ∀ x, xCallI cX1_write K 17 13 1 (Pr_1 x) (Po_is 16 x)) (h20 : ∀ x, xCallI cX1_write K 20 13 1 (Pr_1 x) (Po_is 256 x)) {x y z : Int32} {M : Mm} {σ : Sg} (hm : mem σ M) (hby : BY M) (hR : xRetI cX1_write K (Po_M (S_write x y z) M [] σ)) : K 0 [(0, .inr 13), (1, .inl x), (2, .inl y), (3, .inl z)] [] σ := by
  refine r_aload G 0 dX1_write_0 rfl ?_
  refine r_iload_n G 1 dX1_write_1 rfl ?_
  refine c_I1 (h13 x) 2 dX1_write_2 (Nat.le_of_ble_eq_true rfl) rfl (fun r_2 σ_2 h_2 => ?_)
  obtain ⟨hs2, hb2⟩ := h_2
  rw [hs2]
  refine r_if_eq G 5 24 dX1_write_5 (by decide) (fun h_5 => ?_) (fun h_5 => ?_)
  · refine r_iconst G 24 (-1) dX1_write_24 (by decide) ?_
    exact hR 25 _ _ _ dX1_write_25 (⟨M, S1_bad (nb1 (is_bad hb2 h_5)), hm, fun _ _ => rfl⟩)
  · refine r_aload G 8 dX1_write_8 rfl ?_
    refine r_iload_n G 9 dX1_write_9 rfl ?_
    refine c_I1 (h17 y) 10 dX1_write_10 (Nat.le_of_ble_eq_true rfl) rfl (fun r_10 σ_10 h_10 => ?_)
    obtain ⟨hs10, hb10⟩ := h_10
    rw [hs10]
    refine r_if_eq G 13 24 dX1_write_13 (by decide) (fun h_13 => ?_) (fun h_13 => ?_)
    · refine r_iconst G 24 (-1) dX1_write_24 (by decide) ?_
      exact hR 25 _ _ _ dX1_write_25 (⟨M, S1_bad (nb2 (is_bad hb10 h_13)), hm, fun _ _ => rfl⟩)
    · refine r_aload G 16 dX1_write_16 rfl ?_
      refine r_iload_n G 17 dX1_write_17 rfl ?_
      refine c_I1 (h20 z) 18 dX1_write_18 (Nat.le_of_ble_eq_true rfl) rfl (fun r_18 σ_18 h_18 => ?_)
      obtain ⟨hs18, hb18⟩ := h_18
      rw [hs18]
      refine r_if_ne G 21 26 dX1_write_21 (by decide) (fun h_21 => ?_) (fun h_21 => ?_)
      · obtain ⟨p, hp, ex⟩ := is_ok hb2 h_5
        obtain ⟨j, hj, ey⟩ := is_ok hb10 h_13
        obtain ⟨v, hv, ez⟩ := is_ok hb18 h_21
        subst ex; subst ey; subst ez
        refine r_aload G 26 dX1_write_26 rfl ?_
        refine r_f16 G 27 dX1_write_27 ?_
        refine r_bipush G 30 (nI 16) dX1_write_30 (by decide) ?_
        refine r_iload_n G 32 dX1_write_32 rfl ?_
        refine r_imul G 33 dX1_write_33 (pk_mul _ _) ?_
        refine r_iload_n G 34 dX1_write_34 rfl ?_
        refine r_iadd G 35 dX1_write_35 (nI_add _ _) ?_
        refine r_ald G 36 192 rfl dX1_write_36 rfl (by omega) ?_
        refine r_istore G 37 dX1_write_37 (Nat.le_of_ble_eq_true rfl) ?_
        refine r_aload G 39 dX1_write_39 rfl ?_
        refine r_f16 G 40 dX1_write_40 ?_
        refine r_bipush G 43 (nI 16) dX1_write_43 (by decide) ?_
        refine r_iload_n G 45 dX1_write_45 rfl ?_
        refine r_imul G 46 dX1_write_46 (pk_mul _ _) ?_
        refine r_iload_n G 47 dX1_write_47 rfl ?_
        refine r_iadd G 48 dX1_write_48 (nI_add _ _) ?_
        refine r_iload_n G 49 dX1_write_49 rfl ?_
        refine r_ast G 50 192 rfl dX1_write_50 rfl (by omega) ?_
        refine r_iload G 51 dX1_write_51 rfl ?_
        exact hR 53 _ _ _ dX1_write_53 (⟨setR M p (upd (M p) j (nI v)), Or.inr ⟨p, j, v, 0, ⟨hp, hj, hv, by decide, rfl, rfl, rfl, rfl, trivial⟩, hm p hp j hj, rfl⟩, mem_row hm hp (fun t ht => sw_up_o (by omega)) (fun i hi => by by_cases e : i = j; rw [e, sw_up_s, upd_s]; rw [sw_up_o (by omega), upd_o e]; exact hm p hp i hi), fun a ha => sw_up_n ha⟩)
      · refine r_iconst G 24 (-1) dX1_write_24 (by decide) ?_
        exact hR 25 _ _ _ dX1_write_25 (⟨M, S1_bad (nb3 (is_bad hb18 h_21)), hm, fun _ _ => rfl⟩)
end MWRITE
abbrev rn_write : Room := { frames := 1, cells := 0, slots := 0, locals := 21 }
theorem mm_write (l : Launch) (dC : Nat → ClassId) (dI : Nat → Nat → Nat) (ad : Nat → Nat) (d : ClassId) (x y z : Int32) (M : Mm) : xMetI l dC dI ad d yX1_write cX1_write 5 (some .int) rn_write 13 3 (Pr_M [x, y, z] M) (Po_M (S_write x y z) M) :=
  xMetI_of RX1 rfl (by decide) (by decide) (fun K G xs σ _ hp hR => by
    obtain ⟨hp, h1, h2⟩ := hp
    subst hp
    exact wm_write G (fun x => (x_callI G (mm_isPage l dC dI ad d x) (lw_V q267 q269 qs25 q30 q270) xRec13 (by decide +kernel) rfl rfl ⟨Nat.le_of_ble_eq_true rfl, Nat.le_of_ble_eq_true rfl⟩)) (fun x => (x_callI G (mm_isPlace l dC dI ad d x) (lw_V q271 q273 qs26 q30 q274) xRec13 (by decide +kernel) rfl rfl ⟨Nat.le_of_ble_eq_true rfl, Nat.le_of_ble_eq_true rfl⟩)) (fun x => (x_callI G (mm_isByte l dC dI ad d x) (lw_V q275 q277 qs27 q30 q278) xRec13 (by decide +kernel) rfl rfl ⟨Nat.le_of_ble_eq_true rfl, Nat.le_of_ble_eq_true rfl⟩)) h1 h2 hR)
section MREAD
variable {l : Launch} {R : Room} {dC : Nat → ClassId} {dI : Nat → Nat → Nat} {ad : Nat → Nat} {d : ClassId} {K : xK}
theorem wm_read (G : xGood l R dC dI ad d RX1 cX1_read 3 K) (h13 : ∀ x, xCallI cX1_read K 13 13 1 (Pr_1 x) (Po_is 12 x)) (h17 : ∀ x, xCallI cX1_read K 17 13 1 (Pr_1 x) (Po_is 16 x)) {x y : Int32} {M : Mm} {σ : Sg} (hm : mem σ M) (hby : BY M) (hR : xRetI cX1_read K (Po_M (S_read x y) M [] σ)) : K 0 [(0, .inr 13), (1, .inl x), (2, .inl y)] [] σ := by
  refine r_aload G 0 dX1_read_0 rfl ?_
  refine r_iload_n G 1 dX1_read_1 rfl ?_
  refine c_I1 (h13 x) 2 dX1_read_2 (Nat.le_of_ble_eq_true rfl) rfl (fun r_2 σ_2 h_2 => ?_)
  obtain ⟨hs2, hb2⟩ := h_2
  rw [hs2]
  refine r_if_eq G 5 30 dX1_read_5 (by decide) (fun h_5 => ?_) (fun h_5 => ?_)
  · refine r_iconst G 30 (-1) dX1_read_30 (by decide) ?_
    exact hR 31 _ _ _ dX1_read_31 (⟨M, S1_bad (nb1 (is_bad hb2 h_5)), hm, fun _ _ => rfl⟩)
  · refine r_aload G 8 dX1_read_8 rfl ?_
    refine r_iload_n G 9 dX1_read_9 rfl ?_
    refine c_I1 (h17 y) 10 dX1_read_10 (Nat.le_of_ble_eq_true rfl) rfl (fun r_10 σ_10 h_10 => ?_)
    obtain ⟨hs10, hb10⟩ := h_10
    rw [hs10]
    refine r_if_eq G 13 30 dX1_read_13 (by decide) (fun h_13 => ?_) (fun h_13 => ?_)
    · refine r_iconst G 30 (-1) dX1_read_30 (by decide) ?_
      exact hR 31 _ _ _ dX1_read_31 (⟨M, S1_bad (nb2 (is_bad hb10 h_13)), hm, fun _ _ => rfl⟩)
    · obtain ⟨p, hp, ex⟩ := is_ok hb2 h_5
      obtain ⟨j, hj, ey⟩ := is_ok hb10 h_13
      subst ex; subst ey
      refine r_aload G 16 dX1_read_16 rfl ?_
      refine r_f16 G 17 dX1_read_17 ?_
      refine r_bipush G 20 (nI 16) dX1_read_20 (by decide) ?_
      refine r_iload_n G 22 dX1_read_22 rfl ?_
      refine r_imul G 23 dX1_read_23 (pk_mul _ _) ?_
      refine r_iload_n G 24 dX1_read_24 rfl ?_
      refine r_iadd G 25 dX1_read_25 (nI_add _ _) ?_
      refine r_ald G 26 192 rfl dX1_read_26 rfl (by omega) ?_
      refine r_goto G 27 31 dX1_read_27 (by decide) ?_
      exact hR 31 _ _ _ dX1_read_31 (⟨M, Or.inr ⟨p, j, 0, 0, ⟨hp, hj, by decide, by decide, rfl, rfl, rfl, rfl, trivial⟩, hm p hp j hj, rfl⟩, hm, fun _ _ => rfl⟩)
end MREAD
abbrev rn_read : Room := { frames := 1, cells := 0, slots := 0, locals := 21 }
theorem mm_read (l : Launch) (dC : Nat → ClassId) (dI : Nat → Nat → Nat) (ad : Nat → Nat) (d : ClassId) (x y : Int32) (M : Mm) : xMetI l dC dI ad d yX1_read cX1_read 3 (some .int) rn_read 13 2 (Pr_M [x, y] M) (Po_M (S_read x y) M) :=
  xMetI_of RX1 rfl (by decide) (by decide) (fun K G xs σ _ hp hR => by
    obtain ⟨hp, h1, h2⟩ := hp
    subst hp
    exact wm_read G (fun x => (x_callI G (mm_isPage l dC dI ad d x) (lw_V q267 q269 qs25 q30 q270) xRec13 (by decide +kernel) rfl rfl ⟨Nat.le_of_ble_eq_true rfl, Nat.le_of_ble_eq_true rfl⟩)) (fun x => (x_callI G (mm_isPlace l dC dI ad d x) (lw_V q271 q273 qs26 q30 q274) xRec13 (by decide +kernel) rfl rfl ⟨Nat.le_of_ble_eq_true rfl, Nat.le_of_ble_eq_true rfl⟩)) h1 h2 hR)
section MFILL
variable {l : Launch} {R : Room} {dC : Nat → ClassId} {dI : Nat → Nat → Nat} {ad : Nat → Nat} {d : ClassId} {K : xK}
theorem lm_fill (G : xGood l R dC dI ad d RX1 cX1_fill 7 K) {p a c v : Nat} {M : Mm} {σ0 : Sg} (hp : p < 12) (ha : a < 16) (hc16 : c < 16) (hv : v < 256) (hm : mem σ0 M) (hR : xRetI cX1_fill K (Po_M (S_fill (nI p) (nI a) (nI c) (nI v)) M [] σ0)) :
    ∀ t i σ, i ≤ 16 → 17 ≤ t + i → a ≤ i → (i ≤ c + 1 ∨ i = a) → (∀ t, t < 16 → σ 16 (16 * p + t) = if a ≤ t ∧ t < i then nI v else M p t) → (∀ t, (t < 16 * p ∨ 16 * p + 16 ≤ t) → σ 16 t = σ0 16 t) → (∀ k, k ≠ 16 → σ k = σ0 k) → K 41 [(0, .inr 13), (1, .inl (nI p)), (2, .inl (nI a)), (3, .inl (nI c)), (4, .inl (nI v)), (5, .inl (nI (i - a))), (6, .inl (nI i))] [] σ := by
  intro t
  induction t with
  | zero => intro i σ h1 h2; omega
  | succ t ih =>
    intro i σ h1 h2 h3 h4 hrow ho hk
    refine r_iload G 41 dX1_fill_41 rfl ?_
    refine r_iload_n G 43 dX1_fill_43 rfl ?_
    refine b_gt G 44 70 dX1_fill_44 (by decide) (by omega) (by omega) (fun h_44 => ?_) (fun h_44 => ?_)
    · refine r_iload G 70 dX1_fill_70 rfl ?_
      exact hR 72 _ _ _ dX1_fill_72 (⟨_, Or.inr ⟨p, a, c, v, ⟨hp, ha, hc16, hv, rfl, rfl, rfl, rfl, trivial⟩, congrArg nI (by omega), rfl⟩, mem_row hm hp ho (fun t ht => by rw [hrow t ht]; by_cases q : a ≤ t ∧ t ≤ c; rw [if_pos q, if_pos (by omega)]; rw [if_neg q, if_neg (by omega)]), hk⟩)
    · refine r_aload G 47 dX1_fill_47 rfl ?_
      refine r_f16 G 48 dX1_fill_48 ?_
      refine r_bipush G 51 (nI 16) dX1_fill_51 (by decide) ?_
      refine r_iload_n G 53 dX1_fill_53 rfl ?_
      refine r_imul G 54 dX1_fill_54 (pk_mul _ _) ?_
      refine r_iload G 55 dX1_fill_55 rfl ?_
      refine r_iadd G 57 dX1_fill_57 (nI_add _ _) ?_
      refine r_iload G 58 dX1_fill_58 rfl ?_
      refine r_ast G 60 192 rfl dX1_fill_60 rfl (by omega) ?_
      refine r_iinc G 61 dX1_fill_61 rfl (c_inc _) (Nat.le_of_ble_eq_true rfl) ?_
      refine r_iinc G 64 dX1_fill_64 rfl (c_inc _) (Nat.le_of_ble_eq_true rfl) ?_
      refine r_goto G 67 41 dX1_fill_67 (by decide) ?_
      have g := ih (i + 1) (sw_up σ 16 (16 * p + i) (nI v)) (by omega) (by omega) (by omega) (by omega) (fun t ht => by by_cases e : t = i; rw [e, sw_up_s, if_pos (by omega)]; rw [sw_up_o (by omega), hrow t ht]; by_cases q : a ≤ t ∧ t < i; rw [if_pos q, if_pos (by omega)]; rw [if_neg q, if_neg (by omega)]) (fun t ht => by rw [sw_up_o (by omega)]; exact ho t ht) (fun k hk' => (sw_up_n hk').trans (hk k hk'))
      rw [show i + 1 - a = i - a + 1 by omega] at g
      exact r_pick G [0, 1, 2, 3, 4, 5, 6] g
theorem wm_fill (G : xGood l R dC dI ad d RX1 cX1_fill 7 K) (h13 : ∀ x, xCallI cX1_fill K 13 13 1 (Pr_1 x) (Po_is 12 x)) (h17 : ∀ x, xCallI cX1_fill K 17 13 1 (Pr_1 x) (Po_is 16 x)) (h20 : ∀ x, xCallI cX1_fill K 20 13 1 (Pr_1 x) (Po_is 256 x)) {x y z w : Int32} {M : Mm} {σ : Sg} (hm : mem σ M) (hby : BY M) (hR : xRetI cX1_fill K (Po_M (S_fill x y z w) M [] σ)) : K 0 [(0, .inr 13), (1, .inl x), (2, .inl y), (3, .inl z), (4, .inl w)] [] σ := by
  refine r_aload G 0 dX1_fill_0 rfl ?_
  refine r_iload_n G 1 dX1_fill_1 rfl ?_
  refine c_I1 (h13 x) 2 dX1_fill_2 (Nat.le_of_ble_eq_true rfl) rfl (fun r_2 σ_2 h_2 => ?_)
  obtain ⟨hs2, hb2⟩ := h_2
  rw [hs2]
  refine r_if_eq G 5 33 dX1_fill_5 (by decide) (fun h_5 => ?_) (fun h_5 => ?_)
  · refine r_iconst G 33 (-1) dX1_fill_33 (by decide) ?_
    exact hR 34 _ _ _ dX1_fill_34 (⟨M, S1_bad (nb1 (is_bad hb2 h_5)), hm, fun _ _ => rfl⟩)
  · refine r_aload G 8 dX1_fill_8 rfl ?_
    refine r_iload_n G 9 dX1_fill_9 rfl ?_
    refine c_I1 (h17 y) 10 dX1_fill_10 (Nat.le_of_ble_eq_true rfl) rfl (fun r_10 σ_10 h_10 => ?_)
    obtain ⟨hs10, hb10⟩ := h_10
    rw [hs10]
    refine r_if_eq G 13 33 dX1_fill_13 (by decide) (fun h_13 => ?_) (fun h_13 => ?_)
    · refine r_iconst G 33 (-1) dX1_fill_33 (by decide) ?_
      exact hR 34 _ _ _ dX1_fill_34 (⟨M, S1_bad (nb2 (is_bad hb10 h_13)), hm, fun _ _ => rfl⟩)
    · refine r_aload G 16 dX1_fill_16 rfl ?_
      refine r_iload_n G 17 dX1_fill_17 rfl ?_
      refine c_I1 (h17 z) 18 dX1_fill_18 (Nat.le_of_ble_eq_true rfl) rfl (fun r_18 σ_18 h_18 => ?_)
      obtain ⟨hs18, hb18⟩ := h_18
      rw [hs18]
      refine r_if_eq G 21 33 dX1_fill_21 (by decide) (fun h_21 => ?_) (fun h_21 => ?_)
      · refine r_iconst G 33 (-1) dX1_fill_33 (by decide) ?_
        exact hR 34 _ _ _ dX1_fill_34 (⟨M, S1_bad (nb3 (is_bad hb18 h_21)), hm, fun _ _ => rfl⟩)
      · refine r_aload G 24 dX1_fill_24 rfl ?_
        refine r_iload G 25 dX1_fill_25 rfl ?_
        refine c_I1 (h20 w) 27 dX1_fill_27 (Nat.le_of_ble_eq_true rfl) rfl (fun r_27 σ_27 h_27 => ?_)
        obtain ⟨hs27, hb27⟩ := h_27
        rw [hs27]
        refine r_if_ne G 30 35 dX1_fill_30 (by decide) (fun h_30 => ?_) (fun h_30 => ?_)
        · obtain ⟨p, hp, ex⟩ := is_ok hb2 h_5
          obtain ⟨a, ha, ey⟩ := is_ok hb10 h_13
          obtain ⟨c, hc16, ez⟩ := is_ok hb18 h_21
          obtain ⟨v, hv, ew⟩ := is_ok hb27 h_30
          subst ex; subst ey; subst ez; subst ew
          refine r_iconst G 35 (nI 0) dX1_fill_35 (by decide) ?_
          refine r_istore G 36 dX1_fill_36 (Nat.le_of_ble_eq_true rfl) ?_
          refine r_iload_n G 38 dX1_fill_38 rfl ?_
          refine r_istore G 39 dX1_fill_39 (Nat.le_of_ble_eq_true rfl) ?_
          have g := lm_fill (σ0 := σ) G hp ha hc16 hv hm hR 17 a σ (by omega) (by omega) (Nat.le_refl _) (Or.inr rfl) (fun t ht => by rw [hm p hp t ht, if_neg (by omega)]) (fun _ _ => rfl) (fun _ _ => rfl)
          rw [Nat.sub_self] at g
          exact r_pick G [0, 1, 2, 3, 4, 5, 6] g
        · refine r_iconst G 33 (-1) dX1_fill_33 (by decide) ?_
          exact hR 34 _ _ _ dX1_fill_34 (⟨M, S1_bad (nb4 (is_bad hb27 h_30)), hm, fun _ _ => rfl⟩)
end MFILL
abbrev rn_fill : Room := { frames := 1, cells := 0, slots := 0, locals := 21 }
theorem mm_fill (l : Launch) (dC : Nat → ClassId) (dI : Nat → Nat → Nat) (ad : Nat → Nat) (d : ClassId) (x y z w : Int32) (M : Mm) : xMetI l dC dI ad d yX1_fill cX1_fill 7 (some .int) rn_fill 13 4 (Pr_M [x, y, z, w] M) (Po_M (S_fill x y z w) M) :=
  xMetI_of RX1 rfl (by decide) (by decide) (fun K G xs σ _ hp hR => by
    obtain ⟨hp, h1, h2⟩ := hp
    subst hp
    exact wm_fill G (fun x => (x_callI G (mm_isPage l dC dI ad d x) (lw_V q267 q269 qs25 q30 q270) xRec13 (by decide +kernel) rfl rfl ⟨Nat.le_of_ble_eq_true rfl, Nat.le_of_ble_eq_true rfl⟩)) (fun x => (x_callI G (mm_isPlace l dC dI ad d x) (lw_V q271 q273 qs26 q30 q274) xRec13 (by decide +kernel) rfl rfl ⟨Nat.le_of_ble_eq_true rfl, Nat.le_of_ble_eq_true rfl⟩)) (fun x => (x_callI G (mm_isByte l dC dI ad d x) (lw_V q275 q277 qs27 q30 q278) xRec13 (by decide +kernel) rfl rfl ⟨Nat.le_of_ble_eq_true rfl, Nat.le_of_ble_eq_true rfl⟩)) h1 h2 hR)
section MCOPY
variable {l : Launch} {R : Room} {dC : Nat → ClassId} {dI : Nat → Nat → Nat} {ad : Nat → Nat} {d : ClassId} {K : xK}
theorem lm_copy (G : xGood l R dC dI ad d RX1 cX1_copy 5 K) {p q : Nat} {M : Mm} {σ0 : Sg} (hp : p < 12) (hq : q < 12) (hm : mem σ0 M) (hR : xRetI cX1_copy K (Po_M (S_copy (nI p) (nI q)) M [] σ0)) :
    ∀ t i σ, i ≤ 16 → 17 ≤ t + i → (∀ t, t < 16 → σ 16 (16 * p + t) = if t < i then M q t else M p t) → (∀ t, (t < 16 * p ∨ 16 * p + 16 ≤ t) → σ 16 t = σ0 16 t) → (∀ k, k ≠ 16 → σ k = σ0 k) → K 23 [(0, .inr 13), (1, .inl (nI p)), (2, .inl (nI q)), (3, .inl (nI (cntD (M p) (M q) i))), (4, .inl (nI i))] [] σ := by
  intro t
  induction t with
  | zero => intro i σ h1 h2; omega
  | succ t ih =>
    intro i σ h1 h2 hrow ho hk
    have hq' : i < 16 → σ 16 (16 * q + i) = M q i := fun hi => by
      by_cases e : q = p
      · rw [e, hrow i hi, if_neg (by omega)]
      · rw [ho _ (by omega)]; exact hm q hq i hi
    have hp' : i < 16 → σ 16 (16 * p + i) = M p i := fun hi => by
      rw [hrow i hi, if_neg (by omega)]
    refine r_iload G 23 dX1_copy_23 rfl ?_
    refine r_bipush G 25 (nI 16) dX1_copy_25 (by decide) ?_
    refine b_ge G 27 90 dX1_copy_27 (by decide) (by omega) (by omega) (fun h_27 => ?_) (fun h_27 => ?_)
    · refine r_iload_n G 90 dX1_copy_90 rfl ?_
      exact hR 91 _ _ _ dX1_copy_91 (⟨_, Or.inr ⟨p, q, 0, 0, ⟨hp, hq, by decide, by decide, rfl, rfl, rfl, rfl, trivial⟩, congrArg nI (by rw [show i = 16 by omega]), rfl⟩, mem_row hm hp ho (fun t ht => by rw [hrow t ht, if_pos (by omega)]), hk⟩)
    · refine r_aload G 30 dX1_copy_30 rfl ?_
      refine r_f16 G 31 dX1_copy_31 ?_
      refine r_bipush G 34 (nI 16) dX1_copy_34 (by decide) ?_
      refine r_iload_n G 36 dX1_copy_36 rfl ?_
      refine r_imul G 37 dX1_copy_37 (pk_mul _ _) ?_
      refine r_iload G 38 dX1_copy_38 rfl ?_
      refine r_iadd G 40 dX1_copy_40 (nI_add _ _) ?_
      refine r_ald G 41 192 rfl dX1_copy_41 rfl (by omega) ?_
      refine r_aload G 42 dX1_copy_42 rfl ?_
      refine r_f16 G 43 dX1_copy_43 ?_
      refine r_bipush G 46 (nI 16) dX1_copy_46 (by decide) ?_
      refine r_iload_n G 48 dX1_copy_48 rfl ?_
      refine r_imul G 49 dX1_copy_49 (pk_mul _ _) ?_
      refine r_iload G 50 dX1_copy_50 rfl ?_
      refine r_iadd G 52 dX1_copy_52 (nI_add _ _) ?_
      refine r_ald G 53 192 rfl dX1_copy_53 rfl (by omega) ?_
      refine r_icmp_eq G 54 84 dX1_copy_54 (by decide) (fun h_54 => ?_) (fun h_54 => ?_)
      · refine r_iinc G 84 dX1_copy_84 rfl (c_inc _) (Nat.le_of_ble_eq_true rfl) ?_
        refine r_goto G 87 23 dX1_copy_87 (by decide) ?_
        rw [hp' h_27, hq' h_27] at h_54
        have g := ih (i + 1) σ (by omega) (by omega) (fun t ht => by rw [hrow t ht]; by_cases z : t < i; rw [if_pos z, if_pos (by omega)]; rw [if_neg z]; by_cases e : t = i; rw [e, if_pos (by omega)]; exact h_54; rw [if_neg (by omega)]) ho hk
        rw [cntD_e h_54] at g
        exact r_pick G [0, 1, 2, 3, 4] g
      · refine r_aload G 57 dX1_copy_57 rfl ?_
        refine r_f16 G 58 dX1_copy_58 ?_
        refine r_bipush G 61 (nI 16) dX1_copy_61 (by decide) ?_
        refine r_iload_n G 63 dX1_copy_63 rfl ?_
        refine r_imul G 64 dX1_copy_64 (pk_mul _ _) ?_
        refine r_iload G 65 dX1_copy_65 rfl ?_
        refine r_iadd G 67 dX1_copy_67 (nI_add _ _) ?_
        refine r_aload G 68 dX1_copy_68 rfl ?_
        refine r_f16 G 69 dX1_copy_69 ?_
        refine r_bipush G 72 (nI 16) dX1_copy_72 (by decide) ?_
        refine r_iload_n G 74 dX1_copy_74 rfl ?_
        refine r_imul G 75 dX1_copy_75 (pk_mul _ _) ?_
        refine r_iload G 76 dX1_copy_76 rfl ?_
        refine r_iadd G 78 dX1_copy_78 (nI_add _ _) ?_
        refine r_ald G 79 192 rfl dX1_copy_79 rfl (by omega) ?_
        refine r_ast G 80 192 rfl dX1_copy_80 rfl (by omega) ?_
        refine r_iinc G 81 dX1_copy_81 rfl (c_inc _) (Nat.le_of_ble_eq_true rfl) ?_
        refine r_iinc G 84 dX1_copy_84 rfl (c_inc _) (Nat.le_of_ble_eq_true rfl) ?_
        refine r_goto G 87 23 dX1_copy_87 (by decide) ?_
        rw [hp' h_27, hq' h_27] at h_54
        rw [hq' h_27]
        have g := ih (i + 1) (sw_up σ 16 (16 * p + i) (M q i)) (by omega) (by omega) (fun t ht => by by_cases e : t = i; rw [e, sw_up_s, if_pos (by omega)]; rw [sw_up_o (by omega), hrow t ht]; by_cases z : t < i; rw [if_pos z, if_pos (by omega)]; rw [if_neg z, if_neg (by omega)]) (fun t ht => by rw [sw_up_o (by omega)]; exact ho t ht) (fun k hk' => (sw_up_n hk').trans (hk k hk'))
        rw [cntD_n h_54] at g
        exact r_pick G [0, 1, 2, 3, 4] g
theorem wm_copy (G : xGood l R dC dI ad d RX1 cX1_copy 5 K) (h13 : ∀ x, xCallI cX1_copy K 13 13 1 (Pr_1 x) (Po_is 12 x)) {x y : Int32} {M : Mm} {σ : Sg} (hm : mem σ M) (hby : BY M) (hR : xRetI cX1_copy K (Po_M (S_copy x y) M [] σ)) : K 0 [(0, .inr 13), (1, .inl x), (2, .inl y)] [] σ := by
  refine r_aload G 0 dX1_copy_0 rfl ?_
  refine r_iload_n G 1 dX1_copy_1 rfl ?_
  refine c_I1 (h13 x) 2 dX1_copy_2 (Nat.le_of_ble_eq_true rfl) rfl (fun r_2 σ_2 h_2 => ?_)
  obtain ⟨hs2, hb2⟩ := h_2
  rw [hs2]
  refine r_if_eq G 5 16 dX1_copy_5 (by decide) (fun h_5 => ?_) (fun h_5 => ?_)
  · refine r_iconst G 16 (-1) dX1_copy_16 (by decide) ?_
    exact hR 17 _ _ _ dX1_copy_17 (⟨M, S1_bad (nb1 (is_bad hb2 h_5)), hm, fun _ _ => rfl⟩)
  · refine r_aload G 8 dX1_copy_8 rfl ?_
    refine r_iload_n G 9 dX1_copy_9 rfl ?_
    refine c_I1 (h13 y) 10 dX1_copy_10 (Nat.le_of_ble_eq_true rfl) rfl (fun r_10 σ_10 h_10 => ?_)
    obtain ⟨hs10, hb10⟩ := h_10
    rw [hs10]
    refine r_if_ne G 13 18 dX1_copy_13 (by decide) (fun h_13 => ?_) (fun h_13 => ?_)
    · obtain ⟨p, hp, ex⟩ := is_ok hb2 h_5
      obtain ⟨q, hq, ey⟩ := is_ok hb10 h_13
      subst ex; subst ey
      refine r_iconst G 18 (nI 0) dX1_copy_18 (by decide) ?_
      refine r_istore_n G 19 dX1_copy_19 (Nat.le_of_ble_eq_true rfl) ?_
      refine r_iconst G 20 (nI 0) dX1_copy_20 (by decide) ?_
      refine r_istore G 21 dX1_copy_21 (Nat.le_of_ble_eq_true rfl) ?_
      exact r_pick G [0, 1, 2, 3, 4] (lm_copy (σ0 := σ) G hp hq hm hR 17 0 σ (by omega) (by omega) (fun t ht => by rw [hm p hp t ht, if_neg (by omega)]) (fun _ _ => rfl) (fun _ _ => rfl))
    · refine r_iconst G 16 (-1) dX1_copy_16 (by decide) ?_
      exact hR 17 _ _ _ dX1_copy_17 (⟨M, S1_bad (nb2 (is_bad hb10 h_13)), hm, fun _ _ => rfl⟩)
end MCOPY
abbrev rn_copy : Room := { frames := 1, cells := 0, slots := 0, locals := 21 }
theorem mm_copy (l : Launch) (dC : Nat → ClassId) (dI : Nat → Nat → Nat) (ad : Nat → Nat) (d : ClassId) (x y : Int32) (M : Mm) : xMetI l dC dI ad d yX1_copy cX1_copy 5 (some .int) rn_copy 13 2 (Pr_M [x, y] M) (Po_M (S_copy x y) M) :=
  xMetI_of RX1 rfl (by decide) (by decide) (fun K G xs σ _ hp hR => by
    obtain ⟨hp, h1, h2⟩ := hp
    subst hp
    exact wm_copy G (fun x => (x_callI G (mm_isPage l dC dI ad d x) (lw_V q267 q269 qs25 q30 q270) xRec13 (by decide +kernel) rfl rfl ⟨Nat.le_of_ble_eq_true rfl, Nat.le_of_ble_eq_true rfl⟩)) h1 h2 hR)
section MMIX
variable {l : Launch} {R : Room} {dC : Nat → ClassId} {dI : Nat → Nat → Nat} {ad : Nat → Nat} {d : ClassId} {K : xK}
theorem lm_mix (G : xGood l R dC dI ad d RX1 cX1_mix 4 K) {p q : Nat} {M : Mm} {σ0 : Sg} (hp : p < 12) (hq : q < 12) (hm : mem σ0 M) (hR : xRetI cX1_mix K (Po_M (S_mix (nI p) (nI q)) M [] σ0)) :
    ∀ t i σ, i ≤ 16 → 17 ≤ t + i → (∀ t, t < 16 → σ 16 (16 * p + t) = if t < i then M p t ^^^ M q t else M p t) → (∀ t, (t < 16 * p ∨ 16 * p + 16 ≤ t) → σ 16 t = σ0 16 t) → (∀ k, k ≠ 16 → σ k = σ0 k) → K 20 [(0, .inr 13), (1, .inl (nI p)), (2, .inl (nI q)), (3, .inl (nI i))] [] σ := by
  intro t
  induction t with
  | zero => intro i σ h1 h2; omega
  | succ t ih =>
    intro i σ h1 h2 hrow ho hk
    have hq' : i < 16 → σ 16 (16 * q + i) = M q i := fun hi => by
      by_cases e : q = p
      · rw [e, hrow i hi, if_neg (by omega)]
      · rw [ho _ (by omega)]; exact hm q hq i hi
    have hp' : i < 16 → σ 16 (16 * p + i) = M p i := fun hi => by
      rw [hrow i hi, if_neg (by omega)]
    refine r_iload_n G 20 dX1_mix_20 rfl ?_
    refine r_bipush G 21 (nI 16) dX1_mix_21 (by decide) ?_
    refine b_ge G 23 66 dX1_mix_23 (by decide) (by omega) (by omega) (fun h_23 => ?_) (fun h_23 => ?_)
    · refine r_iconst G 66 (nI 0) dX1_mix_66 (by decide) ?_
      exact hR 67 _ _ _ dX1_mix_67 (⟨_, Or.inr ⟨p, q, 0, 0, ⟨hp, hq, by decide, by decide, rfl, rfl, rfl, rfl, trivial⟩, rfl, rfl⟩, mem_row hm hp ho (fun t ht => by rw [hrow t ht, if_pos (by omega)]), hk⟩)
    · refine r_aload G 26 dX1_mix_26 rfl ?_
      refine r_f16 G 27 dX1_mix_27 ?_
      refine r_bipush G 30 (nI 16) dX1_mix_30 (by decide) ?_
      refine r_iload_n G 32 dX1_mix_32 rfl ?_
      refine r_imul G 33 dX1_mix_33 (pk_mul _ _) ?_
      refine r_iload_n G 34 dX1_mix_34 rfl ?_
      refine r_iadd G 35 dX1_mix_35 (nI_add _ _) ?_
      refine r_aload G 36 dX1_mix_36 rfl ?_
      refine r_f16 G 37 dX1_mix_37 ?_
      refine r_bipush G 40 (nI 16) dX1_mix_40 (by decide) ?_
      refine r_iload_n G 42 dX1_mix_42 rfl ?_
      refine r_imul G 43 dX1_mix_43 (pk_mul _ _) ?_
      refine r_iload_n G 44 dX1_mix_44 rfl ?_
      refine r_iadd G 45 dX1_mix_45 (nI_add _ _) ?_
      refine r_ald G 46 192 rfl dX1_mix_46 rfl (by omega) ?_
      rw [hp' h_23]
      refine r_aload G 47 dX1_mix_47 rfl ?_
      refine r_f16 G 48 dX1_mix_48 ?_
      refine r_bipush G 51 (nI 16) dX1_mix_51 (by decide) ?_
      refine r_iload_n G 53 dX1_mix_53 rfl ?_
      refine r_imul G 54 dX1_mix_54 (pk_mul _ _) ?_
      refine r_iload_n G 55 dX1_mix_55 rfl ?_
      refine r_iadd G 56 dX1_mix_56 (nI_add _ _) ?_
      refine r_ald G 57 192 rfl dX1_mix_57 rfl (by omega) ?_
      rw [hq' h_23]
      refine r_ixor G 58 dX1_mix_58 rfl ?_
      refine r_ast G 59 192 rfl dX1_mix_59 rfl (by omega) ?_
      refine r_iinc G 60 dX1_mix_60 rfl (c_inc _) (Nat.le_of_ble_eq_true rfl) ?_
      refine r_goto G 63 20 dX1_mix_63 (by decide) ?_
      exact r_pick G [0, 1, 2, 3] (ih (i + 1) _ (by omega) (by omega) (fun t ht => by by_cases e : t = i; rw [e, sw_up_s, if_pos (by omega)]; rw [sw_up_o (by omega), hrow t ht]; by_cases z : t < i; rw [if_pos z, if_pos (by omega)]; rw [if_neg z, if_neg (by omega)]) (fun t ht => by rw [sw_up_o (by omega)]; exact ho t ht) (fun k hk' => (sw_up_n hk').trans (hk k hk')))
theorem wm_mix (G : xGood l R dC dI ad d RX1 cX1_mix 4 K) (h13 : ∀ x, xCallI cX1_mix K 13 13 1 (Pr_1 x) (Po_is 12 x)) {x y : Int32} {M : Mm} {σ : Sg} (hm : mem σ M) (hby : BY M) (hR : xRetI cX1_mix K (Po_M (S_mix x y) M [] σ)) : K 0 [(0, .inr 13), (1, .inl x), (2, .inl y)] [] σ := by
  refine r_aload G 0 dX1_mix_0 rfl ?_
  refine r_iload_n G 1 dX1_mix_1 rfl ?_
  refine c_I1 (h13 x) 2 dX1_mix_2 (Nat.le_of_ble_eq_true rfl) rfl (fun r_2 σ_2 h_2 => ?_)
  obtain ⟨hs2, hb2⟩ := h_2
  rw [hs2]
  refine r_if_eq G 5 16 dX1_mix_5 (by decide) (fun h_5 => ?_) (fun h_5 => ?_)
  · refine r_iconst G 16 (-1) dX1_mix_16 (by decide) ?_
    exact hR 17 _ _ _ dX1_mix_17 (⟨M, S1_bad (nb1 (is_bad hb2 h_5)), hm, fun _ _ => rfl⟩)
  · refine r_aload G 8 dX1_mix_8 rfl ?_
    refine r_iload_n G 9 dX1_mix_9 rfl ?_
    refine c_I1 (h13 y) 10 dX1_mix_10 (Nat.le_of_ble_eq_true rfl) rfl (fun r_10 σ_10 h_10 => ?_)
    obtain ⟨hs10, hb10⟩ := h_10
    rw [hs10]
    refine r_if_ne G 13 18 dX1_mix_13 (by decide) (fun h_13 => ?_) (fun h_13 => ?_)
    · obtain ⟨p, hp, ex⟩ := is_ok hb2 h_5
      obtain ⟨q, hq, ey⟩ := is_ok hb10 h_13
      subst ex; subst ey
      refine r_iconst G 18 (nI 0) dX1_mix_18 (by decide) ?_
      refine r_istore_n G 19 dX1_mix_19 (Nat.le_of_ble_eq_true rfl) ?_
      exact r_pick G [0, 1, 2, 3] (lm_mix (σ0 := σ) G hp hq hm hR 17 0 σ (by omega) (by omega) (fun t ht => by rw [hm p hp t ht, if_neg (by omega)]) (fun _ _ => rfl) (fun _ _ => rfl))
    · refine r_iconst G 16 (-1) dX1_mix_16 (by decide) ?_
      exact hR 17 _ _ _ dX1_mix_17 (⟨M, S1_bad (nb2 (is_bad hb10 h_13)), hm, fun _ _ => rfl⟩)
end MMIX
abbrev rn_mix : Room := { frames := 1, cells := 0, slots := 0, locals := 21 }
theorem mm_mix (l : Launch) (dC : Nat → ClassId) (dI : Nat → Nat → Nat) (ad : Nat → Nat) (d : ClassId) (x y : Int32) (M : Mm) : xMetI l dC dI ad d yX1_mix cX1_mix 4 (some .int) rn_mix 13 2 (Pr_M [x, y] M) (Po_M (S_mix x y) M) :=
  xMetI_of RX1 rfl (by decide) (by decide) (fun K G xs σ _ hp hR => by
    obtain ⟨hp, h1, h2⟩ := hp
    subst hp
    exact wm_mix G (fun x => (x_callI G (mm_isPage l dC dI ad d x) (lw_V q267 q269 qs25 q30 q270) xRec13 (by decide +kernel) rfl rfl ⟨Nat.le_of_ble_eq_true rfl, Nat.le_of_ble_eq_true rfl⟩)) h1 h2 hR)
section MEXCH
variable {l : Launch} {R : Room} {dC : Nat → ClassId} {dI : Nat → Nat → Nat} {ad : Nat → Nat} {d : ClassId} {K : xK}
theorem lm_exchange (G : xGood l R dC dI ad d RX1 cX1_exchange 5 K) {p q : Nat} {M : Mm} {σ0 : Sg} (hp : p < 12) (hq : q < 12) (hm : mem σ0 M) (hR : xRetI cX1_exchange K (Po_M (S_exchange (nI p) (nI q)) M [] σ0)) :
    ∀ t i σ, i ≤ 16 → 17 ≤ t + i → (∀ t, t < 16 → σ 16 (16 * p + t) = if t < i then M q t else M p t) → (∀ t, t < 16 → σ 16 (16 * q + t) = if t < i then M p t else M q t) → (∀ t, (t < 16 * p ∨ 16 * p + 16 ≤ t) → (t < 16 * q ∨ 16 * q + 16 ≤ t) → σ 16 t = σ0 16 t) → (∀ k, k ≠ 16 → σ k = σ0 k) → K 20 [(0, .inr 13), (1, .inl (nI p)), (2, .inl (nI q)), (3, .inl (nI i))] [] σ := by
  intro t
  induction t with
  | zero => intro i σ h1 h2; omega
  | succ t ih =>
    intro i σ h1 h2 hrow hrow' ho hk
    have hp' : i < 16 → σ 16 (16 * p + i) = M p i := fun hi => by rw [hrow i hi, if_neg (by omega)]
    have hq' : i < 16 → σ 16 (16 * q + i) = M q i := fun hi => by rw [hrow' i hi, if_neg (by omega)]
    have s1 : i < 16 → ∀ t, t < 16 → sw_up (sw_up σ 16 (16 * p + i) (M q i)) 16 (16 * q + i) (M p i) 16 (16 * p + t) = if t < i + 1 then M q t else M p t := fun hi t ht => by
      by_cases e : t = i
      · rw [e, if_pos (by omega)]
        by_cases z : p = q
        · rw [z, sw_up_s]
        · rw [sw_up_o (by omega), sw_up_s]
      · rw [sw_up_o (by omega), sw_up_o (by omega), hrow t ht]
        by_cases z : t < i
        · rw [if_pos z, if_pos (by omega)]
        · rw [if_neg z, if_neg (by omega)]
    have s2 : i < 16 → ∀ t, t < 16 → sw_up (sw_up σ 16 (16 * p + i) (M q i)) 16 (16 * q + i) (M p i) 16 (16 * q + t) = if t < i + 1 then M p t else M q t := fun hi t ht => by
      by_cases e : t = i
      · rw [e, if_pos (by omega), sw_up_s]
      · rw [sw_up_o (by omega), sw_up_o (by omega), hrow' t ht]
        by_cases z : t < i
        · rw [if_pos z, if_pos (by omega)]
        · rw [if_neg z, if_neg (by omega)]
    refine r_iload_n G 20 dX1_exchange_20 rfl ?_
    refine r_bipush G 21 (nI 16) dX1_exchange_21 (by decide) ?_
    refine b_ge G 23 80 dX1_exchange_23 (by decide) (by omega) (by omega) (fun h_23 => ?_) (fun h_23 => ?_)
    · refine r_iconst G 80 (nI 0) dX1_exchange_80 (by decide) ?_
      exact hR 81 _ _ _ dX1_exchange_81 (⟨_, Or.inr ⟨p, q, 0, 0, ⟨hp, hq, by decide, by decide, rfl, rfl, rfl, rfl, trivial⟩, rfl, rfl⟩, fun r hr t ht => by by_cases e : r = q; rw [e, setR_s, hrow' t ht, if_pos (by omega)]; rw [setR_o e]; by_cases z : r = p; rw [z, setR_s, hrow t ht, if_pos (by omega)]; rw [setR_o z, ho _ (by omega) (by omega)]; exact hm r hr t ht, hk⟩)
    · refine r_aload G 26 dX1_exchange_26 rfl ?_
      refine r_f16 G 27 dX1_exchange_27 ?_
      refine r_bipush G 30 (nI 16) dX1_exchange_30 (by decide) ?_
      refine r_iload_n G 32 dX1_exchange_32 rfl ?_
      refine r_imul G 33 dX1_exchange_33 (pk_mul _ _) ?_
      refine r_iload_n G 34 dX1_exchange_34 rfl ?_
      refine r_iadd G 35 dX1_exchange_35 (nI_add _ _) ?_
      refine r_ald G 36 192 rfl dX1_exchange_36 rfl (by omega) ?_
      rw [hp' h_23]
      refine r_istore G 37 dX1_exchange_37 (Nat.le_of_ble_eq_true rfl) ?_
      refine r_aload G 39 dX1_exchange_39 rfl ?_
      refine r_f16 G 40 dX1_exchange_40 ?_
      refine r_bipush G 43 (nI 16) dX1_exchange_43 (by decide) ?_
      refine r_iload_n G 45 dX1_exchange_45 rfl ?_
      refine r_imul G 46 dX1_exchange_46 (pk_mul _ _) ?_
      refine r_iload_n G 47 dX1_exchange_47 rfl ?_
      refine r_iadd G 48 dX1_exchange_48 (nI_add _ _) ?_
      refine r_aload G 49 dX1_exchange_49 rfl ?_
      refine r_f16 G 50 dX1_exchange_50 ?_
      refine r_bipush G 53 (nI 16) dX1_exchange_53 (by decide) ?_
      refine r_iload_n G 55 dX1_exchange_55 rfl ?_
      refine r_imul G 56 dX1_exchange_56 (pk_mul _ _) ?_
      refine r_iload_n G 57 dX1_exchange_57 rfl ?_
      refine r_iadd G 58 dX1_exchange_58 (nI_add _ _) ?_
      refine r_ald G 59 192 rfl dX1_exchange_59 rfl (by omega) ?_
      rw [hq' h_23]
      refine r_ast G 60 192 rfl dX1_exchange_60 rfl (by omega) ?_
      refine r_aload G 61 dX1_exchange_61 rfl ?_
      refine r_f16 G 62 dX1_exchange_62 ?_
      refine r_bipush G 65 (nI 16) dX1_exchange_65 (by decide) ?_
      refine r_iload_n G 67 dX1_exchange_67 rfl ?_
      refine r_imul G 68 dX1_exchange_68 (pk_mul _ _) ?_
      refine r_iload_n G 69 dX1_exchange_69 rfl ?_
      refine r_iadd G 70 dX1_exchange_70 (nI_add _ _) ?_
      refine r_iload G 71 dX1_exchange_71 rfl ?_
      refine r_ast G 73 192 rfl dX1_exchange_73 rfl (by omega) ?_
      refine r_iinc G 74 dX1_exchange_74 rfl (c_inc _) (Nat.le_of_ble_eq_true rfl) ?_
      refine r_goto G 77 20 dX1_exchange_77 (by decide) ?_
      exact r_pick G [0, 1, 2, 3] (ih (i + 1) _ (by omega) (by omega) (s1 h_23) (s2 h_23) (fun t ht ht' => by rw [sw_up_o (by omega), sw_up_o (by omega)]; exact ho t ht ht') (fun k hk' => (sw_up_n hk').trans ((sw_up_n hk').trans (hk k hk'))))
theorem wm_exchange (G : xGood l R dC dI ad d RX1 cX1_exchange 5 K) (h13 : ∀ x, xCallI cX1_exchange K 13 13 1 (Pr_1 x) (Po_is 12 x)) {x y : Int32} {M : Mm} {σ : Sg} (hm : mem σ M) (hby : BY M) (hR : xRetI cX1_exchange K (Po_M (S_exchange x y) M [] σ)) : K 0 [(0, .inr 13), (1, .inl x), (2, .inl y)] [] σ := by
  refine r_aload G 0 dX1_exchange_0 rfl ?_
  refine r_iload_n G 1 dX1_exchange_1 rfl ?_
  refine c_I1 (h13 x) 2 dX1_exchange_2 (Nat.le_of_ble_eq_true rfl) rfl (fun r_2 σ_2 h_2 => ?_)
  obtain ⟨hs2, hb2⟩ := h_2
  rw [hs2]
  refine r_if_eq G 5 16 dX1_exchange_5 (by decide) (fun h_5 => ?_) (fun h_5 => ?_)
  · refine r_iconst G 16 (-1) dX1_exchange_16 (by decide) ?_
    exact hR 17 _ _ _ dX1_exchange_17 (⟨M, S1_bad (nb1 (is_bad hb2 h_5)), hm, fun _ _ => rfl⟩)
  · refine r_aload G 8 dX1_exchange_8 rfl ?_
    refine r_iload_n G 9 dX1_exchange_9 rfl ?_
    refine c_I1 (h13 y) 10 dX1_exchange_10 (Nat.le_of_ble_eq_true rfl) rfl (fun r_10 σ_10 h_10 => ?_)
    obtain ⟨hs10, hb10⟩ := h_10
    rw [hs10]
    refine r_if_ne G 13 18 dX1_exchange_13 (by decide) (fun h_13 => ?_) (fun h_13 => ?_)
    · obtain ⟨p, hp, ex⟩ := is_ok hb2 h_5
      obtain ⟨q, hq, ey⟩ := is_ok hb10 h_13
      subst ex; subst ey
      refine r_iconst G 18 (nI 0) dX1_exchange_18 (by decide) ?_
      refine r_istore_n G 19 dX1_exchange_19 (Nat.le_of_ble_eq_true rfl) ?_
      exact r_pick G [0, 1, 2, 3] (lm_exchange (σ0 := σ) G hp hq hm hR 17 0 σ (by omega) (by omega) (fun t ht => by rw [hm p hp t ht, if_neg (by omega)]) (fun t ht => by rw [hm q hq t ht, if_neg (by omega)]) (fun _ _ _ => rfl) (fun _ _ => rfl))
    · refine r_iconst G 16 (-1) dX1_exchange_16 (by decide) ?_
      exact hR 17 _ _ _ dX1_exchange_17 (⟨M, S1_bad (nb2 (is_bad hb10 h_13)), hm, fun _ _ => rfl⟩)
end MEXCH
abbrev rn_exchange : Room := { frames := 1, cells := 0, slots := 0, locals := 21 }
theorem mm_exchange (l : Launch) (dC : Nat → ClassId) (dI : Nat → Nat → Nat) (ad : Nat → Nat) (d : ClassId) (x y : Int32) (M : Mm) : xMetI l dC dI ad d yX1_exchange cX1_exchange 5 (some .int) rn_exchange 13 2 (Pr_M [x, y] M) (Po_M (S_exchange x y) M) :=
  xMetI_of RX1 rfl (by decide) (by decide) (fun K G xs σ _ hp hR => by
    obtain ⟨hp, h1, h2⟩ := hp
    subst hp
    exact wm_exchange G (fun x => (x_callI G (mm_isPage l dC dI ad d x) (lw_V q267 q269 qs25 q30 q270) xRec13 (by decide +kernel) rfl rfl ⟨Nat.le_of_ble_eq_true rfl, Nat.le_of_ble_eq_true rfl⟩)) h1 h2 hR)
end
section
/-! the model's other methods, printed by gen40.py -/
section MMOVE
variable {l : Launch} {R : Room} {dC : Nat → ClassId} {dI : Nat → Nat → Nat} {ad : Nat → Nat} {d : ClassId} {K : xK}
theorem lm_move (G : xGood l R dC dI ad d RX1 cX1_move 6 K) {p a c n : Nat} {M : Mm} {σ0 : Sg} (hp : p < 12) (ha : a < 16) (hc16 : c < 16) (hn : n < 17) (han : a + n ≤ 16) (hcn : c + n ≤ 16) (hm : mem σ0 M) (hR : xRetI cX1_move K (Po_M (S_move (nI p) (nI a) (nI c) (nI n)) M [] σ0)) :
    ∀ t i σ, i ≤ n → n + 1 ≤ t + i → (∀ t, t < 16 → σ 16 (16 * p + t) = mvF (M p) a c i t) → (∀ t, (t < 16 * p ∨ 16 * p + 16 ≤ t) → σ 16 t = σ0 16 t) → (∀ k, k ≠ 16 → σ k = σ0 k) → K 59 [(0, .inr 13), (1, .inl (nI p)), (2, .inl (nI a)), (3, .inl (nI c)), (4, .inl (nI n)), (5, .inl (nI i))] [] σ := by
  intro t
  induction t with
  | zero => intro i σ h1 h2; omega
  | succ t ih =>
    intro i σ h1 h2 hrow ho hk
    refine r_iload G 59 dX1_move_59 rfl ?_
    refine r_iload G 61 dX1_move_61 rfl ?_
    refine b_ge G 63 100 dX1_move_63 (by decide) (by omega) (by omega) (fun h_63 => ?_) (fun h_63 => ?_)
    · refine r_iconst G 100 (nI 0) dX1_move_100 (by decide) ?_
      exact hR 101 _ _ _ dX1_move_101 (⟨_, Or.inr ⟨p, a, c, n, ⟨hp, ha, hc16, hn, rfl, rfl, rfl, rfl, han, hcn⟩, rfl, rfl⟩, mem_row hm hp ho (fun t ht => by rw [hrow t ht, show i = n by omega]), hk⟩)
    · refine r_aload G 66 dX1_move_66 rfl ?_
      refine r_f16 G 67 dX1_move_67 ?_
      refine r_bipush G 70 (nI 16) dX1_move_70 (by decide) ?_
      refine r_iload_n G 72 dX1_move_72 rfl ?_
      refine r_imul G 73 dX1_move_73 (pk_mul _ _) ?_
      refine r_iload_n G 74 dX1_move_74 rfl ?_
      refine r_iadd G 75 dX1_move_75 (nI_add _ _) ?_
      refine r_iload G 76 dX1_move_76 rfl ?_
      refine r_iadd G 78 dX1_move_78 (nI_add _ _) ?_
      refine r_aload G 79 dX1_move_79 rfl ?_
      refine r_f16 G 80 dX1_move_80 ?_
      refine r_bipush G 83 (nI 16) dX1_move_83 (by decide) ?_
      refine r_iload_n G 85 dX1_move_85 rfl ?_
      refine r_imul G 86 dX1_move_86 (pk_mul _ _) ?_
      refine r_iload_n G 87 dX1_move_87 rfl ?_
      refine r_iadd G 88 dX1_move_88 (nI_add _ _) ?_
      refine r_iload G 89 dX1_move_89 rfl ?_
      refine r_iadd G 91 dX1_move_91 (nI_add _ _) ?_
      refine r_ald G 92 192 rfl dX1_move_92 rfl (by omega) ?_
      refine r_ast G 93 192 rfl dX1_move_93 rfl (by omega) ?_
      refine r_iinc G 94 dX1_move_94 rfl (c_inc _) (Nat.le_of_ble_eq_true rfl) ?_
      refine r_goto G 97 59 dX1_move_97 (by decide) ?_
      exact r_pick G [0, 1, 2, 3, 4, 5] (ih (i + 1) _ (by omega) (by omega) (fun t ht => by show _ = upd (mvF (M p) a c i) (c + i) (mvF (M p) a c i (a + i)) t; by_cases e : t = c + i; rw [e, ← Nat.add_assoc, sw_up_s, upd_s, Nat.add_assoc]; exact hrow _ (by omega); rw [sw_up_o (by omega), upd_o e]; exact hrow t ht) (fun t ht => by rw [sw_up_o (by omega)]; exact ho t ht) (fun k hk' => (sw_up_n hk').trans (hk k hk')))
theorem wm_move (G : xGood l R dC dI ad d RX1 cX1_move 6 K) (h13 : ∀ x, xCallI cX1_move K 13 13 1 (Pr_1 x) (Po_is 12 x)) (h17 : ∀ x, xCallI cX1_move K 17 13 1 (Pr_1 x) (Po_is 16 x)) {x y z w : Int32} {M : Mm} {σ : Sg} (hm : mem σ M) (hby : BY M) (hR : xRetI cX1_move K (Po_M (S_move x y z w) M [] σ)) : K 0 [(0, .inr 13), (1, .inl x), (2, .inl y), (3, .inl z), (4, .inl w)] [] σ := by
  refine r_aload G 0 dX1_move_0 rfl ?_
  refine r_iload_n G 1 dX1_move_1 rfl ?_
  refine c_I1 (h13 x) 2 dX1_move_2 (Nat.le_of_ble_eq_true rfl) rfl (fun r_2 σ_2 h_2 => ?_)
  obtain ⟨hs2, hb2⟩ := h_2
  rw [hs2]
  refine r_if_eq G 5 54 dX1_move_5 (by decide) (fun h_5 => ?_) (fun h_5 => ?_)
  · refine r_iconst G 54 (-1) dX1_move_54 (by decide) ?_
    exact hR 55 _ _ _ dX1_move_55 (⟨M, S1_bad (nb1 (is_bad hb2 h_5)), hm, fun _ _ => rfl⟩)
  · refine r_aload G 8 dX1_move_8 rfl ?_
    refine r_iload_n G 9 dX1_move_9 rfl ?_
    refine c_I1 (h17 y) 10 dX1_move_10 (Nat.le_of_ble_eq_true rfl) rfl (fun r_10 σ_10 h_10 => ?_)
    obtain ⟨hs10, hb10⟩ := h_10
    rw [hs10]
    refine r_if_eq G 13 54 dX1_move_13 (by decide) (fun h_13 => ?_) (fun h_13 => ?_)
    · refine r_iconst G 54 (-1) dX1_move_54 (by decide) ?_
      exact hR 55 _ _ _ dX1_move_55 (⟨M, S1_bad (nb2 (is_bad hb10 h_13)), hm, fun _ _ => rfl⟩)
    · refine r_aload G 16 dX1_move_16 rfl ?_
      refine r_iload_n G 17 dX1_move_17 rfl ?_
      refine c_I1 (h17 z) 18 dX1_move_18 (Nat.le_of_ble_eq_true rfl) rfl (fun r_18 σ_18 h_18 => ?_)
      obtain ⟨hs18, hb18⟩ := h_18
      rw [hs18]
      refine r_if_eq G 21 54 dX1_move_21 (by decide) (fun h_21 => ?_) (fun h_21 => ?_)
      · refine r_iconst G 54 (-1) dX1_move_54 (by decide) ?_
        exact hR 55 _ _ _ dX1_move_55 (⟨M, S1_bad (nb3 (is_bad hb18 h_21)), hm, fun _ _ => rfl⟩)
      · obtain ⟨p, hp, ex⟩ := is_ok hb2 h_5
        obtain ⟨a, ha, ey⟩ := is_ok hb10 h_13
        obtain ⟨c, hc16, ez⟩ := is_ok hb18 h_21
        subst ex; subst ey; subst ez
        refine r_iload G 24 dX1_move_24 rfl ?_
        refine r_if_lt G 26 54 dX1_move_26 (by decide) (fun h_26 => ?_) (fun h_26 => ?_)
        · refine r_iconst G 54 (-1) dX1_move_54 (by decide) ?_
          exact hR 55 _ _ _ dX1_move_55 (⟨M, S1_bad (nb4 (inN_neg h_26 (by decide))), hm, fun _ _ => rfl⟩)
        · refine r_iload G 29 dX1_move_29 rfl ?_
          refine r_bipush G 31 (nI 16) dX1_move_31 (by decide) ?_
          refine r_icmp_gt G 33 54 dX1_move_33 (by decide) (fun h_33 => ?_) (fun h_33 => ?_)
          · refine r_iconst G 54 (-1) dX1_move_54 (by decide) ?_
            exact hR 55 _ _ _ dX1_move_55 (⟨M, S1_bad (nb4 (inN_bigL (n := 16) (by decide) (Int32.not_le.mpr h_33))), hm, fun _ _ => rfl⟩)
          · obtain ⟨n, hn, ew⟩ := inN_ofL (n := 16) (by decide) h_26 (Int32.not_lt.mp h_33)
            subst ew
            refine r_iload_n G 36 dX1_move_36 rfl ?_
            refine r_iload G 37 dX1_move_37 rfl ?_
            refine r_iadd G 39 dX1_move_39 (nI_add _ _) ?_
            refine r_bipush G 40 (nI 16) dX1_move_40 (by decide) ?_
            refine b_gt G 42 54 dX1_move_42 (by decide) (by omega) (by omega) (fun h_42 => ?_) (fun h_42 => ?_)
            · refine r_iconst G 54 (-1) dX1_move_54 (by decide) ?_
              exact hR 55 _ _ _ dX1_move_55 (⟨M, S1_bad (fun ⟨p', j', k', n', g1, g2, g3, g4, g5, g6, g7, g8, g9, g10⟩ => by have e1 := nI_inj (by omega) (by omega) g6; have e2 := nI_inj (by omega) (by omega) g8; omega), hm, fun _ _ => rfl⟩)
            · refine r_iload_n G 45 dX1_move_45 rfl ?_
              refine r_iload G 46 dX1_move_46 rfl ?_
              refine r_iadd G 48 dX1_move_48 (nI_add _ _) ?_
              refine r_bipush G 49 (nI 16) dX1_move_49 (by decide) ?_
              refine b_le G 51 56 dX1_move_51 (by decide) (by omega) (by omega) (fun h_51 => ?_) (fun h_51 => ?_)
              · refine r_iconst G 56 (nI 0) dX1_move_56 (by decide) ?_
                refine r_istore G 57 dX1_move_57 (Nat.le_of_ble_eq_true rfl) ?_
                exact r_pick G [0, 1, 2, 3, 4, 5] (lm_move (σ0 := σ) G hp ha hc16 hn h_42 h_51 hm hR (n + 1) 0 σ (by omega) (by omega) (fun t ht => hm p hp t ht) (fun _ _ => rfl) (fun _ _ => rfl))
              · refine r_iconst G 54 (-1) dX1_move_54 (by decide) ?_
                exact hR 55 _ _ _ dX1_move_55 (⟨M, S1_bad (fun ⟨p', j', k', n', g1, g2, g3, g4, g5, g6, g7, g8, g9, g10⟩ => by have e1 := nI_inj (by omega) (by omega) g7; have e2 := nI_inj (by omega) (by omega) g8; omega), hm, fun _ _ => rfl⟩)
end MMOVE
abbrev rn_move : Room := { frames := 1, cells := 0, slots := 0, locals := 21 }
theorem mm_move (l : Launch) (dC : Nat → ClassId) (dI : Nat → Nat → Nat) (ad : Nat → Nat) (d : ClassId) (x y z w : Int32) (M : Mm) : xMetI l dC dI ad d yX1_move cX1_move 6 (some .int) rn_move 13 4 (Pr_M [x, y, z, w] M) (Po_M (S_move x y z w) M) :=
  xMetI_of RX1 rfl (by decide) (by decide) (fun K G xs σ _ hp hR => by
    obtain ⟨hp, h1, h2⟩ := hp
    subst hp
    exact wm_move G (fun x => (x_callI G (mm_isPage l dC dI ad d x) (lw_V q267 q269 qs25 q30 q270) xRec13 (by decide +kernel) rfl rfl ⟨Nat.le_of_ble_eq_true rfl, Nat.le_of_ble_eq_true rfl⟩)) (fun x => (x_callI G (mm_isPlace l dC dI ad d x) (lw_V q271 q273 qs26 q30 q274) xRec13 (by decide +kernel) rfl rfl ⟨Nat.le_of_ble_eq_true rfl, Nat.le_of_ble_eq_true rfl⟩)) h1 h2 hR)
section MDROP
variable {l : Launch} {R : Room} {dC : Nat → ClassId} {dI : Nat → Nat → Nat} {ad : Nat → Nat} {d : ClassId} {K : xK}
theorem lm_drop (G : xGood l R dC dI ad d RX1 cX1_drop 3 K) {p : Nat} {M : Mm} {σ0 : Sg} (hp : p < 12) (hm : mem σ0 M) (hR : xRetI cX1_drop K (Po_M (S_drop (nI p)) M [] σ0)) :
    ∀ t i σ, i ≤ 16 → 17 ≤ t + i → (∀ t, t < 16 → σ 16 (16 * p + t) = if t < i then nI 0 else M p t) → (∀ t, (t < 16 * p ∨ 16 * p + 16 ≤ t) → σ 16 t = σ0 16 t) → (∀ k, k ≠ 16 → σ k = σ0 k) → K 12 [(0, .inr 13), (1, .inl (nI p)), (2, .inl (nI i))] [] σ := by
  intro t
  induction t with
  | zero => intro i σ h1 h2; omega
  | succ t ih =>
    intro i σ h1 h2 hrow ho hk
    refine r_iload_n G 12 dX1_drop_12 rfl ?_
    refine r_bipush G 13 (nI 16) dX1_drop_13 (by decide) ?_
    refine b_ge G 15 36 dX1_drop_15 (by decide) (by omega) (by omega) (fun h_15 => ?_) (fun h_15 => ?_)
    · refine r_iconst G 36 (nI 0) dX1_drop_36 (by decide) ?_
      exact hR 37 _ _ _ dX1_drop_37 (⟨_, Or.inr ⟨p, 0, 0, 0, ⟨hp, by decide, by decide, by decide, rfl, rfl, rfl, rfl, trivial⟩, rfl, rfl⟩, mem_row hm hp ho (fun t ht => by rw [hrow t ht, if_pos (by omega)]; exact nI_z), hk⟩)
    · refine r_aload G 18 dX1_drop_18 rfl ?_
      refine r_f16 G 19 dX1_drop_19 ?_
      refine r_bipush G 22 (nI 16) dX1_drop_22 (by decide) ?_
      refine r_iload_n G 24 dX1_drop_24 rfl ?_
      refine r_imul G 25 dX1_drop_25 (pk_mul _ _) ?_
      refine r_iload_n G 26 dX1_drop_26 rfl ?_
      refine r_iadd G 27 dX1_drop_27 (nI_add _ _) ?_
      refine r_iconst G 28 (nI 0) dX1_drop_28 (by decide) ?_
      refine r_ast G 29 192 rfl dX1_drop_29 rfl (by omega) ?_
      refine r_iinc G 30 dX1_drop_30 rfl (c_inc _) (Nat.le_of_ble_eq_true rfl) ?_
      refine r_goto G 33 12 dX1_drop_33 (by decide) ?_
      exact r_pick G [0, 1, 2] (ih (i + 1) _ (by omega) (by omega) (fun t ht => by by_cases e : t = i; rw [e, sw_up_s, if_pos (by omega)]; rw [sw_up_o (by omega), hrow t ht]; by_cases z : t < i; rw [if_pos z, if_pos (by omega)]; rw [if_neg z, if_neg (by omega)]) (fun t ht => by rw [sw_up_o (by omega)]; exact ho t ht) (fun k hk' => (sw_up_n hk').trans (hk k hk')))
theorem wm_drop (G : xGood l R dC dI ad d RX1 cX1_drop 3 K) (h13 : ∀ x, xCallI cX1_drop K 13 13 1 (Pr_1 x) (Po_is 12 x)) {x : Int32} {M : Mm} {σ : Sg} (hm : mem σ M) (hby : BY M) (hR : xRetI cX1_drop K (Po_M (S_drop x) M [] σ)) : K 0 [(0, .inr 13), (1, .inl x)] [] σ := by
  refine r_aload G 0 dX1_drop_0 rfl ?_
  refine r_iload_n G 1 dX1_drop_1 rfl ?_
  refine c_I1 (h13 x) 2 dX1_drop_2 (Nat.le_of_ble_eq_true rfl) rfl (fun r_2 σ_2 h_2 => ?_)
  obtain ⟨hs2, hb2⟩ := h_2
  rw [hs2]
  refine r_if_ne G 5 10 dX1_drop_5 (by decide) (fun h_5 => ?_) (fun h_5 => ?_)
  · obtain ⟨p, hp, ex⟩ := is_ok hb2 h_5
    subst ex
    refine r_iconst G 10 (nI 0) dX1_drop_10 (by decide) ?_
    refine r_istore_n G 11 dX1_drop_11 (Nat.le_of_ble_eq_true rfl) ?_
    exact r_pick G [0, 1, 2] (lm_drop (σ0 := σ) G hp hm hR 17 0 σ (by omega) (by omega) (fun t ht => by rw [hm p hp t ht, if_neg (by omega)]) (fun _ _ => rfl) (fun _ _ => rfl))
  · refine r_iconst G 8 (-1) dX1_drop_8 (by decide) ?_
    exact hR 9 _ _ _ dX1_drop_9 (⟨M, S1_bad (nb1 (is_bad hb2 h_5)), hm, fun _ _ => rfl⟩)
end MDROP
abbrev rn_drop : Room := { frames := 1, cells := 0, slots := 0, locals := 21 }
theorem mm_drop (l : Launch) (dC : Nat → ClassId) (dI : Nat → Nat → Nat) (ad : Nat → Nat) (d : ClassId) (x : Int32) (M : Mm) : xMetI l dC dI ad d yX1_drop cX1_drop 3 (some .int) rn_drop 13 1 (Pr_M [x] M) (Po_M (S_drop x) M) :=
  xMetI_of RX1 rfl (by decide) (by decide) (fun K G xs σ _ hp hR => by
    obtain ⟨hp, h1, h2⟩ := hp
    subst hp
    exact wm_drop G (fun x => (x_callI G (mm_isPage l dC dI ad d x) (lw_V q267 q269 qs25 q30 q270) xRec13 (by decide +kernel) rfl rfl ⟨Nat.le_of_ble_eq_true rfl, Nat.le_of_ble_eq_true rfl⟩)) h1 h2 hR)
section MSUM
variable {l : Launch} {R : Room} {dC : Nat → ClassId} {dI : Nat → Nat → Nat} {ad : Nat → Nat} {d : ClassId} {K : xK}
theorem lm_sum (G : xGood l R dC dI ad d RX1 cX1_sum 4 K) {p : Nat} {M : Mm} {σ : Sg} (hp : p < 12) (hm : mem σ M) (hR : xRetI cX1_sum K (Po_M (S_sum (nI p)) M [] σ)) :
    ∀ t i, i ≤ 16 → 17 ≤ t + i → K 14 [(0, .inr 13), (1, .inl (nI p)), (2, .inl (sumF (M p) i)), (3, .inl (nI i))] [] σ := by
  intro t
  induction t with
  | zero => intro i h1 h2; omega
  | succ t ih =>
    intro i h1 h2
    refine r_iload_n G 14 dX1_sum_14 rfl ?_
    refine r_bipush G 15 (nI 16) dX1_sum_15 (by decide) ?_
    refine b_ge G 17 44 dX1_sum_17 (by decide) (by omega) (by omega) (fun h_17 => ?_) (fun h_17 => ?_)
    · refine r_iload_n G 44 dX1_sum_44 rfl ?_
      exact hR 45 _ _ _ dX1_sum_45 (⟨M, Or.inr ⟨p, 0, 0, 0, ⟨hp, by decide, by decide, by decide, rfl, rfl, rfl, rfl, trivial⟩, by rw [show i = 16 by omega], rfl⟩, hm, fun _ _ => rfl⟩)
    · refine r_iload_n G 20 dX1_sum_20 rfl ?_
      refine r_iload_n G 21 dX1_sum_21 rfl ?_
      refine r_iconst G 22 (nI 1) dX1_sum_22 (by decide) ?_
      refine r_iadd G 23 dX1_sum_23 (nI_add _ _) ?_
      refine r_aload G 24 dX1_sum_24 rfl ?_
      refine r_f16 G 25 dX1_sum_25 ?_
      refine r_bipush G 28 (nI 16) dX1_sum_28 (by decide) ?_
      refine r_iload_n G 30 dX1_sum_30 rfl ?_
      refine r_imul G 31 dX1_sum_31 (pk_mul _ _) ?_
      refine r_iload_n G 32 dX1_sum_32 rfl ?_
      refine r_iadd G 33 dX1_sum_33 (nI_add _ _) ?_
      refine r_ald G 34 192 rfl dX1_sum_34 rfl (by omega) ?_
      rw [hm p hp i h_17]
      refine r_imul G 35 dX1_sum_35 rfl ?_
      refine r_iadd G 36 dX1_sum_36 rfl ?_
      refine r_istore_n G 37 dX1_sum_37 (Nat.le_of_ble_eq_true rfl) ?_
      refine r_iinc G 38 dX1_sum_38 rfl (c_inc _) (Nat.le_of_ble_eq_true rfl) ?_
      refine r_goto G 41 14 dX1_sum_41 (by decide) ?_
      exact r_pick G [0, 1, 2, 3] (ih (i + 1) (by omega) (by omega))
theorem wm_sum (G : xGood l R dC dI ad d RX1 cX1_sum 4 K) (h13 : ∀ x, xCallI cX1_sum K 13 13 1 (Pr_1 x) (Po_is 12 x)) {x : Int32} {M : Mm} {σ : Sg} (hm : mem σ M) (hby : BY M) (hR : xRetI cX1_sum K (Po_M (S_sum x) M [] σ)) : K 0 [(0, .inr 13), (1, .inl x)] [] σ := by
  refine r_aload G 0 dX1_sum_0 rfl ?_
  refine r_iload_n G 1 dX1_sum_1 rfl ?_
  refine c_I1 (h13 x) 2 dX1_sum_2 (Nat.le_of_ble_eq_true rfl) rfl (fun r_2 σ_2 h_2 => ?_)
  obtain ⟨hs2, hb2⟩ := h_2
  rw [hs2]
  refine r_if_ne G 5 10 dX1_sum_5 (by decide) (fun h_5 => ?_) (fun h_5 => ?_)
  · obtain ⟨p, hp, ex⟩ := is_ok hb2 h_5
    subst ex
    refine r_iconst G 10 (nI 0) dX1_sum_10 (by decide) ?_
    refine r_istore_n G 11 dX1_sum_11 (Nat.le_of_ble_eq_true rfl) ?_
    refine r_iconst G 12 (nI 0) dX1_sum_12 (by decide) ?_
    refine r_istore_n G 13 dX1_sum_13 (Nat.le_of_ble_eq_true rfl) ?_
    exact r_pick G [0, 1, 2, 3] (lm_sum G hp hm hR 17 0 (by omega) (by omega))
  · refine r_iconst G 8 (-1) dX1_sum_8 (by decide) ?_
    exact hR 9 _ _ _ dX1_sum_9 (⟨M, S1_bad (nb1 (is_bad hb2 h_5)), hm, fun _ _ => rfl⟩)
end MSUM
abbrev rn_sum : Room := { frames := 1, cells := 0, slots := 0, locals := 21 }
theorem mm_sum (l : Launch) (dC : Nat → ClassId) (dI : Nat → Nat → Nat) (ad : Nat → Nat) (d : ClassId) (x : Int32) (M : Mm) : xMetI l dC dI ad d yX1_sum cX1_sum 4 (some .int) rn_sum 13 1 (Pr_M [x] M) (Po_M (S_sum x) M) :=
  xMetI_of RX1 rfl (by decide) (by decide) (fun K G xs σ _ hp hR => by
    obtain ⟨hp, h1, h2⟩ := hp
    subst hp
    exact wm_sum G (fun x => (x_callI G (mm_isPage l dC dI ad d x) (lw_V q267 q269 qs25 q30 q270) xRec13 (by decide +kernel) rfl rfl ⟨Nat.le_of_ble_eq_true rfl, Nat.le_of_ble_eq_true rfl⟩)) h1 h2 hR)
section MDIFF
variable {l : Launch} {R : Room} {dC : Nat → ClassId} {dI : Nat → Nat → Nat} {ad : Nat → Nat} {d : ClassId} {K : xK}
theorem lm_differ (G : xGood l R dC dI ad d RX1 cX1_differ 4 K) {p q : Nat} {M : Mm} {σ : Sg} (hp : p < 12) (hq : q < 12) (hm : mem σ M) (hR : xRetI cX1_differ K (Po_M (S_differ (nI p) (nI q)) M [] σ)) :
    ∀ t i, i ≤ 16 → 17 ≤ t + i → (∀ j, j < i → M p j = M q j) → K 20 [(0, .inr 13), (1, .inl (nI p)), (2, .inl (nI q)), (3, .inl (nI i))] [] σ := by
  intro t
  induction t with
  | zero => intro i h1 h2; omega
  | succ t ih =>
    intro i h1 h2 hn
    refine r_iload_n G 20 dX1_differ_20 rfl ?_
    refine r_bipush G 21 (nI 16) dX1_differ_21 (by decide) ?_
    refine b_ge G 23 59 dX1_differ_23 (by decide) (by omega) (by omega) (fun h_23 => ?_) (fun h_23 => ?_)
    · refine r_bipush G 59 (-4) dX1_differ_59 (by decide) ?_
      exact hR 61 _ _ _ dX1_differ_61 (⟨M, Or.inr ⟨p, q, 0, 0, ⟨hp, hq, by decide, by decide, rfl, rfl, rfl, rfl, trivial⟩, Or.inl ⟨rfl, fun j hj => hn j (by omega)⟩, rfl⟩, hm, fun _ _ => rfl⟩)
    · refine r_aload G 26 dX1_differ_26 rfl ?_
      refine r_f16 G 27 dX1_differ_27 ?_
      refine r_bipush G 30 (nI 16) dX1_differ_30 (by decide) ?_
      refine r_iload_n G 32 dX1_differ_32 rfl ?_
      refine r_imul G 33 dX1_differ_33 (pk_mul _ _) ?_
      refine r_iload_n G 34 dX1_differ_34 rfl ?_
      refine r_iadd G 35 dX1_differ_35 (nI_add _ _) ?_
      refine r_ald G 36 192 rfl dX1_differ_36 rfl (by omega) ?_
      rw [hm p hp i h_23]
      refine r_aload G 37 dX1_differ_37 rfl ?_
      refine r_f16 G 38 dX1_differ_38 ?_
      refine r_bipush G 41 (nI 16) dX1_differ_41 (by decide) ?_
      refine r_iload_n G 43 dX1_differ_43 rfl ?_
      refine r_imul G 44 dX1_differ_44 (pk_mul _ _) ?_
      refine r_iload_n G 45 dX1_differ_45 rfl ?_
      refine r_iadd G 46 dX1_differ_46 (nI_add _ _) ?_
      refine r_ald G 47 192 rfl dX1_differ_47 rfl (by omega) ?_
      rw [hm q hq i h_23]
      refine r_icmp_eq G 48 53 dX1_differ_48 (by decide) (fun h_48 => ?_) (fun h_48 => ?_)
      · refine r_iinc G 53 dX1_differ_53 rfl (c_inc _) (Nat.le_of_ble_eq_true rfl) ?_
        refine r_goto G 56 20 dX1_differ_56 (by decide) ?_
        exact r_pick G [0, 1, 2, 3] (ih (i + 1) (by omega) (by omega) (fun j hj => by by_cases e : j = i; rw [e]; exact h_48; exact hn j (by omega)))
      · refine r_iload_n G 51 dX1_differ_51 rfl ?_
        exact hR 52 _ _ _ dX1_differ_52 (⟨M, Or.inr ⟨p, q, 0, 0, ⟨hp, hq, by decide, by decide, rfl, rfl, rfl, rfl, trivial⟩, Or.inr ⟨i, h_23, rfl, h_48, hn⟩, rfl⟩, hm, fun _ _ => rfl⟩)
theorem wm_differ (G : xGood l R dC dI ad d RX1 cX1_differ 4 K) (h13 : ∀ x, xCallI cX1_differ K 13 13 1 (Pr_1 x) (Po_is 12 x)) {x y : Int32} {M : Mm} {σ : Sg} (hm : mem σ M) (hby : BY M) (hR : xRetI cX1_differ K (Po_M (S_differ x y) M [] σ)) : K 0 [(0, .inr 13), (1, .inl x), (2, .inl y)] [] σ := by
  refine r_aload G 0 dX1_differ_0 rfl ?_
  refine r_iload_n G 1 dX1_differ_1 rfl ?_
  refine c_I1 (h13 x) 2 dX1_differ_2 (Nat.le_of_ble_eq_true rfl) rfl (fun r_2 σ_2 h_2 => ?_)
  obtain ⟨hs2, hb2⟩ := h_2
  rw [hs2]
  refine r_if_eq G 5 16 dX1_differ_5 (by decide) (fun h_5 => ?_) (fun h_5 => ?_)
  · refine r_iconst G 16 (-1) dX1_differ_16 (by decide) ?_
    exact hR 17 _ _ _ dX1_differ_17 (⟨M, S1_bad (nb1 (is_bad hb2 h_5)), hm, fun _ _ => rfl⟩)
  · refine r_aload G 8 dX1_differ_8 rfl ?_
    refine r_iload_n G 9 dX1_differ_9 rfl ?_
    refine c_I1 (h13 y) 10 dX1_differ_10 (Nat.le_of_ble_eq_true rfl) rfl (fun r_10 σ_10 h_10 => ?_)
    obtain ⟨hs10, hb10⟩ := h_10
    rw [hs10]
    refine r_if_ne G 13 18 dX1_differ_13 (by decide) (fun h_13 => ?_) (fun h_13 => ?_)
    · obtain ⟨p, hp, ex⟩ := is_ok hb2 h_5
      obtain ⟨q, hq, ey⟩ := is_ok hb10 h_13
      subst ex; subst ey
      refine r_iconst G 18 (nI 0) dX1_differ_18 (by decide) ?_
      refine r_istore_n G 19 dX1_differ_19 (Nat.le_of_ble_eq_true rfl) ?_
      exact r_pick G [0, 1, 2, 3] (lm_differ G hp hq hm hR 17 0 (by omega) (by omega) (fun j hj => absurd hj (by omega)))
    · refine r_iconst G 16 (-1) dX1_differ_16 (by decide) ?_
      exact hR 17 _ _ _ dX1_differ_17 (⟨M, S1_bad (nb2 (is_bad hb10 h_13)), hm, fun _ _ => rfl⟩)
end MDIFF
abbrev rn_differ : Room := { frames := 1, cells := 0, slots := 0, locals := 21 }
theorem mm_differ (l : Launch) (dC : Nat → ClassId) (dI : Nat → Nat → Nat) (ad : Nat → Nat) (d : ClassId) (x y : Int32) (M : Mm) : xMetI l dC dI ad d yX1_differ cX1_differ 4 (some .int) rn_differ 13 2 (Pr_M [x, y] M) (Po_M (S_differ x y) M) :=
  xMetI_of RX1 rfl (by decide) (by decide) (fun K G xs σ _ hp hR => by
    obtain ⟨hp, h1, h2⟩ := hp
    subst hp
    exact wm_differ G (fun x => (x_callI G (mm_isPage l dC dI ad d x) (lw_V q267 q269 qs25 q30 q270) xRec13 (by decide +kernel) rfl rfl ⟨Nat.le_of_ble_eq_true rfl, Nat.le_of_ble_eq_true rfl⟩)) h1 h2 hR)
section MFIND
variable {l : Launch} {R : Room} {dC : Nat → ClassId} {dI : Nat → Nat → Nat} {ad : Nat → Nat} {d : ClassId} {K : xK}
theorem lm_find (G : xGood l R dC dI ad d RX1 cX1_find 5 K) {p a v : Nat} {M : Mm} {σ : Sg} (hp : p < 12) (ha : a < 16) (hv : v < 256) (hm : mem σ M) (hR : xRetI cX1_find K (Po_M (S_find (nI p) (nI a) (nI v)) M [] σ)) :
    ∀ t i, i ≤ 16 → 17 ≤ t + i → a ≤ i → (∀ j, a ≤ j → j < i → M p j ≠ nI v) → K 29 [(0, .inr 13), (1, .inl (nI p)), (2, .inl (nI a)), (3, .inl (nI v)), (4, .inl (nI i))] [] σ := by
  intro t
  induction t with
  | zero => intro i h1 h2; omega
  | succ t ih =>
    intro i h1 h2 h3 hn
    refine r_iload G 29 dX1_find_29 rfl ?_
    refine r_bipush G 31 (nI 16) dX1_find_31 (by decide) ?_
    refine b_ge G 33 61 dX1_find_33 (by decide) (by omega) (by omega) (fun h_33 => ?_) (fun h_33 => ?_)
    · refine r_bipush G 61 (-4) dX1_find_61 (by decide) ?_
      exact hR 63 _ _ _ dX1_find_63 (⟨M, Or.inr ⟨p, a, v, 0, ⟨hp, ha, hv, by decide, rfl, rfl, rfl, rfl, trivial⟩, Or.inl ⟨rfl, fun j q1 q2 => hn j q1 (by omega)⟩, rfl⟩, hm, fun _ _ => rfl⟩)
    · refine r_aload G 36 dX1_find_36 rfl ?_
      refine r_f16 G 37 dX1_find_37 ?_
      refine r_bipush G 40 (nI 16) dX1_find_40 (by decide) ?_
      refine r_iload_n G 42 dX1_find_42 rfl ?_
      refine r_imul G 43 dX1_find_43 (pk_mul _ _) ?_
      refine r_iload G 44 dX1_find_44 rfl ?_
      refine r_iadd G 46 dX1_find_46 (nI_add _ _) ?_
      refine r_ald G 47 192 rfl dX1_find_47 rfl (by omega) ?_
      rw [hm p hp i h_33]
      refine r_iload_n G 48 dX1_find_48 rfl ?_
      refine r_icmp_ne G 49 55 dX1_find_49 (by decide) (fun h_49 => ?_) (fun h_49 => ?_)
      · refine r_iinc G 55 dX1_find_55 rfl (c_inc _) (Nat.le_of_ble_eq_true rfl) ?_
        refine r_goto G 58 29 dX1_find_58 (by decide) ?_
        exact r_pick G [0, 1, 2, 3, 4] (ih (i + 1) (by omega) (by omega) (by omega) (fun j q1 q2 => by by_cases e : j = i; rw [e]; exact h_49; exact hn j q1 (by omega)))
      · refine r_iload G 52 dX1_find_52 rfl ?_
        exact hR 54 _ _ _ dX1_find_54 (⟨M, Or.inr ⟨p, a, v, 0, ⟨hp, ha, hv, by decide, rfl, rfl, rfl, rfl, trivial⟩, Or.inr ⟨i, h3, h_33, rfl, h_49, hn⟩, rfl⟩, hm, fun _ _ => rfl⟩)
theorem wm_find (G : xGood l R dC dI ad d RX1 cX1_find 5 K) (h13 : ∀ x, xCallI cX1_find K 13 13 1 (Pr_1 x) (Po_is 12 x)) (h17 : ∀ x, xCallI cX1_find K 17 13 1 (Pr_1 x) (Po_is 16 x)) (h20 : ∀ x, xCallI cX1_find K 20 13 1 (Pr_1 x) (Po_is 256 x)) {x y z : Int32} {M : Mm} {σ : Sg} (hm : mem σ M) (hby : BY M) (hR : xRetI cX1_find K (Po_M (S_find x y z) M [] σ)) : K 0 [(0, .inr 13), (1, .inl x), (2, .inl y), (3, .inl z)] [] σ := by
  refine r_aload G 0 dX1_find_0 rfl ?_
  refine r_iload_n G 1 dX1_find_1 rfl ?_
  refine c_I1 (h13 x) 2 dX1_find_2 (Nat.le_of_ble_eq_true rfl) rfl (fun r_2 σ_2 h_2 => ?_)
  obtain ⟨hs2, hb2⟩ := h_2
  rw [hs2]
  refine r_if_eq G 5 24 dX1_find_5 (by decide) (fun h_5 => ?_) (fun h_5 => ?_)
  · refine r_iconst G 24 (-1) dX1_find_24 (by decide) ?_
    exact hR 25 _ _ _ dX1_find_25 (⟨M, S1_bad (nb1 (is_bad hb2 h_5)), hm, fun _ _ => rfl⟩)
  · refine r_aload G 8 dX1_find_8 rfl ?_
    refine r_iload_n G 9 dX1_find_9 rfl ?_
    refine c_I1 (h17 y) 10 dX1_find_10 (Nat.le_of_ble_eq_true rfl) rfl (fun r_10 σ_10 h_10 => ?_)
    obtain ⟨hs10, hb10⟩ := h_10
    rw [hs10]
    refine r_if_eq G 13 24 dX1_find_13 (by decide) (fun h_13 => ?_) (fun h_13 => ?_)
    · refine r_iconst G 24 (-1) dX1_find_24 (by decide) ?_
      exact hR 25 _ _ _ dX1_find_25 (⟨M, S1_bad (nb2 (is_bad hb10 h_13)), hm, fun _ _ => rfl⟩)
    · refine r_aload G 16 dX1_find_16 rfl ?_
      refine r_iload_n G 17 dX1_find_17 rfl ?_
      refine c_I1 (h20 z) 18 dX1_find_18 (Nat.le_of_ble_eq_true rfl) rfl (fun r_18 σ_18 h_18 => ?_)
      obtain ⟨hs18, hb18⟩ := h_18
      rw [hs18]
      refine r_if_ne G 21 26 dX1_find_21 (by decide) (fun h_21 => ?_) (fun h_21 => ?_)
      · obtain ⟨p, hp, ex⟩ := is_ok hb2 h_5
        obtain ⟨a, ha, ey⟩ := is_ok hb10 h_13
        obtain ⟨v, hv, ez⟩ := is_ok hb18 h_21
        subst ex; subst ey; subst ez
        refine r_iload_n G 26 dX1_find_26 rfl ?_
        refine r_istore G 27 dX1_find_27 (Nat.le_of_ble_eq_true rfl) ?_
        exact r_pick G [0, 1, 2, 3, 4] (lm_find G hp ha hv hm hR 17 a (by omega) (by omega) (Nat.le_refl _) (fun j q1 q2 => absurd q1 (by omega)))
      · refine r_iconst G 24 (-1) dX1_find_24 (by decide) ?_
        exact hR 25 _ _ _ dX1_find_25 (⟨M, S1_bad (nb3 (is_bad hb18 h_21)), hm, fun _ _ => rfl⟩)
end MFIND
abbrev rn_find : Room := { frames := 1, cells := 0, slots := 0, locals := 21 }
theorem mm_find (l : Launch) (dC : Nat → ClassId) (dI : Nat → Nat → Nat) (ad : Nat → Nat) (d : ClassId) (x y z : Int32) (M : Mm) : xMetI l dC dI ad d yX1_find cX1_find 5 (some .int) rn_find 13 3 (Pr_M [x, y, z] M) (Po_M (S_find x y z) M) :=
  xMetI_of RX1 rfl (by decide) (by decide) (fun K G xs σ _ hp hR => by
    obtain ⟨hp, h1, h2⟩ := hp
    subst hp
    exact wm_find G (fun x => (x_callI G (mm_isPage l dC dI ad d x) (lw_V q267 q269 qs25 q30 q270) xRec13 (by decide +kernel) rfl rfl ⟨Nat.le_of_ble_eq_true rfl, Nat.le_of_ble_eq_true rfl⟩)) (fun x => (x_callI G (mm_isPlace l dC dI ad d x) (lw_V q271 q273 qs26 q30 q274) xRec13 (by decide +kernel) rfl rfl ⟨Nat.le_of_ble_eq_true rfl, Nat.le_of_ble_eq_true rfl⟩)) (fun x => (x_callI G (mm_isByte l dC dI ad d x) (lw_V q275 q277 qs27 q30 q278) xRec13 (by decide +kernel) rfl rfl ⟨Nat.le_of_ble_eq_true rfl, Nat.le_of_ble_eq_true rfl⟩)) h1 h2 hR)
theorem sum_e {p : Nat} {M M' : Mm} {r : Int32} (hp : p < 12) (h : S_sum (nI p) M r M') : r = sumF (M p) 16 ∧ M' = M := by
  rcases h with ⟨h1, h2, h3⟩ | ⟨p', j, k, n, g, h1, h2⟩
  · exact absurd ⟨p, 0, 0, 0, hp, by decide, by decide, by decide, rfl, rfl, rfl, rfl, trivial⟩ h1
  · have e := nI_inj (by omega) (by have := g.1; omega) g.2.2.2.2.1
    subst e
    exact ⟨h1, h2⟩
theorem differ_e {p q : Nat} {M M' : Mm} {r : Int32} (hp : p < 12) (hq : q < 12) (h : S_differ (nI p) (nI q) M r M') : isFD (M p) (M q) r ∧ M' = M := by
  rcases h with ⟨h1, h2, h3⟩ | ⟨p', q', k, n, g, h1, h2⟩
  · exact absurd ⟨p, q, 0, 0, hp, hq, by decide, by decide, rfl, rfl, rfl, rfl, trivial⟩ h1
  · have e := nI_inj (by omega) (by have := g.1; omega) g.2.2.2.2.1
    have e' := nI_inj (by omega) (by have := g.2.1; omega) g.2.2.2.2.2.1
    subst e; subst e'
    exact ⟨h1, h2⟩
theorem sum_n {X : Nat → Int32} (h : ∀ i, i < 16 → ∃ b, b < 256 ∧ X i = nI b) : ∀ n, n ≤ 16 → ∃ s, s ≤ n * 4096 ∧ sumF X n = nI s ∧ (s = 0 ↔ ∀ i, i < n → X i = 0) := by
  intro n
  induction n with
  | zero => intro _; exact ⟨0, by decide, nI_z.symm, fun _ i hi => absurd hi (Nat.not_lt_zero _), fun _ => rfl⟩
  | succ n ih =>
    intro hn
    obtain ⟨s, h1, h2, h3⟩ := ih (by omega)
    obtain ⟨b, hb, eb⟩ := h n (by omega)
    have hmul : (n + 1) * b ≤ 16 * 255 := Nat.mul_le_mul (by omega) (by omega)
    refine ⟨s + (n + 1) * b, by omega, ?_, fun e i hi => ?_, fun e => ?_⟩
    · show sumF X n + nI (n + 1) * X n = _
      rw [h2, eb, pk_mul, nI_add]
    · have hs : s = 0 := by omega
      have hz : (n + 1) * b = 0 := by omega
      have hb0 : b = 0 := by
        rcases Nat.mul_eq_zero.mp hz with z | z
        · omega
        · exact z
      by_cases q : i = n
      · rw [q, eb, hb0]; exact nI_z
      · exact (h3.mp hs) i (by omega)
    · have hs : s = 0 := h3.mpr (fun i hi => e i (by omega))
      have hb0 : b = 0 := nI_inj (by omega) (by omega) ((eb.symm.trans (e n (by omega))).trans nI_z.symm)
      rw [hs, hb0]; rfl
theorem sum_z {X : Nat → Int32} (h : ∀ i, i < 16 → ∃ b, b < 256 ∧ X i = nI b) : sumF X 16 = 0 ↔ ∀ i, i < 16 → X i = 0 := by
  obtain ⟨s, h1, h2, h3⟩ := sum_n h 16 (Nat.le_refl _)
  rw [h2, ← h3]
  exact ⟨fun e => nI_inj (by omega) (by omega) (e.trans nI_z.symm), fun e => by rw [e]; exact nI_z⟩
theorem nz_of {X : Nat → Int32} (h : ¬ ∀ i, i < 16 → X i = 0) : pg_nz X := by
  refine Classical.byContradiction (fun hn => h (fun i hi => Classical.byContradiction (fun z => hn ⟨i, hi, z⟩)))
section MBLANK
variable {l : Launch} {R : Room} {dC : Nat → ClassId} {dI : Nat → Nat → Nat} {ad : Nat → Nat} {d : ClassId} {K : xK}
theorem lm_blank (G : xGood l R dC dI ad d RX1 cX1_blank 3 K) (hS : ∀ x M, xCallI cX1_blank K 23 13 1 (Pr_M [x] M) (Po_M (S_sum x) M)) {M : Mm} {σ0 : Sg} (hby : BY M) (hR : xRetI cX1_blank K (Po_M S_blank M [] σ0)) :
    ∀ t p σ, p ≤ 12 → 13 ≤ t + p → mem σ M → (∀ k, k ≠ 16 → σ k = σ0 k) → K 4 [(0, .inr 13), (1, .inl (nI (cntB M p))), (2, .inl (nI p))] [] σ := by
  intro t
  induction t with
  | zero => intro p σ h1 h2; omega
  | succ t ih =>
    intro p σ h1 h2 hm hk
    have hle := cntB_le M p
    refine r_iload_n G 4 dX1_blank_4 rfl ?_
    refine r_bipush G 5 (nI 12) dX1_blank_5 (by decide) ?_
    refine b_ge G 7 27 dX1_blank_7 (by decide) (by omega) (by omega) (fun h_7 => ?_) (fun h_7 => ?_)
    · refine r_iload_n G 27 dX1_blank_27 rfl ?_
      exact hR 28 _ _ _ dX1_blank_28 (⟨M, ⟨by rw [show p = 12 by omega], rfl⟩, hm, hk⟩)
    · refine r_aload G 10 dX1_blank_10 rfl ?_
      refine r_iload_n G 11 dX1_blank_11 rfl ?_
      refine c_I1 (hS (nI p) M) 12 dX1_blank_12 (Nat.le_of_ble_eq_true rfl) ⟨rfl, hm, hby⟩ (fun r_12 σ_12 h_12 => ?_)
      obtain ⟨M2, hs12, hm2, hk2⟩ := h_12
      obtain ⟨er, eM⟩ := sum_e h_7 hs12
      subst eM
      have ht := ih (p + 1) σ_12 (by omega) (by omega) hm2 (fun k hk' => (hk2 k hk').trans (hk k hk'))
      refine r_if_ne G 15 21 dX1_blank_15 (by decide) (fun h_15 => ?_) (fun h_15 => ?_)
      · refine r_iinc G 21 dX1_blank_21 rfl (c_inc _) (Nat.le_of_ble_eq_true rfl) ?_
        refine r_goto G 24 4 dX1_blank_24 (by decide) ?_
        have nz : pg_nz (M2 p) := nz_of (fun z => h_15 (er.trans ((sum_z (hby p h_7)).mpr z)))
        rw [show cntB M2 (p + 1) = cntB M2 p from congrArg (cntB M2 p + ·) (bl1_0 nz)] at ht
        exact r_pick G [0, 1, 2] ht
      · refine r_iinc G 18 dX1_blank_18 rfl (c_inc _) (Nat.le_of_ble_eq_true rfl) ?_
        refine r_iinc G 21 dX1_blank_21 rfl (c_inc _) (Nat.le_of_ble_eq_true rfl) ?_
        refine r_goto G 24 4 dX1_blank_24 (by decide) ?_
        have hz := (sum_z (hby p h_7)).mp (er.symm.trans h_15)
        rw [show cntB M2 (p + 1) = cntB M2 p + 1 from congrArg (cntB M2 p + ·) (bl1_1 hz)] at ht
        exact r_pick G [0, 1, 2] ht
theorem wm_blank (G : xGood l R dC dI ad d RX1 cX1_blank 3 K) (hS : ∀ x M, xCallI cX1_blank K 23 13 1 (Pr_M [x] M) (Po_M (S_sum x) M)) {M : Mm} {σ : Sg} (hm : mem σ M) (hby : BY M) (hR : xRetI cX1_blank K (Po_M (S_blank) M [] σ)) : K 0 [(0, .inr 13)] [] σ := by
  refine r_iconst G 0 (nI 0) dX1_blank_0 (by decide) ?_
  refine r_istore_n G 1 dX1_blank_1 (Nat.le_of_ble_eq_true rfl) ?_
  refine r_iconst G 2 (nI 0) dX1_blank_2 (by decide) ?_
  refine r_istore_n G 3 dX1_blank_3 (Nat.le_of_ble_eq_true rfl) ?_
  exact r_pick G [0, 1, 2] (lm_blank (σ0 := σ) G hS hby hR 13 0 σ (by omega) (by omega) hm (fun _ _ => rfl))
end MBLANK
abbrev rn_blank : Room := { frames := 2, cells := 0, slots := 0, locals := 44 }
theorem mm_blank (l : Launch) (dC : Nat → ClassId) (dI : Nat → Nat → Nat) (ad : Nat → Nat) (d : ClassId) (M : Mm) : xMetI l dC dI ad d yX1_blank cX1_blank 3 (some .int) rn_blank 13 0 (Pr_M [] M) (Po_M (S_blank) M) :=
  xMetI_of RX1 rfl (by decide) (by decide) (fun K G xs σ _ hp hR => by
    obtain ⟨hp, h1, h2⟩ := hp
    subst hp
    exact wm_blank G (fun x M => (x_callI G (mm_sum l dC dI ad d x M) (lw_V q323 q308 q309 q30 q310) xRec13 (by decide +kernel) rfl rfl ⟨Nat.le_of_ble_eq_true rfl, Nat.le_of_ble_eq_true rfl⟩)) h1 h2 hR)
section MTWIN
variable {l : Launch} {R : Room} {dC : Nat → ClassId} {dI : Nat → Nat → Nat} {ad : Nat → Nat} {d : ClassId} {K : xK}
theorem lm_twin (G : xGood l R dC dI ad d RX1 cX1_twin 3 K) (hDf : ∀ x y M, xCallI cX1_twin K 27 13 2 (Pr_M [x, y] M) (Po_M (S_differ x y) M)) {p : Nat} {M : Mm} {σ0 : Sg} (hp : p < 12) (hby : BY M) (hR : xRetI cX1_twin K (Po_M (S_twin (nI p)) M [] σ0)) :
    ∀ t q σ, q ≤ 12 → 13 ≤ t + q → mem σ M → (∀ k, k ≠ 16 → σ k = σ0 k) → (∀ s, s < q → s ≠ p → ¬ eqR (M p) (M s)) → K 12 [(0, .inr 13), (1, .inl (nI p)), (2, .inl (nI q))] [] σ := by
  intro t
  induction t with
  | zero => intro q σ h1 h2; omega
  | succ t ih =>
    intro q σ h1 h2 hm hk hn
    refine r_iload_n G 12 dX1_twin_12 rfl ?_
    refine r_bipush G 13 (nI 12) dX1_twin_13 (by decide) ?_
    refine b_ge G 15 42 dX1_twin_15 (by decide) (by omega) (by omega) (fun h_15 => ?_) (fun h_15 => ?_)
    · refine r_bipush G 42 (-4) dX1_twin_42 (by decide) ?_
      exact hR 44 _ _ _ dX1_twin_44 (⟨M, Or.inr ⟨p, 0, 0, 0, ⟨hp, by decide, by decide, by decide, rfl, rfl, rfl, rfl, trivial⟩, Or.inl ⟨rfl, fun s hs => hn s (by omega)⟩, rfl⟩, hm, hk⟩)
    · refine r_iload_n G 18 dX1_twin_18 rfl ?_
      refine r_iload_n G 19 dX1_twin_19 rfl ?_
      refine b_eq G 20 36 dX1_twin_20 (by decide) (by omega) (by omega) (fun h_20 => ?_) (fun h_20 => ?_)
      · refine r_iinc G 36 dX1_twin_36 rfl (c_inc _) (Nat.le_of_ble_eq_true rfl) ?_
        refine r_goto G 39 12 dX1_twin_39 (by decide) ?_
        exact r_pick G [0, 1, 2] (ih (q + 1) σ (by omega) (by omega) hm hk (fun s hs hsp => hn s (by omega) hsp))
      · refine r_aload G 23 dX1_twin_23 rfl ?_
        refine r_iload_n G 24 dX1_twin_24 rfl ?_
        refine r_iload_n G 25 dX1_twin_25 rfl ?_
        refine c_I2 (hDf (nI p) (nI q) M) 26 dX1_twin_26 (Nat.le_of_ble_eq_true rfl) ⟨rfl, hm, hby⟩ (fun r_26 σ_26 h_26 => ?_)
        obtain ⟨M2, hs26, hm2, hk2⟩ := h_26
        obtain ⟨hfd, eM⟩ := differ_e hp h_15 hs26
        subst eM
        refine r_bipush G 29 (-4) dX1_twin_29 (by decide) ?_
        refine r_icmp_ne G 31 36 dX1_twin_31 (by decide) (fun h_31 => ?_) (fun h_31 => ?_)
        · refine r_iinc G 36 dX1_twin_36 rfl (c_inc _) (Nat.le_of_ble_eq_true rfl) ?_
          refine r_goto G 39 12 dX1_twin_39 (by decide) ?_
          exact r_pick G [0, 1, 2] (ih (q + 1) σ_26 (by omega) (by omega) hm2 (fun k hk' => (hk2 k hk').trans (hk k hk')) (fun s hs hsp => by by_cases e : s = q; rw [e]; exact fun z => h_31 ((fd_eq hfd).mpr z); exact hn s (by omega) hsp))
        · refine r_iload_n G 34 dX1_twin_34 rfl ?_
          exact hR 35 _ _ _ dX1_twin_35 (⟨M2, Or.inr ⟨p, 0, 0, 0, ⟨hp, by decide, by decide, by decide, rfl, rfl, rfl, rfl, trivial⟩, Or.inr ⟨q, h_15, h_20, rfl, (fd_eq hfd).mp h_31, hn⟩, rfl⟩, hm2, fun k hk' => (hk2 k hk').trans (hk k hk')⟩)
theorem wm_twin (G : xGood l R dC dI ad d RX1 cX1_twin 3 K) (h13 : ∀ x, xCallI cX1_twin K 13 13 1 (Pr_1 x) (Po_is 12 x)) (hDf : ∀ x y M, xCallI cX1_twin K 27 13 2 (Pr_M [x, y] M) (Po_M (S_differ x y) M)) {x : Int32} {M : Mm} {σ : Sg} (hm : mem σ M) (hby : BY M) (hR : xRetI cX1_twin K (Po_M (S_twin x) M [] σ)) : K 0 [(0, .inr 13), (1, .inl x)] [] σ := by
  refine r_aload G 0 dX1_twin_0 rfl ?_
  refine r_iload_n G 1 dX1_twin_1 rfl ?_
  refine c_I1 (h13 x) 2 dX1_twin_2 (Nat.le_of_ble_eq_true rfl) rfl (fun r_2 σ_2 h_2 => ?_)
  obtain ⟨hs2, hb2⟩ := h_2
  rw [hs2]
  refine r_if_ne G 5 10 dX1_twin_5 (by decide) (fun h_5 => ?_) (fun h_5 => ?_)
  · obtain ⟨p, hp, ex⟩ := is_ok hb2 h_5
    subst ex
    refine r_iconst G 10 (nI 0) dX1_twin_10 (by decide) ?_
    refine r_istore_n G 11 dX1_twin_11 (Nat.le_of_ble_eq_true rfl) ?_
    exact r_pick G [0, 1, 2] (lm_twin (σ0 := σ) G hDf hp hby hR 13 0 σ (by omega) (by omega) hm (fun _ _ => rfl) (fun s hs => absurd hs (by omega)))
  · refine r_iconst G 8 (-1) dX1_twin_8 (by decide) ?_
    exact hR 9 _ _ _ dX1_twin_9 (⟨M, S1_bad (nb1 (is_bad hb2 h_5)), hm, fun _ _ => rfl⟩)
end MTWIN
abbrev rn_twin : Room := { frames := 2, cells := 0, slots := 0, locals := 44 }
theorem mm_twin (l : Launch) (dC : Nat → ClassId) (dI : Nat → Nat → Nat) (ad : Nat → Nat) (d : ClassId) (x : Int32) (M : Mm) : xMetI l dC dI ad d yX1_twin cX1_twin 3 (some .int) rn_twin 13 1 (Pr_M [x] M) (Po_M (S_twin x) M) :=
  xMetI_of RX1 rfl (by decide) (by decide) (fun K G xs σ _ hp hR => by
    obtain ⟨hp, h1, h2⟩ := hp
    subst hp
    exact wm_twin G (fun x => (x_callI G (mm_isPage l dC dI ad d x) (lw_V q267 q269 qs25 q30 q270) xRec13 (by decide +kernel) rfl rfl ⟨Nat.le_of_ble_eq_true rfl, Nat.le_of_ble_eq_true rfl⟩)) (fun x y M => (x_callI G (mm_differ l dC dI ad d x y M) (lw_V q328 q312 q313 q30 q314) xRec13 (by decide +kernel) rfl rfl ⟨Nat.le_of_ble_eq_true rfl, Nat.le_of_ble_eq_true rfl⟩)) h1 h2 hR)
section MAWAY
variable {l : Launch} {R : Room} {dC : Nat → ClassId} {dI : Nat → Nat → Nat} {ad : Nat → Nat} {d : ClassId} {K : xK}
theorem wm_away (G : xGood l R dC dI ad d RX1 cX1_away 2 K) (h13 : ∀ x, xCallI cX1_away K 13 13 1 (Pr_1 x) (Po_is 12 x)) {x : Int32} {M : Mm} {σ : Sg} (hm : mem σ M) (hby : BY M) (hR : xRetI cX1_away K (Po_M (S_away x) M [] σ)) : K 0 [(0, .inr 13), (1, .inl x)] [] σ := by
  refine r_aload G 0 dX1_away_0 rfl ?_
  refine r_iload_n G 1 dX1_away_1 rfl ?_
  refine c_I1 (h13 x) 2 dX1_away_2 (Nat.le_of_ble_eq_true rfl) rfl (fun r_2 σ_2 h_2 => ?_)
  obtain ⟨hs2, hb2⟩ := h_2
  rw [hs2]
  refine r_if_eq G 5 12 dX1_away_5 (by decide) (fun h_5 => ?_) (fun h_5 => ?_)
  · refine r_iconst G 12 (-1) dX1_away_12 (by decide) ?_
    exact hR 13 _ _ _ dX1_away_13 (⟨M, S1_bad (nb1 (is_bad hb2 h_5)), hm, fun _ _ => rfl⟩)
  · obtain ⟨p, hp, ex⟩ := is_ok hb2 h_5
    subst ex
    refine r_iconst G 8 (nI 0) dX1_away_8 (by decide) ?_
    refine r_goto G 9 13 dX1_away_9 (by decide) ?_
    exact hR 13 _ _ _ dX1_away_13 (⟨M, Or.inr ⟨p, 0, 0, 0, ⟨hp, by decide, by decide, by decide, rfl, rfl, rfl, rfl, trivial⟩, rfl, rfl⟩, hm, fun _ _ => rfl⟩)
theorem wm_flush (G : xGood l R dC dI ad d RX1 cX1_flush 2 K) {x : Int32} {σ : Sg} (hR : xRetV cX1_flush K (fun σ' => σ' = σ)) : K 0 [(0, .inr 13), (1, .inl x)] [] σ := by
  exact hR 0 _ _ dX1_flush_0 (rfl)
theorem wm_rest (G : xGood l R dC dI ad d RX1 cX1_rest 2 K) {x : Int32} {σ : Sg} (hR : xRetV cX1_rest K (fun σ' => σ' = σ)) : K 0 [(0, .inr 13), (1, .inl x)] [] σ := by
  exact hR 0 _ _ dX1_rest_0 (rfl)
end MAWAY
abbrev rn_away : Room := { frames := 1, cells := 0, slots := 0, locals := 21 }
theorem mm_away (l : Launch) (dC : Nat → ClassId) (dI : Nat → Nat → Nat) (ad : Nat → Nat) (d : ClassId) (x : Int32) (M : Mm) : xMetI l dC dI ad d yX1_away cX1_away 2 (some .int) rn_away 13 1 (Pr_M [x] M) (Po_M (S_away x) M) :=
  xMetI_of RX1 rfl (by decide) (by decide) (fun K G xs σ _ hp hR => by
    obtain ⟨hp, h1, h2⟩ := hp
    subst hp
    exact wm_away G (fun x => (x_callI G (mm_isPage l dC dI ad d x) (lw_V q267 q269 qs25 q30 q270) xRec13 (by decide +kernel) rfl rfl ⟨Nat.le_of_ble_eq_true rfl, Nat.le_of_ble_eq_true rfl⟩)) h1 h2 hR)
def Po_same : List Int32 → Sg → Sg → Prop := fun _ σ σ' => σ' = σ
theorem mm_flush (l : Launch) (dC : Nat → ClassId) (dI : Nat → Nat → Nat) (ad : Nat → Nat) (d : ClassId) (x : Int32) : xMetV l dC dI ad d yX1_flush cX1_flush 2 rmz 13 1 (Pr_1 x) Po_same :=
  xMetV_of RX1 rfl (by decide) (by decide) (fun K G xs σ _ hp hR => by
    have hp : xs = [x] := hp
    subst hp; exact wm_flush G hR)
theorem mm_rest (l : Launch) (dC : Nat → ClassId) (dI : Nat → Nat → Nat) (ad : Nat → Nat) (d : ClassId) (x : Int32) : xMetV l dC dI ad d yX1_rest cX1_rest 2 rmz 13 1 (Pr_1 x) Po_same :=
  xMetV_of RX1 rfl (by decide) (by decide) (fun K G xs σ _ hp hR => by
    have hp : xs = [x] := hp
    subst hp; exact wm_rest G hR)
end
section
/-! THE CLAIM OUT OF ONE WALK OF THE LAW'S BODY. Your part is whole_start (and what it stands on); all else here is the same for every law, but numbers. -/
def R_law : String := "CompressedSwapLaw"
def lw_P (b : Addr) (xs : List Int32) (args : Array Value) (s : State) : Prop := args = #[.ref b] ∧ s.IntsAt b xs ∧ xs.length ≤ 320 ∧ (Jvm.Cond.and given_1 narrow_1).before args s = true
def lw_Q (_ : Array Value) (s : State) (o : Outcome) (t : State) : Prop := o = .returned (some (.int 1)) ∧ Framed s o t [] 600000 7290000
def lw_Z (below : List Frame) (a : Array Value) (s : State) : State → Prop := fun t => ∃ o, t.status = .running ∧ Ended t below o ∧ lw_Q a s o t
/-- the law's own end, with 1 on the stack, nothing written that was there before, its room as the claim has it -/
theorem lw_ret {p : Program} {l : Launch} {e : Env} {s : State} {m : MethodId} {below : List Frame} {meth : Method} {c : Code} {b : Nat} (hx : p.tables.exec = Jvm.exec) (hb : c.code = code) (hr : meth.sig.returnType = ret) (hlocks : meth.locks = false) {pc : Nat} {H : Heap} {ls : Array Slot} (hdg : decode code pc = .ok (.ireturn, 1)) : W p l e room_1 s m #[Value.ref b] below meth c H [] 600000 7290000 (lw_Z below #[Value.ref b] s) (F0 m pc ls [.int 1]) := by
  intro T hT X
  obtain ⟨fs, hret, hrun, hended, hW, hframe⟩ := X.leave (v := some (.int 1)) (hlocks := hlocks) (fun h => by rw [hr] at h; cases h)
  have hmeth' : T.vm.method? m = some meth := X.method'
  refine ⟨T.setFrames fs, ?_, .returned (some (.int 1)), hrun, hended, rfl, ⟨_, rfl⟩, hW, hframe⟩
  jvm_step X.here [X.here.top, hx, hb, hdg, hmeth', hr, ret, narrow_b1]
  (try refine ⟨rfl, ?_⟩); (try refine ⟨rfl, ?_⟩)
  first | (intro acts; rw [hret _ acts rfl rfl rfl]) | rw [hret _ _ rfl rfl rfl]
  exact Steps.refl _
/-- what holds at the law's entry: the machine, the code, the tables' words (any of lw_tbl by 'hts w (by decide +kernel)'), the script of L ints xs at the cell b, what the Statement gives of the start (any of its parts by flat_of_before) -/
def lw_At (p : Program) (s : State) (m : MethodId) (meth : Method) (c : Code) (b L : Nat) (xs : Nat → Int32) : Prop :=
  p.tables.exec = Jvm.exec ∧ c.code = code ∧ meth.sig.returnType = ret ∧ c.maxLocals = 4 ∧ s.vm.findClass R_law = some m.cls ∧ (∀ w ∈ lw_tbl, w.before #[Value.ref b] s = true) ∧ va_X b L xs s s.heap ∧ b < s.heap.size ∧ meth.locks = false ∧ (Jvm.Cond.and given_1 narrow_1).before #[Value.ref b] s = true
end
section
/-! THE CONSTRUCTORS, printed by gen45.py -/
theorem x_cls {D : va_G} {cl : List vw_C} {tys : List (ClassId × FieldType)} {s : State} {c1 c2 : ClassId} {i j : Nat} (hK : va_K D cl tys s) (h1 : tys[i]? = some (c1, .int)) (h2 : tys[j]? = some (c2, .int)) : c1 = c2 := by
  have e1 : s.vm.findClass ("[" ++ FieldType.int.toString) = some c1 := (hK.2 i _ h1).2
  have e2 : s.vm.findClass ("[" ++ FieldType.int.toString) = some c2 := (hK.2 j _ h2).2
  rw [e1] at e2
  exact Option.some.inj e2
section NEWD
variable {p : Program} {l : Launch} {e : Env} {R : Room} {s : State} {m : MethodId} {args : Array Value} {below : List Frame} {meth : Method} {c : Code} {H : Heap} {locs : List Loc} {cells slots : Nat} {Q : State → Prop}
variable {cc : ByteArray} {pc : Nat} {ls : Array Slot} {rest : List Value} {D : va_G} {cl : List vw_C} {A : Nat → Prop} {ws : va_W} {H0 : Heap}
/-- a new array of ints; its class is the one that is known -/
theorem x_newd (hx : p.tables.exec = Jvm.exec) (hb : c.code = cc) (harr : (Cond.arrayClass .int).before args s = true) {d : ClassId} (hK : va_K D cl [(d, .int)] s) (hP : va_P D cl ws H) (hD : va_D A ws) (hS : va_S A H0 H locs) (hA : ∀ q, H0.size ≤ q → A q) {n : Int32} {N : Nat} (hn : ¬ n < 0) (hN : n.toNatClampNeg = N) (hbytes : N * componentBytes .int ≤ 536870912) (hcells : cells + 1 ≤ R.cells) (hslots : slots + N ≤ R.slots) (hdg : decode cc pc = .ok (.newarray .int, 2))
    (kk : ∀ (q : Nat) (H1 : Heap), va_P D cl (ws ++ [(q, .inl (d, N, .inl (fun _ => 0)))]) H1 → va_D A (ws ++ [(q, .inl (d, N, .inl (fun _ => 0)))]) → va_S A H0 H1 locs → W p l e R s m args below meth c H1 locs (cells + 1) (slots + N) Q (F0 m (pc + 2) ls (.ref q :: rest))) : W p l e R s m args below meth c H locs cells slots Q (F0 m pc ls (.int n :: rest)) := by
  refine va_newa (a0 := (N, .inl (fun _ => 0))) hx hb (atype := .int) harr rfl hK hP hD hS hA (fun cA => rfl) hn hN hbytes hcells hslots hdg (fun q cA H1 hK1 hP1 hD1 hS1 => ?_)
  have ed : d = cA := x_cls (i := 0) (j := 1) hK1 rfl rfl
  subst ed
  exact kk q H1 hP1 hD1 hS1
end NEWD
/-- the swap's cells alone -/
def sw_w1 (ad : Nat → Nat) (d : ClassId) (σ : Sg) : va_W := [
  (ad 0, .inl (d, 12, .inl (σ 0))),
  (ad 1, .inl (d, 12, .inl (σ 1))),
  (ad 2, .inr (0, sw_o ad σ)),
  (ad 3, .inl (d, 48, .inl (σ 3))),
  (ad 4, .inl (d, 3, .inl (σ 4))),
  (ad 5, .inl (d, 3, .inl (σ 5))),
  (ad 6, .inl (d, 64, .inl (σ 6))),
  (ad 7, .inl (d, 8, .inl (σ 7))),
  (ad 8, .inl (d, 8, .inl (σ 8))),
  (ad 9, .inl (d, 4, .inl (σ 9))),
  (ad 10, .inl (d, 192, .inl (σ 10))),
  (ad 11, .inl (d, 12, .inl (σ 11))),
  (ad 12, .inl (d, 24, .inl (σ 12))),
  (ad 14, .inl (d, 16, .inl (σ 14))),
  (ad 15, .inl (d, 16, .inl (σ 15)))]
theorem sw1_set4 {ad : Nat → Nat} {d : ClassId} {σ : Sg} {j : Nat} {x : Int32} : (sw_w1 ad d σ).set 4 (ad 4, .inl (d, 3, .inl (upd (σ 4) j x))) = sw_w1 ad d (sw_up σ 4 j x) := rfl
theorem sw1_set7 {ad : Nat → Nat} {d : ClassId} {σ : Sg} {j : Nat} {x : Int32} : (sw_w1 ad d σ).set 7 (ad 7, .inl (d, 8, .inl (upd (σ 7) j x))) = sw_w1 ad d (sw_up σ 7 j x) := rfl
theorem sw1_set11 {ad : Nat → Nat} {d : ClassId} {σ : Sg} {j : Nat} {x : Int32} : (sw_w1 ad d σ).set 11 (ad 11, .inl (d, 12, .inl (upd (σ 11) j x))) = sw_w1 ad d (sw_up σ 11 j x) := rfl
section INLP
variable {p : Program} {l : Launch} {e : Env} {R : Room} {s : State} {m : MethodId} {args : Array Value} {below : List Frame} {meth : Method} {c : Code} {cells slots : Nat} {Q : State → Prop}
variable {dC : Nat → ClassId} {dI : Nat → Nat → Nat} {d : ClassId} {A : Nat → Prop} {ad : Nat → Nat}
theorem in_lp4 (hx : p.tables.exec = Jvm.exec) (hb : c.code = cX0_init) (hts : ∀ w ∈ lw_all, w.before args s = true) (hown : s.vm.findClass RX0 = some m.cls) (hK : va_K (dC, dI) vwCl [(d, .int)] s) {σ0 : Sg}
    (kk : ∀ (σ : Sg) (H : Heap) (locs : List Loc) (ls : Array Slot), (∀ j, j < 3 → σ 4 j = -1) → (∀ k, k ≠ 4 → σ k = σ0 k) → va_P (dC, dI) vwCl (sw_w1 ad d σ) H → va_D A (sw_w1 ad d σ) → va_S A s.heap H locs → lv_has ls 2 [(0, .ref (ad 2))] → W p l e R s m args below meth c H locs cells slots Q (F0 m 134 ls [])) :
    ∀ (t i : Nat) (σ : Sg) (H : Heap) (locs : List Loc) (ls : Array Slot), i ≤ 3 → 4 ≤ t + i → (∀ j, j < i → σ 4 j = -1) → (∀ k, k ≠ 4 → σ k = σ0 k) → va_P (dC, dI) vwCl (sw_w1 ad d σ) H → va_D A (sw_w1 ad d σ) → va_S A s.heap H locs → lv_has ls 2 [(0, .ref (ad 2)), (1, .int (nI i))] → W p l e R s m args below meth c H locs cells slots Q (F0 m 116 ls []) := by
  intro t
  induction t with
  | zero => intro i σ H locs ls h1 h2; omega
  | succ t ih =>
    intro i σ H locs ls h1 h2 hn hk hP hD hS hl
    refine lv_iload_n hx hb dX0_init_116 rfl (lv_at hl 1 rfl) ?_
    refine lv_iconst (v := nI 3) hx hb dX0_init_117 (by decide) ?_
    refine lv_icmp_ge (tgt := 134) hx hb dX0_init_118 (by decide) (fun hc => ?_) (fun hc => ?_)
    · exact kk σ H locs ls (fun j hj => hn j (by have := (nI_leI (show 3 < 2 ^ 31 by decide) (show i < 2 ^ 31 by omega)).mp hc; omega)) hk hP hD hS (lv_sub hl [0] rfl)
    · have hi : i < 3 := Nat.not_le.mp (fun z => hc (nI_le z (by omega)))
      refine lv_aload_n hx hb dX0_init_121 rfl (lv_at hl 0 rfl) ?_
      refine va_get (D := (dC, dI)) (ci := 0) (v := .ref (ad 4)) (fs := sw_o ad σ) (C := RX0) (T := TX0) (N := 16) hx hb hts in_X0 hown hK hP 2 rfl rfl 4 (by decide) (hts _ q43) (fun _ h9 => h9) rfl dX0_init_122 ?_
      refine lv_iload_n hx hb dX0_init_125 rfl (lv_at hl 1 rfl) ?_
      refine lv_iconst (v := -1) hx hb dX0_init_126 (by decide) ?_
      refine va_iast hx hb hK hP hD hS 4 0 rfl rfl (vp_in_nI hi (by omega)) dX0_init_127 (fun H1 locs1 hP1 hD1 hS1 => ?_)
      rw [nI_clamp (by omega), sw1_set4] at hP1 hD1
      refine lv_iinc (v := nI (i + 1)) (lv' := [(1, .int (nI (i + 1))), (0, .ref (ad 2))]) hx hb dX0_init_128 hl (k := 1) rfl (c_inc i) (by decide) rfl (fun ls1 hl1 => ?_)
      refine lv_goto (tgt := 116) hx hb dX0_init_131 (by decide) ?_
      exact ih (i + 1) (sw_up σ 4 i (-1)) H1 locs1 ls1 (by omega) (by omega) (fun j hj => by by_cases e : j = i; rw [e]; exact sw_up_s _ _ _ _; rw [sw_up_o e]; exact hn j (by omega)) (fun k hk' => (sw_up_n hk').trans (hk k hk')) hP1 hD1 hS1 (lv_sub hl1 [1, 0] rfl)
theorem in_lp7 (hx : p.tables.exec = Jvm.exec) (hb : c.code = cX0_init) (hts : ∀ w ∈ lw_all, w.before args s = true) (hown : s.vm.findClass RX0 = some m.cls) (hK : va_K (dC, dI) vwCl [(d, .int)] s) {σ0 : Sg}
    (kk : ∀ (σ : Sg) (H : Heap) (locs : List Loc) (ls : Array Slot), (∀ j, j < 8 → σ 7 j = -1) → (∀ k, k ≠ 7 → σ k = σ0 k) → va_P (dC, dI) vwCl (sw_w1 ad d σ) H → va_D A (sw_w1 ad d σ) → va_S A s.heap H locs → lv_has ls 2 [(0, .ref (ad 2))] → W p l e R s m args below meth c H locs cells slots Q (F0 m 155 ls [])) :
    ∀ (t i : Nat) (σ : Sg) (H : Heap) (locs : List Loc) (ls : Array Slot), i ≤ 8 → 9 ≤ t + i → (∀ j, j < i → σ 7 j = -1) → (∀ k, k ≠ 7 → σ k = σ0 k) → va_P (dC, dI) vwCl (sw_w1 ad d σ) H → va_D A (sw_w1 ad d σ) → va_S A s.heap H locs → lv_has ls 2 [(0, .ref (ad 2)), (1, .int (nI i))] → W p l e R s m args below meth c H locs cells slots Q (F0 m 136 ls []) := by
  intro t
  induction t with
  | zero => intro i σ H locs ls h1 h2; omega
  | succ t ih =>
    intro i σ H locs ls h1 h2 hn hk hP hD hS hl
    refine lv_iload_n hx hb dX0_init_136 rfl (lv_at hl 1 rfl) ?_
    refine lv_bipush (v := nI 8) hx hb dX0_init_137 (by decide) ?_
    refine lv_icmp_ge (tgt := 155) hx hb dX0_init_139 (by decide) (fun hc => ?_) (fun hc => ?_)
    · exact kk σ H locs ls (fun j hj => hn j (by have := (nI_leI (show 8 < 2 ^ 31 by decide) (show i < 2 ^ 31 by omega)).mp hc; omega)) hk hP hD hS (lv_sub hl [0] rfl)
    · have hi : i < 8 := Nat.not_le.mp (fun z => hc (nI_le z (by omega)))
      refine lv_aload_n hx hb dX0_init_142 rfl (lv_at hl 0 rfl) ?_
      refine va_get (D := (dC, dI)) (ci := 0) (v := .ref (ad 7)) (fs := sw_o ad σ) (C := RX0) (T := TX0) (N := 16) hx hb hts in_X0 hown hK hP 2 rfl rfl 7 (by decide) (hts _ q46) (fun _ h9 => h9) rfl dX0_init_143 ?_
      refine lv_iload_n hx hb dX0_init_146 rfl (lv_at hl 1 rfl) ?_
      refine lv_iconst (v := -1) hx hb dX0_init_147 (by decide) ?_
      refine va_iast hx hb hK hP hD hS 7 0 rfl rfl (vp_in_nI hi (by omega)) dX0_init_148 (fun H1 locs1 hP1 hD1 hS1 => ?_)
      rw [nI_clamp (by omega), sw1_set7] at hP1 hD1
      refine lv_iinc (v := nI (i + 1)) (lv' := [(1, .int (nI (i + 1))), (0, .ref (ad 2))]) hx hb dX0_init_149 hl (k := 1) rfl (c_inc i) (by decide) rfl (fun ls1 hl1 => ?_)
      refine lv_goto (tgt := 136) hx hb dX0_init_152 (by decide) ?_
      exact ih (i + 1) (sw_up σ 7 i (-1)) H1 locs1 ls1 (by omega) (by omega) (fun j hj => by by_cases e : j = i; rw [e]; exact sw_up_s _ _ _ _; rw [sw_up_o e]; exact hn j (by omega)) (fun k hk' => (sw_up_n hk').trans (hk k hk')) hP1 hD1 hS1 (lv_sub hl1 [1, 0] rfl)
theorem in_lp11 (hx : p.tables.exec = Jvm.exec) (hb : c.code = cX0_init) (hts : ∀ w ∈ lw_all, w.before args s = true) (hown : s.vm.findClass RX0 = some m.cls) (hK : va_K (dC, dI) vwCl [(d, .int)] s) {σ0 : Sg}
    (kk : ∀ (σ : Sg) (H : Heap) (locs : List Loc) (ls : Array Slot), (∀ j, j < 12 → σ 11 j = -1) → (∀ k, k ≠ 11 → σ k = σ0 k) → va_P (dC, dI) vwCl (sw_w1 ad d σ) H → va_D A (sw_w1 ad d σ) → va_S A s.heap H locs → lv_has ls 2 [(0, .ref (ad 2))] → W p l e R s m args below meth c H locs cells slots Q (F0 m 176 ls [])) :
    ∀ (t i : Nat) (σ : Sg) (H : Heap) (locs : List Loc) (ls : Array Slot), i ≤ 12 → 13 ≤ t + i → (∀ j, j < i → σ 11 j = -1) → (∀ k, k ≠ 11 → σ k = σ0 k) → va_P (dC, dI) vwCl (sw_w1 ad d σ) H → va_D A (sw_w1 ad d σ) → va_S A s.heap H locs → lv_has ls 2 [(0, .ref (ad 2)), (1, .int (nI i))] → W p l e R s m args below meth c H locs cells slots Q (F0 m 157 ls []) := by
  intro t
  induction t with
  | zero => intro i σ H locs ls h1 h2; omega
  | succ t ih =>
    intro i σ H locs ls h1 h2 hn hk hP hD hS hl
    refine lv_iload_n hx hb dX0_init_157 rfl (lv_at hl 1 rfl) ?_
    refine lv_bipush (v := nI 12) hx hb dX0_init_158 (by decide) ?_
    refine lv_icmp_ge (tgt := 176) hx hb dX0_init_160 (by decide) (fun hc => ?_) (fun hc => ?_)
    · exact kk σ H locs ls (fun j hj => hn j (by have := (nI_leI (show 12 < 2 ^ 31 by decide) (show i < 2 ^ 31 by omega)).mp hc; omega)) hk hP hD hS (lv_sub hl [0] rfl)
    · have hi : i < 12 := Nat.not_le.mp (fun z => hc (nI_le z (by omega)))
      refine lv_aload_n hx hb dX0_init_163 rfl (lv_at hl 0 rfl) ?_
      refine va_get (D := (dC, dI)) (ci := 0) (v := .ref (ad 11)) (fs := sw_o ad σ) (C := RX0) (T := TX0) (N := 16) hx hb hts in_X0 hown hK hP 2 rfl rfl 11 (by decide) (hts _ q50) (fun _ h9 => h9) rfl dX0_init_164 ?_
      refine lv_iload_n hx hb dX0_init_167 rfl (lv_at hl 1 rfl) ?_
      refine lv_iconst (v := -1) hx hb dX0_init_168 (by decide) ?_
      refine va_iast hx hb hK hP hD hS 11 0 rfl rfl (vp_in_nI hi (by omega)) dX0_init_169 (fun H1 locs1 hP1 hD1 hS1 => ?_)
      rw [nI_clamp (by omega), sw1_set11] at hP1 hD1
      refine lv_iinc (v := nI (i + 1)) (lv' := [(1, .int (nI (i + 1))), (0, .ref (ad 2))]) hx hb dX0_init_170 hl (k := 1) rfl (c_inc i) (by decide) rfl (fun ls1 hl1 => ?_)
      refine lv_goto (tgt := 157) hx hb dX0_init_173 (by decide) ?_
      exact ih (i + 1) (sw_up σ 11 i (-1)) H1 locs1 ls1 (by omega) (by omega) (fun j hj => by by_cases e : j = i; rw [e]; exact sw_up_s _ _ _ _; rw [sw_up_o e]; exact hn j (by omega)) (fun k hk' => (sw_up_n hk').trans (hk k hk')) hP1 hD1 hS1 (lv_sub hl1 [1, 0] rfl)
end INLP
abbrev fs_0 : List Value := [.null, .null, .int 0, .null, .null, .null, .null, .null, .null, .null, .null, .null, .null, .int 0, .null, .null]
def mk_ad (q : List Nat) : Nat → Nat := fun k => q.getD k 0
def sg_ini (σ : Sg) : Prop := (∀ j, j < 3 → σ 4 j = -1) ∧ (∀ j, j < 8 → σ 7 j = -1) ∧ (∀ j, j < 12 → σ 11 j = -1) ∧ ∀ k, k ≠ 4 → k ≠ 7 → k ≠ 11 → σ k = fun _ => 0
def in_B (dC : Nat → ClassId) (dI : Nat → Nat → Nat) (d : ClassId) (A : Nat → Prop) (u : (Nat → Nat) × Sg) (t : State) : Prop := va_P (dC, dI) vwCl (sw_w1 u.1 d u.2) t.heap ∧ va_K (dC, dI) vwCl [(d, .int)] t ∧ va_D A (sw_w1 u.1 d u.2)
abbrev rm_init : Room := { frames := 1, cells := 14, slots := 422, locals := 20 }
set_option maxHeartbeats 4000000 in
set_option maxRecDepth 100000 in
theorem met_init (l : Launch) (dC : Nat → ClassId) (dI : Nat → Nat → Nat) (d : ClassId) (h0 sz : Nat) : Met l yX0_init (ws_ yX0_init cX0_init 2 none) rm_init (va_Pc [.ref h0] (fun U => U.heap.size = sz ∧ va_P (dC, dI) vwCl [(h0, .inr (0, fs_0))] U.heap ∧ va_K (dC, dI) vwCl [(d, .int)] U ∧ va_D (fun _ => True) [(h0, .inr (0, fs_0))])) (va_Qv (fun u : (Nat → Nat) × Sg => u.1 2 = h0 ∧ sg_ini u.2) (in_B dC dI d (va_A [(h0, .inr (0, fs_0))] sz)) (va_A [(h0, .inr (0, fs_0))] sz)) 14 422 (va_A [(h0, .inr (0, fs_0))] sz) := by
  refine Met.ofW (cc := cX0_init) (maxL := 2) (ret := none) (by decide) rfl ?_
  intro p e s m args below meth c s₁ B hml hv
  obtain ⟨rfl, hsz, hP, hK, hD0⟩ := hv
  have hx := B.exec
  have hb := B.bytes
  have hr := B.returns
  have hts := atoms_spec (ws := ws_ yX0_init cX0_init 2 none) B.pre
  have hts : ∀ w ∈ lw_all, w.before _ s = true := fun w h => hts w (List.mem_cons_of_mem _ h)
  have hown : s.vm.findClass RX0 = some m.cls := findClass_of_methodNamed B.named
  have hlocks := B.notSynchronized
  have hin : meth.name = "<init>" := (name_of_methodNamed B.named B.method).1
  subst hsz
  have hD := hD0.self (sz := s.heap.size)
  generalize hAe : va_A [(h0, .inr (0, fs_0))] s.heap.size = A at hD ⊢
  have hA : ∀ q : Nat, s.heap.size ≤ q → A q := fun q h => by rw [← hAe]; exact Or.inr h
  have hS : va_S A s.heap s.heap [] := va_S.rf
  have hP : va_P (dC, dI) vwCl [(h0, .inr (0, fs_0))] s.heap := hP
  have hl := lv_entry ([.ref h0]) (n := 2) (Nat.le_of_ble_eq_true rfl)
  rw [lg_entry_eq]
  generalize (lg_sl ([.ref h0]) ++ List.replicate (2 - (lg_sl ([.ref h0])).length) Slot.unset).toArray = ls at hl ⊢
  have hl : lv_has ls 2 [(0, .ref h0)] := hl
  refine lv_aload_n hx hb dX0_init_0 rfl (lv_at hl 0 rfl) ?_
  refine W.objInit hx hb hown (hts _ q36) (hts _ q37) (hts _ q38) rfl (by rw [hml]; exact hl.1) rfl dX0_init_1 (Nat.le_of_ble_eq_true rfl) (Nat.le_of_ble_eq_true rfl) ?_
  refine W.eq (g2 := F0 m 4 ls []) rfl ?_
  refine lv_aload_n hx hb dX0_init_4 rfl (lv_at hl 0 rfl) ?_
  refine lv_bipush (v := nI 12) hx hb dX0_init_5 (by decide) ?_
  refine x_newd hx hb (hts _ q88) hK hP hD hS hA (N := 12) (by decide) (by decide) (by decide) (Nat.le_of_ble_eq_true rfl) (Nat.le_of_ble_eq_true rfl) dX0_init_7 (fun a0 H hP hD hS => ?_)
  have hP : va_P (dC, dI) vwCl [(h0, .inr (0, [.null, .null, .int 0, .null, .null, .null, .null, .null, .null, .null, .null, .null, .null, .int 0, .null, .null])), (a0, .inl (d, 12, .inl (fun _ => 0)))] H := hP
  have hD : va_D A [(h0, .inr (0, [.null, .null, .int 0, .null, .null, .null, .null, .null, .null, .null, .null, .null, .null, .int 0, .null, .null])), (a0, .inl (d, 12, .inl (fun _ => 0)))] := hD
  refine W.widen (k := 1) (n := 12) (by decide) (by decide) ?_
  refine va_putF (D := (dC, dI)) (ci := 0) (v := .ref a0) (ty := .array .int) (C := RX0) (T := TX0) (N := 16) hx hb hts in_X0 tyX0 tyX0_ok nmX0 hown hK hP hD hS 0 rfl rfl 0 (by decide) (hts _ q39) (fun _ h9 => h9) rfl hin rfl (by decide +kernel) rfl rfl (Nat.le_of_ble_eq_true rfl) dX0_init_9 (fun H locs hP hD hS => ?_)
  have hP : va_P (dC, dI) vwCl [(h0, .inr (0, [.ref a0, .null, .int 0, .null, .null, .null, .null, .null, .null, .null, .null, .null, .null, .int 0, .null, .null])), (a0, .inl (d, 12, .inl (fun _ => 0)))] H := hP
  have hD : va_D A [(h0, .inr (0, [.ref a0, .null, .int 0, .null, .null, .null, .null, .null, .null, .null, .null, .null, .null, .int 0, .null, .null])), (a0, .inl (d, 12, .inl (fun _ => 0)))] := hD
  refine lv_aload_n hx hb dX0_init_12 rfl (lv_at hl 0 rfl) ?_
  refine lv_bipush (v := nI 12) hx hb dX0_init_13 (by decide) ?_
  refine x_newd hx hb (hts _ q88) hK hP hD hS hA (N := 12) (by decide) (by decide) (by decide) (Nat.le_of_ble_eq_true rfl) (Nat.le_of_ble_eq_true rfl) dX0_init_15 (fun a1 H hP hD hS => ?_)
  have hP : va_P (dC, dI) vwCl [(h0, .inr (0, [.ref a0, .null, .int 0, .null, .null, .null, .null, .null, .null, .null, .null, .null, .null, .int 0, .null, .null])), (a0, .inl (d, 12, .inl (fun _ => 0))), (a1, .inl (d, 12, .inl (fun _ => 0)))] H := hP
  have hD : va_D A [(h0, .inr (0, [.ref a0, .null, .int 0, .null, .null, .null, .null, .null, .null, .null, .null, .null, .null, .int 0, .null, .null])), (a0, .inl (d, 12, .inl (fun _ => 0))), (a1, .inl (d, 12, .inl (fun _ => 0)))] := hD
  refine W.widen (k := 2) (n := 24) (by decide) (by decide) ?_
  refine va_putF (D := (dC, dI)) (ci := 0) (v := .ref a1) (ty := .array .int) (C := RX0) (T := TX0) (N := 16) hx hb hts in_X0 tyX0 tyX0_ok nmX0 hown hK hP hD hS 0 rfl rfl 1 (by decide) (hts _ q40) (fun _ h9 => h9) rfl hin rfl (by decide +kernel) rfl rfl (Nat.le_of_ble_eq_true rfl) dX0_init_17 (fun H locs hP hD hS => ?_)
  have hP : va_P (dC, dI) vwCl [(h0, .inr (0, [.ref a0, .ref a1, .int 0, .null, .null, .null, .null, .null, .null, .null, .null, .null, .null, .int 0, .null, .null])), (a0, .inl (d, 12, .inl (fun _ => 0))), (a1, .inl (d, 12, .inl (fun _ => 0)))] H := hP
  have hD : va_D A [(h0, .inr (0, [.ref a0, .ref a1, .int 0, .null, .null, .null, .null, .null, .null, .null, .null, .null, .null, .int 0, .null, .null])), (a0, .inl (d, 12, .inl (fun _ => 0))), (a1, .inl (d, 12, .inl (fun _ => 0)))] := hD
  refine lv_aload_n hx hb dX0_init_20 rfl (lv_at hl 0 rfl) ?_
  refine lv_bipush (v := nI 48) hx hb dX0_init_21 (by decide) ?_
  refine x_newd hx hb (hts _ q88) hK hP hD hS hA (N := 48) (by decide) (by decide) (by decide) (Nat.le_of_ble_eq_true rfl) (Nat.le_of_ble_eq_true rfl) dX0_init_23 (fun a3 H hP hD hS => ?_)
  have hP : va_P (dC, dI) vwCl [(h0, .inr (0, [.ref a0, .ref a1, .int 0, .null, .null, .null, .null, .null, .null, .null, .null, .null, .null, .int 0, .null, .null])), (a0, .inl (d, 12, .inl (fun _ => 0))), (a1, .inl (d, 12, .inl (fun _ => 0))), (a3, .inl (d, 48, .inl (fun _ => 0)))] H := hP
  have hD : va_D A [(h0, .inr (0, [.ref a0, .ref a1, .int 0, .null, .null, .null, .null, .null, .null, .null, .null, .null, .null, .int 0, .null, .null])), (a0, .inl (d, 12, .inl (fun _ => 0))), (a1, .inl (d, 12, .inl (fun _ => 0))), (a3, .inl (d, 48, .inl (fun _ => 0)))] := hD
  refine W.widen (k := 3) (n := 72) (by decide) (by decide) ?_
  refine va_putF (D := (dC, dI)) (ci := 0) (v := .ref a3) (ty := .array .int) (C := RX0) (T := TX0) (N := 16) hx hb hts in_X0 tyX0 tyX0_ok nmX0 hown hK hP hD hS 0 rfl rfl 3 (by decide) (hts _ q42) (fun _ h9 => h9) rfl hin rfl (by decide +kernel) rfl rfl (Nat.le_of_ble_eq_true rfl) dX0_init_25 (fun H locs hP hD hS => ?_)
  have hP : va_P (dC, dI) vwCl [(h0, .inr (0, [.ref a0, .ref a1, .int 0, .ref a3, .null, .null, .null, .null, .null, .null, .null, .null, .null, .int 0, .null, .null])), (a0, .inl (d, 12, .inl (fun _ => 0))), (a1, .inl (d, 12, .inl (fun _ => 0))), (a3, .inl (d, 48, .inl (fun _ => 0)))] H := hP
  have hD : va_D A [(h0, .inr (0, [.ref a0, .ref a1, .int 0, .ref a3, .null, .null, .null, .null, .null, .null, .null, .null, .null, .int 0, .null, .null])), (a0, .inl (d, 12, .inl (fun _ => 0))), (a1, .inl (d, 12, .inl (fun _ => 0))), (a3, .inl (d, 48, .inl (fun _ => 0)))] := hD
  refine lv_aload_n hx hb dX0_init_28 rfl (lv_at hl 0 rfl) ?_
  refine lv_iconst (v := nI 3) hx hb dX0_init_29 (by decide) ?_
  refine x_newd hx hb (hts _ q88) hK hP hD hS hA (N := 3) (by decide) (by decide) (by decide) (Nat.le_of_ble_eq_true rfl) (Nat.le_of_ble_eq_true rfl) dX0_init_30 (fun a4 H hP hD hS => ?_)
  have hP : va_P (dC, dI) vwCl [(h0, .inr (0, [.ref a0, .ref a1, .int 0, .ref a3, .null, .null, .null, .null, .null, .null, .null, .null, .null, .int 0, .null, .null])), (a0, .inl (d, 12, .inl (fun _ => 0))), (a1, .inl (d, 12, .inl (fun _ => 0))), (a3, .inl (d, 48, .inl (fun _ => 0))), (a4, .inl (d, 3, .inl (fun _ => 0)))] H := hP
  have hD : va_D A [(h0, .inr (0, [.ref a0, .ref a1, .int 0, .ref a3, .null, .null, .null, .null, .null, .null, .null, .null, .null, .int 0, .null, .null])), (a0, .inl (d, 12, .inl (fun _ => 0))), (a1, .inl (d, 12, .inl (fun _ => 0))), (a3, .inl (d, 48, .inl (fun _ => 0))), (a4, .inl (d, 3, .inl (fun _ => 0)))] := hD
  refine W.widen (k := 4) (n := 75) (by decide) (by decide) ?_
  refine va_putF (D := (dC, dI)) (ci := 0) (v := .ref a4) (ty := .array .int) (C := RX0) (T := TX0) (N := 16) hx hb hts in_X0 tyX0 tyX0_ok nmX0 hown hK hP hD hS 0 rfl rfl 4 (by decide) (hts _ q43) (fun _ h9 => h9) rfl hin rfl (by decide +kernel) rfl rfl (Nat.le_of_ble_eq_true rfl) dX0_init_32 (fun H locs hP hD hS => ?_)
  have hP : va_P (dC, dI) vwCl [(h0, .inr (0, [.ref a0, .ref a1, .int 0, .ref a3, .ref a4, .null, .null, .null, .null, .null, .null, .null, .null, .int 0, .null, .null])), (a0, .inl (d, 12, .inl (fun _ => 0))), (a1, .inl (d, 12, .inl (fun _ => 0))), (a3, .inl (d, 48, .inl (fun _ => 0))), (a4, .inl (d, 3, .inl (fun _ => 0)))] H := hP
  have hD : va_D A [(h0, .inr (0, [.ref a0, .ref a1, .int 0, .ref a3, .ref a4, .null, .null, .null, .null, .null, .null, .null, .null, .int 0, .null, .null])), (a0, .inl (d, 12, .inl (fun _ => 0))), (a1, .inl (d, 12, .inl (fun _ => 0))), (a3, .inl (d, 48, .inl (fun _ => 0))), (a4, .inl (d, 3, .inl (fun _ => 0)))] := hD
  refine lv_aload_n hx hb dX0_init_35 rfl (lv_at hl 0 rfl) ?_
  refine lv_iconst (v := nI 3) hx hb dX0_init_36 (by decide) ?_
  refine x_newd hx hb (hts _ q88) hK hP hD hS hA (N := 3) (by decide) (by decide) (by decide) (Nat.le_of_ble_eq_true rfl) (Nat.le_of_ble_eq_true rfl) dX0_init_37 (fun a5 H hP hD hS => ?_)
  have hP : va_P (dC, dI) vwCl [(h0, .inr (0, [.ref a0, .ref a1, .int 0, .ref a3, .ref a4, .null, .null, .null, .null, .null, .null, .null, .null, .int 0, .null, .null])), (a0, .inl (d, 12, .inl (fun _ => 0))), (a1, .inl (d, 12, .inl (fun _ => 0))), (a3, .inl (d, 48, .inl (fun _ => 0))), (a4, .inl (d, 3, .inl (fun _ => 0))), (a5, .inl (d, 3, .inl (fun _ => 0)))] H := hP
  have hD : va_D A [(h0, .inr (0, [.ref a0, .ref a1, .int 0, .ref a3, .ref a4, .null, .null, .null, .null, .null, .null, .null, .null, .int 0, .null, .null])), (a0, .inl (d, 12, .inl (fun _ => 0))), (a1, .inl (d, 12, .inl (fun _ => 0))), (a3, .inl (d, 48, .inl (fun _ => 0))), (a4, .inl (d, 3, .inl (fun _ => 0))), (a5, .inl (d, 3, .inl (fun _ => 0)))] := hD
  refine W.widen (k := 5) (n := 78) (by decide) (by decide) ?_
  refine va_putF (D := (dC, dI)) (ci := 0) (v := .ref a5) (ty := .array .int) (C := RX0) (T := TX0) (N := 16) hx hb hts in_X0 tyX0 tyX0_ok nmX0 hown hK hP hD hS 0 rfl rfl 5 (by decide) (hts _ q44) (fun _ h9 => h9) rfl hin rfl (by decide +kernel) rfl rfl (Nat.le_of_ble_eq_true rfl) dX0_init_39 (fun H locs hP hD hS => ?_)
  have hP : va_P (dC, dI) vwCl [(h0, .inr (0, [.ref a0, .ref a1, .int 0, .ref a3, .ref a4, .ref a5, .null, .null, .null, .null, .null, .null, .null, .int 0, .null, .null])), (a0, .inl (d, 12, .inl (fun _ => 0))), (a1, .inl (d, 12, .inl (fun _ => 0))), (a3, .inl (d, 48, .inl (fun _ => 0))), (a4, .inl (d, 3, .inl (fun _ => 0))), (a5, .inl (d, 3, .inl (fun _ => 0)))] H := hP
  have hD : va_D A [(h0, .inr (0, [.ref a0, .ref a1, .int 0, .ref a3, .ref a4, .ref a5, .null, .null, .null, .null, .null, .null, .null, .int 0, .null, .null])), (a0, .inl (d, 12, .inl (fun _ => 0))), (a1, .inl (d, 12, .inl (fun _ => 0))), (a3, .inl (d, 48, .inl (fun _ => 0))), (a4, .inl (d, 3, .inl (fun _ => 0))), (a5, .inl (d, 3, .inl (fun _ => 0)))] := hD
  refine lv_aload_n hx hb dX0_init_42 rfl (lv_at hl 0 rfl) ?_
  refine lv_bipush (v := nI 64) hx hb dX0_init_43 (by decide) ?_
  refine x_newd hx hb (hts _ q88) hK hP hD hS hA (N := 64) (by decide) (by decide) (by decide) (Nat.le_of_ble_eq_true rfl) (Nat.le_of_ble_eq_true rfl) dX0_init_45 (fun a6 H hP hD hS => ?_)
  have hP : va_P (dC, dI) vwCl [(h0, .inr (0, [.ref a0, .ref a1, .int 0, .ref a3, .ref a4, .ref a5, .null, .null, .null, .null, .null, .null, .null, .int 0, .null, .null])), (a0, .inl (d, 12, .inl (fun _ => 0))), (a1, .inl (d, 12, .inl (fun _ => 0))), (a3, .inl (d, 48, .inl (fun _ => 0))), (a4, .inl (d, 3, .inl (fun _ => 0))), (a5, .inl (d, 3, .inl (fun _ => 0))), (a6, .inl (d, 64, .inl (fun _ => 0)))] H := hP
  have hD : va_D A [(h0, .inr (0, [.ref a0, .ref a1, .int 0, .ref a3, .ref a4, .ref a5, .null, .null, .null, .null, .null, .null, .null, .int 0, .null, .null])), (a0, .inl (d, 12, .inl (fun _ => 0))), (a1, .inl (d, 12, .inl (fun _ => 0))), (a3, .inl (d, 48, .inl (fun _ => 0))), (a4, .inl (d, 3, .inl (fun _ => 0))), (a5, .inl (d, 3, .inl (fun _ => 0))), (a6, .inl (d, 64, .inl (fun _ => 0)))] := hD
  refine W.widen (k := 6) (n := 142) (by decide) (by decide) ?_
  refine va_putF (D := (dC, dI)) (ci := 0) (v := .ref a6) (ty := .array .int) (C := RX0) (T := TX0) (N := 16) hx hb hts in_X0 tyX0 tyX0_ok nmX0 hown hK hP hD hS 0 rfl rfl 6 (by decide) (hts _ q45) (fun _ h9 => h9) rfl hin rfl (by decide +kernel) rfl rfl (Nat.le_of_ble_eq_true rfl) dX0_init_47 (fun H locs hP hD hS => ?_)
  have hP : va_P (dC, dI) vwCl [(h0, .inr (0, [.ref a0, .ref a1, .int 0, .ref a3, .ref a4, .ref a5, .ref a6, .null, .null, .null, .null, .null, .null, .int 0, .null, .null])), (a0, .inl (d, 12, .inl (fun _ => 0))), (a1, .inl (d, 12, .inl (fun _ => 0))), (a3, .inl (d, 48, .inl (fun _ => 0))), (a4, .inl (d, 3, .inl (fun _ => 0))), (a5, .inl (d, 3, .inl (fun _ => 0))), (a6, .inl (d, 64, .inl (fun _ => 0)))] H := hP
  have hD : va_D A [(h0, .inr (0, [.ref a0, .ref a1, .int 0, .ref a3, .ref a4, .ref a5, .ref a6, .null, .null, .null, .null, .null, .null, .int 0, .null, .null])), (a0, .inl (d, 12, .inl (fun _ => 0))), (a1, .inl (d, 12, .inl (fun _ => 0))), (a3, .inl (d, 48, .inl (fun _ => 0))), (a4, .inl (d, 3, .inl (fun _ => 0))), (a5, .inl (d, 3, .inl (fun _ => 0))), (a6, .inl (d, 64, .inl (fun _ => 0)))] := hD
  refine lv_aload_n hx hb dX0_init_50 rfl (lv_at hl 0 rfl) ?_
  refine lv_bipush (v := nI 8) hx hb dX0_init_51 (by decide) ?_
  refine x_newd hx hb (hts _ q88) hK hP hD hS hA (N := 8) (by decide) (by decide) (by decide) (Nat.le_of_ble_eq_true rfl) (Nat.le_of_ble_eq_true rfl) dX0_init_53 (fun a7 H hP hD hS => ?_)
  have hP : va_P (dC, dI) vwCl [(h0, .inr (0, [.ref a0, .ref a1, .int 0, .ref a3, .ref a4, .ref a5, .ref a6, .null, .null, .null, .null, .null, .null, .int 0, .null, .null])), (a0, .inl (d, 12, .inl (fun _ => 0))), (a1, .inl (d, 12, .inl (fun _ => 0))), (a3, .inl (d, 48, .inl (fun _ => 0))), (a4, .inl (d, 3, .inl (fun _ => 0))), (a5, .inl (d, 3, .inl (fun _ => 0))), (a6, .inl (d, 64, .inl (fun _ => 0))), (a7, .inl (d, 8, .inl (fun _ => 0)))] H := hP
  have hD : va_D A [(h0, .inr (0, [.ref a0, .ref a1, .int 0, .ref a3, .ref a4, .ref a5, .ref a6, .null, .null, .null, .null, .null, .null, .int 0, .null, .null])), (a0, .inl (d, 12, .inl (fun _ => 0))), (a1, .inl (d, 12, .inl (fun _ => 0))), (a3, .inl (d, 48, .inl (fun _ => 0))), (a4, .inl (d, 3, .inl (fun _ => 0))), (a5, .inl (d, 3, .inl (fun _ => 0))), (a6, .inl (d, 64, .inl (fun _ => 0))), (a7, .inl (d, 8, .inl (fun _ => 0)))] := hD
  refine W.widen (k := 7) (n := 150) (by decide) (by decide) ?_
  refine va_putF (D := (dC, dI)) (ci := 0) (v := .ref a7) (ty := .array .int) (C := RX0) (T := TX0) (N := 16) hx hb hts in_X0 tyX0 tyX0_ok nmX0 hown hK hP hD hS 0 rfl rfl 7 (by decide) (hts _ q46) (fun _ h9 => h9) rfl hin rfl (by decide +kernel) rfl rfl (Nat.le_of_ble_eq_true rfl) dX0_init_55 (fun H locs hP hD hS => ?_)
  have hP : va_P (dC, dI) vwCl [(h0, .inr (0, [.ref a0, .ref a1, .int 0, .ref a3, .ref a4, .ref a5, .ref a6, .ref a7, .null, .null, .null, .null, .null, .int 0, .null, .null])), (a0, .inl (d, 12, .inl (fun _ => 0))), (a1, .inl (d, 12, .inl (fun _ => 0))), (a3, .inl (d, 48, .inl (fun _ => 0))), (a4, .inl (d, 3, .inl (fun _ => 0))), (a5, .inl (d, 3, .inl (fun _ => 0))), (a6, .inl (d, 64, .inl (fun _ => 0))), (a7, .inl (d, 8, .inl (fun _ => 0)))] H := hP
  have hD : va_D A [(h0, .inr (0, [.ref a0, .ref a1, .int 0, .ref a3, .ref a4, .ref a5, .ref a6, .ref a7, .null, .null, .null, .null, .null, .int 0, .null, .null])), (a0, .inl (d, 12, .inl (fun _ => 0))), (a1, .inl (d, 12, .inl (fun _ => 0))), (a3, .inl (d, 48, .inl (fun _ => 0))), (a4, .inl (d, 3, .inl (fun _ => 0))), (a5, .inl (d, 3, .inl (fun _ => 0))), (a6, .inl (d, 64, .inl (fun _ => 0))), (a7, .inl (d, 8, .inl (fun _ => 0)))] := hD
  refine lv_aload_n hx hb dX0_init_58 rfl (lv_at hl 0 rfl) ?_
  refine lv_bipush (v := nI 8) hx hb dX0_init_59 (by decide) ?_
  refine x_newd hx hb (hts _ q88) hK hP hD hS hA (N := 8) (by decide) (by decide) (by decide) (Nat.le_of_ble_eq_true rfl) (Nat.le_of_ble_eq_true rfl) dX0_init_61 (fun a8 H hP hD hS => ?_)
  have hP : va_P (dC, dI) vwCl [(h0, .inr (0, [.ref a0, .ref a1, .int 0, .ref a3, .ref a4, .ref a5, .ref a6, .ref a7, .null, .null, .null, .null, .null, .int 0, .null, .null])), (a0, .inl (d, 12, .inl (fun _ => 0))), (a1, .inl (d, 12, .inl (fun _ => 0))), (a3, .inl (d, 48, .inl (fun _ => 0))), (a4, .inl (d, 3, .inl (fun _ => 0))), (a5, .inl (d, 3, .inl (fun _ => 0))), (a6, .inl (d, 64, .inl (fun _ => 0))), (a7, .inl (d, 8, .inl (fun _ => 0))), (a8, .inl (d, 8, .inl (fun _ => 0)))] H := hP
  have hD : va_D A [(h0, .inr (0, [.ref a0, .ref a1, .int 0, .ref a3, .ref a4, .ref a5, .ref a6, .ref a7, .null, .null, .null, .null, .null, .int 0, .null, .null])), (a0, .inl (d, 12, .inl (fun _ => 0))), (a1, .inl (d, 12, .inl (fun _ => 0))), (a3, .inl (d, 48, .inl (fun _ => 0))), (a4, .inl (d, 3, .inl (fun _ => 0))), (a5, .inl (d, 3, .inl (fun _ => 0))), (a6, .inl (d, 64, .inl (fun _ => 0))), (a7, .inl (d, 8, .inl (fun _ => 0))), (a8, .inl (d, 8, .inl (fun _ => 0)))] := hD
  refine W.widen (k := 8) (n := 158) (by decide) (by decide) ?_
  refine va_putF (D := (dC, dI)) (ci := 0) (v := .ref a8) (ty := .array .int) (C := RX0) (T := TX0) (N := 16) hx hb hts in_X0 tyX0 tyX0_ok nmX0 hown hK hP hD hS 0 rfl rfl 8 (by decide) (hts _ q47) (fun _ h9 => h9) rfl hin rfl (by decide +kernel) rfl rfl (Nat.le_of_ble_eq_true rfl) dX0_init_63 (fun H locs hP hD hS => ?_)
  have hP : va_P (dC, dI) vwCl [(h0, .inr (0, [.ref a0, .ref a1, .int 0, .ref a3, .ref a4, .ref a5, .ref a6, .ref a7, .ref a8, .null, .null, .null, .null, .int 0, .null, .null])), (a0, .inl (d, 12, .inl (fun _ => 0))), (a1, .inl (d, 12, .inl (fun _ => 0))), (a3, .inl (d, 48, .inl (fun _ => 0))), (a4, .inl (d, 3, .inl (fun _ => 0))), (a5, .inl (d, 3, .inl (fun _ => 0))), (a6, .inl (d, 64, .inl (fun _ => 0))), (a7, .inl (d, 8, .inl (fun _ => 0))), (a8, .inl (d, 8, .inl (fun _ => 0)))] H := hP
  have hD : va_D A [(h0, .inr (0, [.ref a0, .ref a1, .int 0, .ref a3, .ref a4, .ref a5, .ref a6, .ref a7, .ref a8, .null, .null, .null, .null, .int 0, .null, .null])), (a0, .inl (d, 12, .inl (fun _ => 0))), (a1, .inl (d, 12, .inl (fun _ => 0))), (a3, .inl (d, 48, .inl (fun _ => 0))), (a4, .inl (d, 3, .inl (fun _ => 0))), (a5, .inl (d, 3, .inl (fun _ => 0))), (a6, .inl (d, 64, .inl (fun _ => 0))), (a7, .inl (d, 8, .inl (fun _ => 0))), (a8, .inl (d, 8, .inl (fun _ => 0)))] := hD
  refine lv_aload_n hx hb dX0_init_66 rfl (lv_at hl 0 rfl) ?_
  refine lv_iconst (v := nI 4) hx hb dX0_init_67 (by decide) ?_
  refine x_newd hx hb (hts _ q88) hK hP hD hS hA (N := 4) (by decide) (by decide) (by decide) (Nat.le_of_ble_eq_true rfl) (Nat.le_of_ble_eq_true rfl) dX0_init_68 (fun a9 H hP hD hS => ?_)
  have hP : va_P (dC, dI) vwCl [(h0, .inr (0, [.ref a0, .ref a1, .int 0, .ref a3, .ref a4, .ref a5, .ref a6, .ref a7, .ref a8, .null, .null, .null, .null, .int 0, .null, .null])), (a0, .inl (d, 12, .inl (fun _ => 0))), (a1, .inl (d, 12, .inl (fun _ => 0))), (a3, .inl (d, 48, .inl (fun _ => 0))), (a4, .inl (d, 3, .inl (fun _ => 0))), (a5, .inl (d, 3, .inl (fun _ => 0))), (a6, .inl (d, 64, .inl (fun _ => 0))), (a7, .inl (d, 8, .inl (fun _ => 0))), (a8, .inl (d, 8, .inl (fun _ => 0))), (a9, .inl (d, 4, .inl (fun _ => 0)))] H := hP
  have hD : va_D A [(h0, .inr (0, [.ref a0, .ref a1, .int 0, .ref a3, .ref a4, .ref a5, .ref a6, .ref a7, .ref a8, .null, .null, .null, .null, .int 0, .null, .null])), (a0, .inl (d, 12, .inl (fun _ => 0))), (a1, .inl (d, 12, .inl (fun _ => 0))), (a3, .inl (d, 48, .inl (fun _ => 0))), (a4, .inl (d, 3, .inl (fun _ => 0))), (a5, .inl (d, 3, .inl (fun _ => 0))), (a6, .inl (d, 64, .inl (fun _ => 0))), (a7, .inl (d, 8, .inl (fun _ => 0))), (a8, .inl (d, 8, .inl (fun _ => 0))), (a9, .inl (d, 4, .inl (fun _ => 0)))] := hD
  refine W.widen (k := 9) (n := 162) (by decide) (by decide) ?_
  refine va_putF (D := (dC, dI)) (ci := 0) (v := .ref a9) (ty := .array .int) (C := RX0) (T := TX0) (N := 16) hx hb hts in_X0 tyX0 tyX0_ok nmX0 hown hK hP hD hS 0 rfl rfl 9 (by decide) (hts _ q48) (fun _ h9 => h9) rfl hin rfl (by decide +kernel) rfl rfl (Nat.le_of_ble_eq_true rfl) dX0_init_70 (fun H locs hP hD hS => ?_)
  have hP : va_P (dC, dI) vwCl [(h0, .inr (0, [.ref a0, .ref a1, .int 0, .ref a3, .ref a4, .ref a5, .ref a6, .ref a7, .ref a8, .ref a9, .null, .null, .null, .int 0, .null, .null])), (a0, .inl (d, 12, .inl (fun _ => 0))), (a1, .inl (d, 12, .inl (fun _ => 0))), (a3, .inl (d, 48, .inl (fun _ => 0))), (a4, .inl (d, 3, .inl (fun _ => 0))), (a5, .inl (d, 3, .inl (fun _ => 0))), (a6, .inl (d, 64, .inl (fun _ => 0))), (a7, .inl (d, 8, .inl (fun _ => 0))), (a8, .inl (d, 8, .inl (fun _ => 0))), (a9, .inl (d, 4, .inl (fun _ => 0)))] H := hP
  have hD : va_D A [(h0, .inr (0, [.ref a0, .ref a1, .int 0, .ref a3, .ref a4, .ref a5, .ref a6, .ref a7, .ref a8, .ref a9, .null, .null, .null, .int 0, .null, .null])), (a0, .inl (d, 12, .inl (fun _ => 0))), (a1, .inl (d, 12, .inl (fun _ => 0))), (a3, .inl (d, 48, .inl (fun _ => 0))), (a4, .inl (d, 3, .inl (fun _ => 0))), (a5, .inl (d, 3, .inl (fun _ => 0))), (a6, .inl (d, 64, .inl (fun _ => 0))), (a7, .inl (d, 8, .inl (fun _ => 0))), (a8, .inl (d, 8, .inl (fun _ => 0))), (a9, .inl (d, 4, .inl (fun _ => 0)))] := hD
  refine lv_aload_n hx hb dX0_init_73 rfl (lv_at hl 0 rfl) ?_
  refine lv_sipush (v := nI 192) hx hb dX0_init_74 (by decide) ?_
  refine x_newd hx hb (hts _ q88) hK hP hD hS hA (N := 192) (by decide) (by decide) (by decide) (Nat.le_of_ble_eq_true rfl) (Nat.le_of_ble_eq_true rfl) dX0_init_77 (fun a10 H hP hD hS => ?_)
  have hP : va_P (dC, dI) vwCl [(h0, .inr (0, [.ref a0, .ref a1, .int 0, .ref a3, .ref a4, .ref a5, .ref a6, .ref a7, .ref a8, .ref a9, .null, .null, .null, .int 0, .null, .null])), (a0, .inl (d, 12, .inl (fun _ => 0))), (a1, .inl (d, 12, .inl (fun _ => 0))), (a3, .inl (d, 48, .inl (fun _ => 0))), (a4, .inl (d, 3, .inl (fun _ => 0))), (a5, .inl (d, 3, .inl (fun _ => 0))), (a6, .inl (d, 64, .inl (fun _ => 0))), (a7, .inl (d, 8, .inl (fun _ => 0))), (a8, .inl (d, 8, .inl (fun _ => 0))), (a9, .inl (d, 4, .inl (fun _ => 0))), (a10, .inl (d, 192, .inl (fun _ => 0)))] H := hP
  have hD : va_D A [(h0, .inr (0, [.ref a0, .ref a1, .int 0, .ref a3, .ref a4, .ref a5, .ref a6, .ref a7, .ref a8, .ref a9, .null, .null, .null, .int 0, .null, .null])), (a0, .inl (d, 12, .inl (fun _ => 0))), (a1, .inl (d, 12, .inl (fun _ => 0))), (a3, .inl (d, 48, .inl (fun _ => 0))), (a4, .inl (d, 3, .inl (fun _ => 0))), (a5, .inl (d, 3, .inl (fun _ => 0))), (a6, .inl (d, 64, .inl (fun _ => 0))), (a7, .inl (d, 8, .inl (fun _ => 0))), (a8, .inl (d, 8, .inl (fun _ => 0))), (a9, .inl (d, 4, .inl (fun _ => 0))), (a10, .inl (d, 192, .inl (fun _ => 0)))] := hD
  refine W.widen (k := 10) (n := 354) (by decide) (by decide) ?_
  refine va_putF (D := (dC, dI)) (ci := 0) (v := .ref a10) (ty := .array .int) (C := RX0) (T := TX0) (N := 16) hx hb hts in_X0 tyX0 tyX0_ok nmX0 hown hK hP hD hS 0 rfl rfl 10 (by decide) (hts _ q49) (fun _ h9 => h9) rfl hin rfl (by decide +kernel) rfl rfl (Nat.le_of_ble_eq_true rfl) dX0_init_79 (fun H locs hP hD hS => ?_)
  have hP : va_P (dC, dI) vwCl [(h0, .inr (0, [.ref a0, .ref a1, .int 0, .ref a3, .ref a4, .ref a5, .ref a6, .ref a7, .ref a8, .ref a9, .ref a10, .null, .null, .int 0, .null, .null])), (a0, .inl (d, 12, .inl (fun _ => 0))), (a1, .inl (d, 12, .inl (fun _ => 0))), (a3, .inl (d, 48, .inl (fun _ => 0))), (a4, .inl (d, 3, .inl (fun _ => 0))), (a5, .inl (d, 3, .inl (fun _ => 0))), (a6, .inl (d, 64, .inl (fun _ => 0))), (a7, .inl (d, 8, .inl (fun _ => 0))), (a8, .inl (d, 8, .inl (fun _ => 0))), (a9, .inl (d, 4, .inl (fun _ => 0))), (a10, .inl (d, 192, .inl (fun _ => 0)))] H := hP
  have hD : va_D A [(h0, .inr (0, [.ref a0, .ref a1, .int 0, .ref a3, .ref a4, .ref a5, .ref a6, .ref a7, .ref a8, .ref a9, .ref a10, .null, .null, .int 0, .null, .null])), (a0, .inl (d, 12, .inl (fun _ => 0))), (a1, .inl (d, 12, .inl (fun _ => 0))), (a3, .inl (d, 48, .inl (fun _ => 0))), (a4, .inl (d, 3, .inl (fun _ => 0))), (a5, .inl (d, 3, .inl (fun _ => 0))), (a6, .inl (d, 64, .inl (fun _ => 0))), (a7, .inl (d, 8, .inl (fun _ => 0))), (a8, .inl (d, 8, .inl (fun _ => 0))), (a9, .inl (d, 4, .inl (fun _ => 0))), (a10, .inl (d, 192, .inl (fun _ => 0)))] := hD
  refine lv_aload_n hx hb dX0_init_82 rfl (lv_at hl 0 rfl) ?_
  refine lv_bipush (v := nI 12) hx hb dX0_init_83 (by decide) ?_
  refine x_newd hx hb (hts _ q88) hK hP hD hS hA (N := 12) (by decide) (by decide) (by decide) (Nat.le_of_ble_eq_true rfl) (Nat.le_of_ble_eq_true rfl) dX0_init_85 (fun a11 H hP hD hS => ?_)
  have hP : va_P (dC, dI) vwCl [(h0, .inr (0, [.ref a0, .ref a1, .int 0, .ref a3, .ref a4, .ref a5, .ref a6, .ref a7, .ref a8, .ref a9, .ref a10, .null, .null, .int 0, .null, .null])), (a0, .inl (d, 12, .inl (fun _ => 0))), (a1, .inl (d, 12, .inl (fun _ => 0))), (a3, .inl (d, 48, .inl (fun _ => 0))), (a4, .inl (d, 3, .inl (fun _ => 0))), (a5, .inl (d, 3, .inl (fun _ => 0))), (a6, .inl (d, 64, .inl (fun _ => 0))), (a7, .inl (d, 8, .inl (fun _ => 0))), (a8, .inl (d, 8, .inl (fun _ => 0))), (a9, .inl (d, 4, .inl (fun _ => 0))), (a10, .inl (d, 192, .inl (fun _ => 0))), (a11, .inl (d, 12, .inl (fun _ => 0)))] H := hP
  have hD : va_D A [(h0, .inr (0, [.ref a0, .ref a1, .int 0, .ref a3, .ref a4, .ref a5, .ref a6, .ref a7, .ref a8, .ref a9, .ref a10, .null, .null, .int 0, .null, .null])), (a0, .inl (d, 12, .inl (fun _ => 0))), (a1, .inl (d, 12, .inl (fun _ => 0))), (a3, .inl (d, 48, .inl (fun _ => 0))), (a4, .inl (d, 3, .inl (fun _ => 0))), (a5, .inl (d, 3, .inl (fun _ => 0))), (a6, .inl (d, 64, .inl (fun _ => 0))), (a7, .inl (d, 8, .inl (fun _ => 0))), (a8, .inl (d, 8, .inl (fun _ => 0))), (a9, .inl (d, 4, .inl (fun _ => 0))), (a10, .inl (d, 192, .inl (fun _ => 0))), (a11, .inl (d, 12, .inl (fun _ => 0)))] := hD
  refine W.widen (k := 11) (n := 366) (by decide) (by decide) ?_
  refine va_putF (D := (dC, dI)) (ci := 0) (v := .ref a11) (ty := .array .int) (C := RX0) (T := TX0) (N := 16) hx hb hts in_X0 tyX0 tyX0_ok nmX0 hown hK hP hD hS 0 rfl rfl 11 (by decide) (hts _ q50) (fun _ h9 => h9) rfl hin rfl (by decide +kernel) rfl rfl (Nat.le_of_ble_eq_true rfl) dX0_init_87 (fun H locs hP hD hS => ?_)
  have hP : va_P (dC, dI) vwCl [(h0, .inr (0, [.ref a0, .ref a1, .int 0, .ref a3, .ref a4, .ref a5, .ref a6, .ref a7, .ref a8, .ref a9, .ref a10, .ref a11, .null, .int 0, .null, .null])), (a0, .inl (d, 12, .inl (fun _ => 0))), (a1, .inl (d, 12, .inl (fun _ => 0))), (a3, .inl (d, 48, .inl (fun _ => 0))), (a4, .inl (d, 3, .inl (fun _ => 0))), (a5, .inl (d, 3, .inl (fun _ => 0))), (a6, .inl (d, 64, .inl (fun _ => 0))), (a7, .inl (d, 8, .inl (fun _ => 0))), (a8, .inl (d, 8, .inl (fun _ => 0))), (a9, .inl (d, 4, .inl (fun _ => 0))), (a10, .inl (d, 192, .inl (fun _ => 0))), (a11, .inl (d, 12, .inl (fun _ => 0)))] H := hP
  have hD : va_D A [(h0, .inr (0, [.ref a0, .ref a1, .int 0, .ref a3, .ref a4, .ref a5, .ref a6, .ref a7, .ref a8, .ref a9, .ref a10, .ref a11, .null, .int 0, .null, .null])), (a0, .inl (d, 12, .inl (fun _ => 0))), (a1, .inl (d, 12, .inl (fun _ => 0))), (a3, .inl (d, 48, .inl (fun _ => 0))), (a4, .inl (d, 3, .inl (fun _ => 0))), (a5, .inl (d, 3, .inl (fun _ => 0))), (a6, .inl (d, 64, .inl (fun _ => 0))), (a7, .inl (d, 8, .inl (fun _ => 0))), (a8, .inl (d, 8, .inl (fun _ => 0))), (a9, .inl (d, 4, .inl (fun _ => 0))), (a10, .inl (d, 192, .inl (fun _ => 0))), (a11, .inl (d, 12, .inl (fun _ => 0)))] := hD
  refine lv_aload_n hx hb dX0_init_90 rfl (lv_at hl 0 rfl) ?_
  refine lv_bipush (v := nI 24) hx hb dX0_init_91 (by decide) ?_
  refine x_newd hx hb (hts _ q88) hK hP hD hS hA (N := 24) (by decide) (by decide) (by decide) (Nat.le_of_ble_eq_true rfl) (Nat.le_of_ble_eq_true rfl) dX0_init_93 (fun a12 H hP hD hS => ?_)
  have hP : va_P (dC, dI) vwCl [(h0, .inr (0, [.ref a0, .ref a1, .int 0, .ref a3, .ref a4, .ref a5, .ref a6, .ref a7, .ref a8, .ref a9, .ref a10, .ref a11, .null, .int 0, .null, .null])), (a0, .inl (d, 12, .inl (fun _ => 0))), (a1, .inl (d, 12, .inl (fun _ => 0))), (a3, .inl (d, 48, .inl (fun _ => 0))), (a4, .inl (d, 3, .inl (fun _ => 0))), (a5, .inl (d, 3, .inl (fun _ => 0))), (a6, .inl (d, 64, .inl (fun _ => 0))), (a7, .inl (d, 8, .inl (fun _ => 0))), (a8, .inl (d, 8, .inl (fun _ => 0))), (a9, .inl (d, 4, .inl (fun _ => 0))), (a10, .inl (d, 192, .inl (fun _ => 0))), (a11, .inl (d, 12, .inl (fun _ => 0))), (a12, .inl (d, 24, .inl (fun _ => 0)))] H := hP
  have hD : va_D A [(h0, .inr (0, [.ref a0, .ref a1, .int 0, .ref a3, .ref a4, .ref a5, .ref a6, .ref a7, .ref a8, .ref a9, .ref a10, .ref a11, .null, .int 0, .null, .null])), (a0, .inl (d, 12, .inl (fun _ => 0))), (a1, .inl (d, 12, .inl (fun _ => 0))), (a3, .inl (d, 48, .inl (fun _ => 0))), (a4, .inl (d, 3, .inl (fun _ => 0))), (a5, .inl (d, 3, .inl (fun _ => 0))), (a6, .inl (d, 64, .inl (fun _ => 0))), (a7, .inl (d, 8, .inl (fun _ => 0))), (a8, .inl (d, 8, .inl (fun _ => 0))), (a9, .inl (d, 4, .inl (fun _ => 0))), (a10, .inl (d, 192, .inl (fun _ => 0))), (a11, .inl (d, 12, .inl (fun _ => 0))), (a12, .inl (d, 24, .inl (fun _ => 0)))] := hD
  refine W.widen (k := 12) (n := 390) (by decide) (by decide) ?_
  refine va_putF (D := (dC, dI)) (ci := 0) (v := .ref a12) (ty := .array .int) (C := RX0) (T := TX0) (N := 16) hx hb hts in_X0 tyX0 tyX0_ok nmX0 hown hK hP hD hS 0 rfl rfl 12 (by decide) (hts _ q51) (fun _ h9 => h9) rfl hin rfl (by decide +kernel) rfl rfl (Nat.le_of_ble_eq_true rfl) dX0_init_95 (fun H locs hP hD hS => ?_)
  have hP : va_P (dC, dI) vwCl [(h0, .inr (0, [.ref a0, .ref a1, .int 0, .ref a3, .ref a4, .ref a5, .ref a6, .ref a7, .ref a8, .ref a9, .ref a10, .ref a11, .ref a12, .int 0, .null, .null])), (a0, .inl (d, 12, .inl (fun _ => 0))), (a1, .inl (d, 12, .inl (fun _ => 0))), (a3, .inl (d, 48, .inl (fun _ => 0))), (a4, .inl (d, 3, .inl (fun _ => 0))), (a5, .inl (d, 3, .inl (fun _ => 0))), (a6, .inl (d, 64, .inl (fun _ => 0))), (a7, .inl (d, 8, .inl (fun _ => 0))), (a8, .inl (d, 8, .inl (fun _ => 0))), (a9, .inl (d, 4, .inl (fun _ => 0))), (a10, .inl (d, 192, .inl (fun _ => 0))), (a11, .inl (d, 12, .inl (fun _ => 0))), (a12, .inl (d, 24, .inl (fun _ => 0)))] H := hP
  have hD : va_D A [(h0, .inr (0, [.ref a0, .ref a1, .int 0, .ref a3, .ref a4, .ref a5, .ref a6, .ref a7, .ref a8, .ref a9, .ref a10, .ref a11, .ref a12, .int 0, .null, .null])), (a0, .inl (d, 12, .inl (fun _ => 0))), (a1, .inl (d, 12, .inl (fun _ => 0))), (a3, .inl (d, 48, .inl (fun _ => 0))), (a4, .inl (d, 3, .inl (fun _ => 0))), (a5, .inl (d, 3, .inl (fun _ => 0))), (a6, .inl (d, 64, .inl (fun _ => 0))), (a7, .inl (d, 8, .inl (fun _ => 0))), (a8, .inl (d, 8, .inl (fun _ => 0))), (a9, .inl (d, 4, .inl (fun _ => 0))), (a10, .inl (d, 192, .inl (fun _ => 0))), (a11, .inl (d, 12, .inl (fun _ => 0))), (a12, .inl (d, 24, .inl (fun _ => 0)))] := hD
  refine lv_aload_n hx hb dX0_init_98 rfl (lv_at hl 0 rfl) ?_
  refine lv_bipush (v := nI 16) hx hb dX0_init_99 (by decide) ?_
  refine x_newd hx hb (hts _ q88) hK hP hD hS hA (N := 16) (by decide) (by decide) (by decide) (Nat.le_of_ble_eq_true rfl) (Nat.le_of_ble_eq_true rfl) dX0_init_101 (fun a14 H hP hD hS => ?_)
  have hP : va_P (dC, dI) vwCl [(h0, .inr (0, [.ref a0, .ref a1, .int 0, .ref a3, .ref a4, .ref a5, .ref a6, .ref a7, .ref a8, .ref a9, .ref a10, .ref a11, .ref a12, .int 0, .null, .null])), (a0, .inl (d, 12, .inl (fun _ => 0))), (a1, .inl (d, 12, .inl (fun _ => 0))), (a3, .inl (d, 48, .inl (fun _ => 0))), (a4, .inl (d, 3, .inl (fun _ => 0))), (a5, .inl (d, 3, .inl (fun _ => 0))), (a6, .inl (d, 64, .inl (fun _ => 0))), (a7, .inl (d, 8, .inl (fun _ => 0))), (a8, .inl (d, 8, .inl (fun _ => 0))), (a9, .inl (d, 4, .inl (fun _ => 0))), (a10, .inl (d, 192, .inl (fun _ => 0))), (a11, .inl (d, 12, .inl (fun _ => 0))), (a12, .inl (d, 24, .inl (fun _ => 0))), (a14, .inl (d, 16, .inl (fun _ => 0)))] H := hP
  have hD : va_D A [(h0, .inr (0, [.ref a0, .ref a1, .int 0, .ref a3, .ref a4, .ref a5, .ref a6, .ref a7, .ref a8, .ref a9, .ref a10, .ref a11, .ref a12, .int 0, .null, .null])), (a0, .inl (d, 12, .inl (fun _ => 0))), (a1, .inl (d, 12, .inl (fun _ => 0))), (a3, .inl (d, 48, .inl (fun _ => 0))), (a4, .inl (d, 3, .inl (fun _ => 0))), (a5, .inl (d, 3, .inl (fun _ => 0))), (a6, .inl (d, 64, .inl (fun _ => 0))), (a7, .inl (d, 8, .inl (fun _ => 0))), (a8, .inl (d, 8, .inl (fun _ => 0))), (a9, .inl (d, 4, .inl (fun _ => 0))), (a10, .inl (d, 192, .inl (fun _ => 0))), (a11, .inl (d, 12, .inl (fun _ => 0))), (a12, .inl (d, 24, .inl (fun _ => 0))), (a14, .inl (d, 16, .inl (fun _ => 0)))] := hD
  refine W.widen (k := 13) (n := 406) (by decide) (by decide) ?_
  refine va_putF (D := (dC, dI)) (ci := 0) (v := .ref a14) (ty := .array .int) (C := RX0) (T := TX0) (N := 16) hx hb hts in_X0 tyX0 tyX0_ok nmX0 hown hK hP hD hS 0 rfl rfl 14 (by decide) (hts _ q53) (fun _ h9 => h9) rfl hin rfl (by decide +kernel) rfl rfl (Nat.le_of_ble_eq_true rfl) dX0_init_103 (fun H locs hP hD hS => ?_)
  have hP : va_P (dC, dI) vwCl [(h0, .inr (0, [.ref a0, .ref a1, .int 0, .ref a3, .ref a4, .ref a5, .ref a6, .ref a7, .ref a8, .ref a9, .ref a10, .ref a11, .ref a12, .int 0, .ref a14, .null])), (a0, .inl (d, 12, .inl (fun _ => 0))), (a1, .inl (d, 12, .inl (fun _ => 0))), (a3, .inl (d, 48, .inl (fun _ => 0))), (a4, .inl (d, 3, .inl (fun _ => 0))), (a5, .inl (d, 3, .inl (fun _ => 0))), (a6, .inl (d, 64, .inl (fun _ => 0))), (a7, .inl (d, 8, .inl (fun _ => 0))), (a8, .inl (d, 8, .inl (fun _ => 0))), (a9, .inl (d, 4, .inl (fun _ => 0))), (a10, .inl (d, 192, .inl (fun _ => 0))), (a11, .inl (d, 12, .inl (fun _ => 0))), (a12, .inl (d, 24, .inl (fun _ => 0))), (a14, .inl (d, 16, .inl (fun _ => 0)))] H := hP
  have hD : va_D A [(h0, .inr (0, [.ref a0, .ref a1, .int 0, .ref a3, .ref a4, .ref a5, .ref a6, .ref a7, .ref a8, .ref a9, .ref a10, .ref a11, .ref a12, .int 0, .ref a14, .null])), (a0, .inl (d, 12, .inl (fun _ => 0))), (a1, .inl (d, 12, .inl (fun _ => 0))), (a3, .inl (d, 48, .inl (fun _ => 0))), (a4, .inl (d, 3, .inl (fun _ => 0))), (a5, .inl (d, 3, .inl (fun _ => 0))), (a6, .inl (d, 64, .inl (fun _ => 0))), (a7, .inl (d, 8, .inl (fun _ => 0))), (a8, .inl (d, 8, .inl (fun _ => 0))), (a9, .inl (d, 4, .inl (fun _ => 0))), (a10, .inl (d, 192, .inl (fun _ => 0))), (a11, .inl (d, 12, .inl (fun _ => 0))), (a12, .inl (d, 24, .inl (fun _ => 0))), (a14, .inl (d, 16, .inl (fun _ => 0)))] := hD
  refine lv_aload_n hx hb dX0_init_106 rfl (lv_at hl 0 rfl) ?_
  refine lv_bipush (v := nI 16) hx hb dX0_init_107 (by decide) ?_
  refine x_newd hx hb (hts _ q88) hK hP hD hS hA (N := 16) (by decide) (by decide) (by decide) (Nat.le_of_ble_eq_true rfl) (Nat.le_of_ble_eq_true rfl) dX0_init_109 (fun a15 H hP hD hS => ?_)
  have hP : va_P (dC, dI) vwCl [(h0, .inr (0, [.ref a0, .ref a1, .int 0, .ref a3, .ref a4, .ref a5, .ref a6, .ref a7, .ref a8, .ref a9, .ref a10, .ref a11, .ref a12, .int 0, .ref a14, .null])), (a0, .inl (d, 12, .inl (fun _ => 0))), (a1, .inl (d, 12, .inl (fun _ => 0))), (a3, .inl (d, 48, .inl (fun _ => 0))), (a4, .inl (d, 3, .inl (fun _ => 0))), (a5, .inl (d, 3, .inl (fun _ => 0))), (a6, .inl (d, 64, .inl (fun _ => 0))), (a7, .inl (d, 8, .inl (fun _ => 0))), (a8, .inl (d, 8, .inl (fun _ => 0))), (a9, .inl (d, 4, .inl (fun _ => 0))), (a10, .inl (d, 192, .inl (fun _ => 0))), (a11, .inl (d, 12, .inl (fun _ => 0))), (a12, .inl (d, 24, .inl (fun _ => 0))), (a14, .inl (d, 16, .inl (fun _ => 0))), (a15, .inl (d, 16, .inl (fun _ => 0)))] H := hP
  have hD : va_D A [(h0, .inr (0, [.ref a0, .ref a1, .int 0, .ref a3, .ref a4, .ref a5, .ref a6, .ref a7, .ref a8, .ref a9, .ref a10, .ref a11, .ref a12, .int 0, .ref a14, .null])), (a0, .inl (d, 12, .inl (fun _ => 0))), (a1, .inl (d, 12, .inl (fun _ => 0))), (a3, .inl (d, 48, .inl (fun _ => 0))), (a4, .inl (d, 3, .inl (fun _ => 0))), (a5, .inl (d, 3, .inl (fun _ => 0))), (a6, .inl (d, 64, .inl (fun _ => 0))), (a7, .inl (d, 8, .inl (fun _ => 0))), (a8, .inl (d, 8, .inl (fun _ => 0))), (a9, .inl (d, 4, .inl (fun _ => 0))), (a10, .inl (d, 192, .inl (fun _ => 0))), (a11, .inl (d, 12, .inl (fun _ => 0))), (a12, .inl (d, 24, .inl (fun _ => 0))), (a14, .inl (d, 16, .inl (fun _ => 0))), (a15, .inl (d, 16, .inl (fun _ => 0)))] := hD
  refine W.widen (k := 14) (n := 422) (by decide) (by decide) ?_
  refine va_putF (D := (dC, dI)) (ci := 0) (v := .ref a15) (ty := .array .int) (C := RX0) (T := TX0) (N := 16) hx hb hts in_X0 tyX0 tyX0_ok nmX0 hown hK hP hD hS 0 rfl rfl 15 (by decide) (hts _ q54) (fun _ h9 => h9) rfl hin rfl (by decide +kernel) rfl rfl (Nat.le_of_ble_eq_true rfl) dX0_init_111 (fun H locs hP hD hS => ?_)
  have hP : va_P (dC, dI) vwCl [(h0, .inr (0, [.ref a0, .ref a1, .int 0, .ref a3, .ref a4, .ref a5, .ref a6, .ref a7, .ref a8, .ref a9, .ref a10, .ref a11, .ref a12, .int 0, .ref a14, .ref a15])), (a0, .inl (d, 12, .inl (fun _ => 0))), (a1, .inl (d, 12, .inl (fun _ => 0))), (a3, .inl (d, 48, .inl (fun _ => 0))), (a4, .inl (d, 3, .inl (fun _ => 0))), (a5, .inl (d, 3, .inl (fun _ => 0))), (a6, .inl (d, 64, .inl (fun _ => 0))), (a7, .inl (d, 8, .inl (fun _ => 0))), (a8, .inl (d, 8, .inl (fun _ => 0))), (a9, .inl (d, 4, .inl (fun _ => 0))), (a10, .inl (d, 192, .inl (fun _ => 0))), (a11, .inl (d, 12, .inl (fun _ => 0))), (a12, .inl (d, 24, .inl (fun _ => 0))), (a14, .inl (d, 16, .inl (fun _ => 0))), (a15, .inl (d, 16, .inl (fun _ => 0)))] H := hP
  have hD : va_D A [(h0, .inr (0, [.ref a0, .ref a1, .int 0, .ref a3, .ref a4, .ref a5, .ref a6, .ref a7, .ref a8, .ref a9, .ref a10, .ref a11, .ref a12, .int 0, .ref a14, .ref a15])), (a0, .inl (d, 12, .inl (fun _ => 0))), (a1, .inl (d, 12, .inl (fun _ => 0))), (a3, .inl (d, 48, .inl (fun _ => 0))), (a4, .inl (d, 3, .inl (fun _ => 0))), (a5, .inl (d, 3, .inl (fun _ => 0))), (a6, .inl (d, 64, .inl (fun _ => 0))), (a7, .inl (d, 8, .inl (fun _ => 0))), (a8, .inl (d, 8, .inl (fun _ => 0))), (a9, .inl (d, 4, .inl (fun _ => 0))), (a10, .inl (d, 192, .inl (fun _ => 0))), (a11, .inl (d, 12, .inl (fun _ => 0))), (a12, .inl (d, 24, .inl (fun _ => 0))), (a14, .inl (d, 16, .inl (fun _ => 0))), (a15, .inl (d, 16, .inl (fun _ => 0)))] := hD
  have hP := hP.sub (ws' := sw_w1 (mk_ad [a0, a1, h0, a3, a4, a5, a6, a7, a8, a9, a10, a11, a12, 0, a14, a15]) d (fun _ _ => 0)) [1, 2, 0, 3, 4, 5, 6, 7, 8, 9, 10, 11, 12, 13, 14] rfl
  have hD := hD.sub (ws' := sw_w1 (mk_ad [a0, a1, h0, a3, a4, a5, a6, a7, a8, a9, a10, a11, a12, 0, a14, a15]) d (fun _ _ => 0)) [1, 2, 0, 3, 4, 5, 6, 7, 8, 9, 10, 11, 12, 13, 14] (by decide) rfl
  have h2 : mk_ad [a0, a1, h0, a3, a4, a5, a6, a7, a8, a9, a10, a11, a12, 0, a14, a15] 2 = h0 := rfl
  generalize mk_ad [a0, a1, h0, a3, a4, a5, a6, a7, a8, a9, a10, a11, a12, 0, a14, a15] = ad at hP hD h2
  refine lv_iconst (v := nI 0) hx hb dX0_init_114 (by decide) ?_
  refine lv_istore_n (lv' := [(1, .int (nI 0)), (0, .ref h0)]) hx hb dX0_init_115 rfl hl (by decide) rfl (fun ls hl => ?_)
  refine in_lp4 (ad := ad) hx hb hts hown hK (σ0 := fun _ _ => 0) (fun σa H locs ls d4 k4 hP hD hS hl => ?_) 4 0 (fun _ _ => 0) _ _ ls (by decide) (by decide) (fun j hj => absurd hj (by omega)) (fun _ _ => rfl) hP hD hS (by rw [h2]; exact lv_sub hl [1, 0] rfl)
  refine lv_iconst (v := nI 0) hx hb dX0_init_134 (by decide) ?_
  refine lv_istore_n (lv' := [(1, .int (nI 0)), (0, .ref (ad 2))]) hx hb dX0_init_135 rfl hl (by decide) rfl (fun ls hl => ?_)
  refine in_lp7 (ad := ad) hx hb hts hown hK (σ0 := σa) (fun σb H locs ls d7 k7 hP hD hS hl => ?_) 9 0 σa _ _ ls (by decide) (by decide) (fun j hj => absurd hj (by omega)) (fun _ _ => rfl) hP hD hS (lv_sub hl [1, 0] rfl)
  refine lv_iconst (v := nI 0) hx hb dX0_init_155 (by decide) ?_
  refine lv_istore_n (lv' := [(1, .int (nI 0)), (0, .ref (ad 2))]) hx hb dX0_init_156 rfl hl (by decide) rfl (fun ls hl => ?_)
  refine in_lp11 (ad := ad) hx hb hts hown hK (σ0 := σb) (fun σc H locs ls d11 k11 hP hD hS hl => ?_) 13 0 σb _ _ ls (by decide) (by decide) (fun j hj => absurd hj (by omega)) (fun _ _ => rfl) hP hD hS (lv_sub hl [1, 0] rfl)
  have hini : sg_ini σc := ⟨fun j hj => by rw [k11 4 (by decide), k7 4 (by decide)]; exact d4 j hj, fun j hj => by rw [k11 7 (by decide)]; exact d7 j hj, d11, fun k n4 n7 n11 => by rw [k11 k n11, k7 k n7, k4 k n4]⟩
  exact W.vret hx hb hr (fun t ht hW => ⟨⟨(ad, σc), rfl, ⟨h2, hini⟩, by rw [ht]; exact hP, va_K.moved hW.alike hK, hD⟩, hS.F ht⟩) hS.2.2 dX0_init_176
def in_C (dC : Nat → ClassId) (dI : Nat → Nat → Nat) (d : ClassId) (A : Nat → Prop) (h0 : Nat) (u : Nat) (t : State) : Prop := va_P (dC, dI) vwCl [(h0, .inr (1, [.ref u])), (u, .inl (d, 192, .inl (fun _ => 0)))] t.heap ∧ va_K (dC, dI) vwCl [(d, .int)] t ∧ va_D A [(h0, .inr (1, [.ref u])), (u, .inl (d, 192, .inl (fun _ => 0)))]
abbrev rn_init : Room := { frames := 1, cells := 1, slots := 192, locals := 20 }
set_option maxHeartbeats 4000000 in
set_option maxRecDepth 100000 in
theorem mm_init (l : Launch) (dC : Nat → ClassId) (dI : Nat → Nat → Nat) (d : ClassId) (h0 sz : Nat) : Met l yX1_init (ws_ yX1_init cX1_init 1 none) rn_init (va_Pc [.ref h0] (fun U => U.heap.size = sz ∧ va_P (dC, dI) vwCl [(h0, .inr (1, [.null]))] U.heap ∧ va_K (dC, dI) vwCl [(d, .int)] U ∧ va_D (fun _ => True) [(h0, .inr (1, [.null]))])) (va_Qv (fun _ : Nat => True) (in_C dC dI d (va_A [(h0, .inr (1, [.null]))] sz) h0) (va_A [(h0, .inr (1, [.null]))] sz)) 1 192 (va_A [(h0, .inr (1, [.null]))] sz) := by
  refine Met.ofW (cc := cX1_init) (maxL := 1) (ret := none) (by decide) rfl ?_
  intro p e s m args below meth c s₁ B hml hv
  obtain ⟨rfl, hsz, hP, hK, hD0⟩ := hv
  have hx := B.exec
  have hb := B.bytes
  have hr := B.returns
  have hts := atoms_spec (ws := ws_ yX1_init cX1_init 1 none) B.pre
  have hts : ∀ w ∈ lw_all, w.before _ s = true := fun w h => hts w (List.mem_cons_of_mem _ h)
  have hown : s.vm.findClass RX1 = some m.cls := findClass_of_methodNamed B.named
  have hlocks := B.notSynchronized
  have hin : meth.name = "<init>" := (name_of_methodNamed B.named B.method).1
  subst hsz
  have hD := hD0.self (sz := s.heap.size)
  generalize hAe : va_A [(h0, .inr (1, [.null]))] s.heap.size = A at hD ⊢
  have hA : ∀ q : Nat, s.heap.size ≤ q → A q := fun q h => by rw [← hAe]; exact Or.inr h
  have hS : va_S A s.heap s.heap [] := va_S.rf
  have hP : va_P (dC, dI) vwCl [(h0, .inr (1, [.null]))] s.heap := hP
  have hl := lv_entry ([.ref h0]) (n := 1) (Nat.le_of_ble_eq_true rfl)
  rw [lg_entry_eq]
  generalize (lg_sl ([.ref h0]) ++ List.replicate (1 - (lg_sl ([.ref h0])).length) Slot.unset).toArray = ls at hl ⊢
  have hl : lv_has ls 1 [(0, .ref h0)] := hl
  refine lv_aload_n hx hb dX1_init_0 rfl (lv_at hl 0 rfl) ?_
  refine W.objInit hx hb hown (hts _ q258) (hts _ q37) (hts _ q38) rfl (by rw [hml]; exact hl.1) rfl dX1_init_1 (Nat.le_of_ble_eq_true rfl) (Nat.le_of_ble_eq_true rfl) ?_
  refine W.eq (g2 := F0 m 4 ls []) rfl ?_
  refine lv_aload_n hx hb dX1_init_4 rfl (lv_at hl 0 rfl) ?_
  refine lv_sipush (v := nI 192) hx hb dX1_init_5 (by decide) ?_
  refine x_newd hx hb (hts _ q88) hK hP hD hS hA (N := 192) (by decide) (by decide) (by decide) (Nat.le_of_ble_eq_true rfl) (Nat.le_of_ble_eq_true rfl) dX1_init_8 (fun a0 H hP hD hS => ?_)
  have hP : va_P (dC, dI) vwCl [(h0, .inr (1, [.null])), (a0, .inl (d, 192, .inl (fun _ => 0)))] H := hP
  have hD : va_D A [(h0, .inr (1, [.null])), (a0, .inl (d, 192, .inl (fun _ => 0)))] := hD
  refine va_putF (D := (dC, dI)) (ci := 1) (v := .ref a0) (ty := .array .int) (C := RX1) (T := TX1) (N := 1) hx hb hts in_X1 tyX1 tyX1_ok nmX1 hown hK hP hD hS 0 rfl rfl 0 (by decide) (hts _ q259) (fun _ h9 => h9) rfl hin rfl (by decide +kernel) rfl rfl (Nat.le_of_ble_eq_true rfl) dX1_init_10 (fun H locs hP hD hS => ?_)
  have hP : va_P (dC, dI) vwCl [(h0, .inr (1, [.ref a0])), (a0, .inl (d, 192, .inl (fun _ => 0)))] H := hP
  have hD : va_D A [(h0, .inr (1, [.ref a0])), (a0, .inl (d, 192, .inl (fun _ => 0)))] := hD
  refine W.widen (k := 1) (n := 192) (by decide) (by decide) ?_
  exact W.vret hx hb hr (fun t ht hW => ⟨⟨a0, rfl, trivial, by rw [ht]; exact hP, va_K.moved hW.alike hK, hD⟩, hS.F ht⟩) hS.2.2 dX1_init_13
end
section
/-! THE LAW, printed by gen50.py -/
def xScr (K : xK) (L : Nat) (xs : Nat → Int32) : Prop := ∀ (pc j : Nat) (lv : xL) (st : List xV) (σ : Sg), decode code pc = .ok (.iaload, 1) → j < L → K (pc + 1) lv (.inl (xs j) :: st) σ → K pc lv (.inl (nI j) :: .inr 17 :: st) σ
def xLen (K : xK) (L : Nat) : Prop := ∀ (pc : Nat) (lv : xL) (st : List xV) (σ : Sg), decode code pc = .ok (.arraylength, 1) → K (pc + 1) lv (.inl (nI L) :: st) σ → K pc lv (.inr 17 :: st) σ
theorem r_tab {l : Launch} {R : Room} {dC : Nat → ClassId} {dI : Nat → Nat → Nat} {ad : Nat → Nat} {d : ClassId} {own : String} {cc : ByteArray} {nL : Nat} {K : xK} {lv : xL} {st : List xV} {σ : Sg} (G : xGood l R dC dI ad d own cc nL K) (pc tgt : Nat) {x : Int32} {dflt lo hi : Int} {offs : Array Int} {len : Nat} {off : Int} (hd : decode cc pc = .ok (.tableswitch dflt lo hi offs, len)) (h1 : ¬ x.toInt < lo) (h2 : ¬ hi < x.toInt) (ho : offs[(x.toInt - lo).toNat]? = some off) (ht : (pc : Int) + off = (tgt : Int)) (kk : K tgt lv st σ) : K pc lv (.inl x :: st) σ := by
  obtain ⟨p, e, s, m, args, below, meth, c, cells, slots, Q, A, hx, hb, hml, hown, hts, hA, hK, hf, rfl⟩ := G
  intro H locs ls hP hD hS hl
  exact lv_tableIn hx hb hd h1 h2 ho ht (kk H locs ls hP hD hS hl)
theorem and15 (x : Int32) : ∃ k, k < 16 ∧ x &&& nI 15 = nI k := by
  refine ⟨(x.toBitVec &&& 15#32).toNat, ?_, ?_⟩
  · rw [BitVec.toNat_and]
    exact Nat.lt_succ_of_le Nat.and_le_right
  · apply Int32.toBitVec_inj.1
    show x.toBitVec &&& BitVec.ofNat 32 15 = BitVec.ofNat 32 ((x.toBitVec &&& 15#32).toNat)
    rw [BitVec.ofNat_toNat, BitVec.setWidth_eq]
theorem gt5 {i L : Nat} (hi : i < 2 ^ 30) (hL : L < 2 ^ 30) (h : ¬ nI L - nI 5 < nI i) : i + 5 ≤ L := by
  rw [Int32.lt_iff_toInt_lt, pk_sub_toInt hL (by decide), nI_toInt (by omega)] at h
  omega
theorem mem_eq {σ σ' : Sg} {M : Mm} (h : mem σ M) (e : σ' 16 = σ 16) : mem σ' M := fun q hq i hi => by rw [e]; exact h q hq i hi
theorem lw_both {S : Sp} (hS : Sok S) {M : Mm} {as as' : List Int32} {σ σ1 σ2 : Sg} {r1 r2 : Int32} (hby : BY M) (h1 : Po_S S M as σ r1 σ1) (h2 : Po_M S M as' σ1 r2 σ2) : r1 = r2 ∧ ∃ M', Iv σ2 M' [] ∧ mem σ2 M' ∧ BY M' := by
  obtain ⟨M1, a1, a2, a3⟩ := h1
  obtain ⟨M2, b1, b2, b3⟩ := h2
  obtain ⟨e1, e2⟩ := hS.1 M r1 M1 r2 M2 hby a1 b1
  subst e2
  exact ⟨e1, M1, iv_same a2 (b3 0 (by decide)) (b3 1 (by decide)) (b3 3 (by decide)) (b3 4 (by decide)) (b3 6 (by decide)) (b3 7 (by decide)) (b3 8 (by decide)) (b3 10 (by decide)) (b3 11 (by decide)), b2, hS.2 M r1 M1 hby a1⟩
section LAWC
variable {l : Launch} {dC : Nat → ClassId} {dI : Nat → Nat → Nat} {ad : Nat → Nat} {d : ClassId} {K : xK}
abbrev lw_lv (i : Nat) : xL := [(0, .inr 17), (1, .inr 2), (2, .inr 13), (3, .inl (nI i))]
theorem lc_write (G : xGood l room_1 dC dI ad d R_law code 4 K) {L i : Nat} {xs : Nat → Int32} (hs : xScr K L xs) (hL : L ≤ 320) (hi : i + 5 ≤ L) {σ : Sg} {M : Mm} (hI : Iv σ M []) (hm : mem σ M) (hby : BY M) (hT : ∀ σ M, Iv σ M [] → mem σ M → BY M → K 616 (lw_lv i) [] σ) : K 112 (lw_lv i) [] σ := by
  refine r_aload G 112 dL_law_112 rfl ?_
  refine r_aload G 113 dL_law_113 rfl ?_
  refine r_iload_n G 114 dL_law_114 rfl ?_
  refine r_iconst G 115 (nI 1) dL_law_115 (by decide) ?_
  refine r_iadd G 116 dL_law_116 (nI_add _ _) ?_
  refine hs 117 _ _ _ _ dL_law_117 (by omega) ?_
  refine r_aload G 118 dL_law_118 rfl ?_
  refine r_iload_n G 119 dL_law_119 rfl ?_
  refine r_iconst G 120 (nI 2) dL_law_120 (by decide) ?_
  refine r_iadd G 121 dL_law_121 (nI_add _ _) ?_
  refine hs 122 _ _ _ _ dL_law_122 (by omega) ?_
  refine r_aload G 123 dL_law_123 rfl ?_
  refine r_iload_n G 124 dL_law_124 rfl ?_
  refine r_iconst G 125 (nI 3) dL_law_125 (by decide) ?_
  refine r_iadd G 126 dL_law_126 (nI_add _ _) ?_
  refine hs 127 _ _ _ _ dL_law_127 (by omega) ?_
  refine c_I3 (x_callI G (met_write l dC dI ad d (xs (i + 1)) (xs (i + 2)) (xs (i + 3)) M) (lw_V q89 q90 q91 q29 q92) xRec2 (by decide +kernel) rfl rfl ⟨Nat.le_of_ble_eq_true rfl, Nat.le_of_ble_eq_true rfl⟩) 128 dL_law_128 (Nat.le_of_ble_eq_true rfl) ⟨rfl, hI⟩ (fun r_128 σ_128 h_128 => ?_)
  have hm1 : mem σ_128 M := by obtain ⟨M1, a1, a2, a3⟩ := h_128; exact mem_eq hm a3
  refine r_aload G 131 dL_law_131 rfl ?_
  refine r_aload G 132 dL_law_132 rfl ?_
  refine r_iload_n G 133 dL_law_133 rfl ?_
  refine r_iconst G 134 (nI 1) dL_law_134 (by decide) ?_
  refine r_iadd G 135 dL_law_135 (nI_add _ _) ?_
  refine hs 136 _ _ _ _ dL_law_136 (by omega) ?_
  refine r_aload G 137 dL_law_137 rfl ?_
  refine r_iload_n G 138 dL_law_138 rfl ?_
  refine r_iconst G 139 (nI 2) dL_law_139 (by decide) ?_
  refine r_iadd G 140 dL_law_140 (nI_add _ _) ?_
  refine hs 141 _ _ _ _ dL_law_141 (by omega) ?_
  refine r_aload G 142 dL_law_142 rfl ?_
  refine r_iload_n G 143 dL_law_143 rfl ?_
  refine r_iconst G 144 (nI 3) dL_law_144 (by decide) ?_
  refine r_iadd G 145 dL_law_145 (nI_add _ _) ?_
  refine hs 146 _ _ _ _ dL_law_146 (by omega) ?_
  refine c_I3 (x_callI G (mm_write l dC dI ad d (xs (i + 1)) (xs (i + 2)) (xs (i + 3)) M) (lw_V q263 q264 q265 q30 q266) xRec13 (by decide +kernel) rfl rfl ⟨Nat.le_of_ble_eq_true rfl, Nat.le_of_ble_eq_true rfl⟩) 147 dL_law_147 (Nat.le_of_ble_eq_true rfl) ⟨rfl, hm1, hby⟩ (fun r_147 σ_147 h_147 => ?_)
  obtain ⟨er, M2, c1, c2, c3⟩ := lw_both (ok_write _ _ _) hby h_128 h_147
  refine r_icmp_eq G 150 616 dL_law_150 (by decide) (fun h_150 => ?_) (fun h_150 => absurd er h_150)
  exact hT _ _ c1 c2 c3
theorem lc_read (G : xGood l room_1 dC dI ad d R_law code 4 K) {L i : Nat} {xs : Nat → Int32} (hs : xScr K L xs) (hL : L ≤ 320) (hi : i + 5 ≤ L) {σ : Sg} {M : Mm} (hI : Iv σ M []) (hm : mem σ M) (hby : BY M) (hT : ∀ σ M, Iv σ M [] → mem σ M → BY M → K 616 (lw_lv i) [] σ) : K 155 (lw_lv i) [] σ := by
  refine r_aload G 155 dL_law_155 rfl ?_
  refine r_aload G 156 dL_law_156 rfl ?_
  refine r_iload_n G 157 dL_law_157 rfl ?_
  refine r_iconst G 158 (nI 1) dL_law_158 (by decide) ?_
  refine r_iadd G 159 dL_law_159 (nI_add _ _) ?_
  refine hs 160 _ _ _ _ dL_law_160 (by omega) ?_
  refine r_aload G 161 dL_law_161 rfl ?_
  refine r_iload_n G 162 dL_law_162 rfl ?_
  refine r_iconst G 163 (nI 2) dL_law_163 (by decide) ?_
  refine r_iadd G 164 dL_law_164 (nI_add _ _) ?_
  refine hs 165 _ _ _ _ dL_law_165 (by omega) ?_
  refine c_I2 (x_callI G (met_read l dC dI ad d (xs (i + 1)) (xs (i + 2)) M) (lw_V q181 q182 q183 q29 q184) xRec2 (by decide +kernel) rfl rfl ⟨Nat.le_of_ble_eq_true rfl, Nat.le_of_ble_eq_true rfl⟩) 166 dL_law_166 (Nat.le_of_ble_eq_true rfl) ⟨rfl, hI⟩ (fun r_166 σ_166 h_166 => ?_)
  have hm1 : mem σ_166 M := by obtain ⟨M1, a1, a2, a3⟩ := h_166; exact mem_eq hm a3
  refine r_aload G 169 dL_law_169 rfl ?_
  refine r_aload G 170 dL_law_170 rfl ?_
  refine r_iload_n G 171 dL_law_171 rfl ?_
  refine r_iconst G 172 (nI 1) dL_law_172 (by decide) ?_
  refine r_iadd G 173 dL_law_173 (nI_add _ _) ?_
  refine hs 174 _ _ _ _ dL_law_174 (by omega) ?_
  refine r_aload G 175 dL_law_175 rfl ?_
  refine r_iload_n G 176 dL_law_176 rfl ?_
  refine r_iconst G 177 (nI 2) dL_law_177 (by decide) ?_
  refine r_iadd G 178 dL_law_178 (nI_add _ _) ?_
  refine hs 179 _ _ _ _ dL_law_179 (by omega) ?_
  refine c_I2 (x_callI G (mm_read l dC dI ad d (xs (i + 1)) (xs (i + 2)) M) (lw_V q279 q280 q281 q30 q282) xRec13 (by decide +kernel) rfl rfl ⟨Nat.le_of_ble_eq_true rfl, Nat.le_of_ble_eq_true rfl⟩) 180 dL_law_180 (Nat.le_of_ble_eq_true rfl) ⟨rfl, hm1, hby⟩ (fun r_180 σ_180 h_180 => ?_)
  obtain ⟨er, M2, c1, c2, c3⟩ := lw_both (ok_read _ _) hby h_166 h_180
  refine r_icmp_eq G 183 616 dL_law_183 (by decide) (fun h_183 => ?_) (fun h_183 => absurd er h_183)
  exact hT _ _ c1 c2 c3
theorem lc_fill (G : xGood l room_1 dC dI ad d R_law code 4 K) {L i : Nat} {xs : Nat → Int32} (hs : xScr K L xs) (hL : L ≤ 320) (hi : i + 5 ≤ L) {σ : Sg} {M : Mm} (hI : Iv σ M []) (hm : mem σ M) (hby : BY M) (hT : ∀ σ M, Iv σ M [] → mem σ M → BY M → K 616 (lw_lv i) [] σ) : K 188 (lw_lv i) [] σ := by
  refine r_aload G 188 dL_law_188 rfl ?_
  refine r_aload G 189 dL_law_189 rfl ?_
  refine r_iload_n G 190 dL_law_190 rfl ?_
  refine r_iconst G 191 (nI 1) dL_law_191 (by decide) ?_
  refine r_iadd G 192 dL_law_192 (nI_add _ _) ?_
  refine hs 193 _ _ _ _ dL_law_193 (by omega) ?_
  refine r_aload G 194 dL_law_194 rfl ?_
  refine r_iload_n G 195 dL_law_195 rfl ?_
  refine r_iconst G 196 (nI 2) dL_law_196 (by decide) ?_
  refine r_iadd G 197 dL_law_197 (nI_add _ _) ?_
  refine hs 198 _ _ _ _ dL_law_198 (by omega) ?_
  refine r_aload G 199 dL_law_199 rfl ?_
  refine r_iload_n G 200 dL_law_200 rfl ?_
  refine r_iconst G 201 (nI 3) dL_law_201 (by decide) ?_
  refine r_iadd G 202 dL_law_202 (nI_add _ _) ?_
  refine hs 203 _ _ _ _ dL_law_203 (by omega) ?_
  refine r_aload G 204 dL_law_204 rfl ?_
  refine r_iload_n G 205 dL_law_205 rfl ?_
  refine r_iconst G 206 (nI 4) dL_law_206 (by decide) ?_
  refine r_iadd G 207 dL_law_207 (nI_add _ _) ?_
  refine hs 208 _ _ _ _ dL_law_208 (by omega) ?_
  refine c_I4 (x_callI G (met_fill l dC dI ad d (xs (i + 1)) (xs (i + 2)) (xs (i + 3)) (xs (i + 4)) M) (lw_V q185 q186 q187 q29 q188) xRec2 (by decide +kernel) rfl rfl ⟨Nat.le_of_ble_eq_true rfl, Nat.le_of_ble_eq_true rfl⟩) 209 dL_law_209 (Nat.le_of_ble_eq_true rfl) ⟨rfl, hI⟩ (fun r_209 σ_209 h_209 => ?_)
  have hm1 : mem σ_209 M := by obtain ⟨M1, a1, a2, a3⟩ := h_209; exact mem_eq hm a3
  refine r_aload G 212 dL_law_212 rfl ?_
  refine r_aload G 213 dL_law_213 rfl ?_
  refine r_iload_n G 214 dL_law_214 rfl ?_
  refine r_iconst G 215 (nI 1) dL_law_215 (by decide) ?_
  refine r_iadd G 216 dL_law_216 (nI_add _ _) ?_
  refine hs 217 _ _ _ _ dL_law_217 (by omega) ?_
  refine r_aload G 218 dL_law_218 rfl ?_
  refine r_iload_n G 219 dL_law_219 rfl ?_
  refine r_iconst G 220 (nI 2) dL_law_220 (by decide) ?_
  refine r_iadd G 221 dL_law_221 (nI_add _ _) ?_
  refine hs 222 _ _ _ _ dL_law_222 (by omega) ?_
  refine r_aload G 223 dL_law_223 rfl ?_
  refine r_iload_n G 224 dL_law_224 rfl ?_
  refine r_iconst G 225 (nI 3) dL_law_225 (by decide) ?_
  refine r_iadd G 226 dL_law_226 (nI_add _ _) ?_
  refine hs 227 _ _ _ _ dL_law_227 (by omega) ?_
  refine r_aload G 228 dL_law_228 rfl ?_
  refine r_iload_n G 229 dL_law_229 rfl ?_
  refine r_iconst G 230 (nI 4) dL_law_230 (by decide) ?_
  refine r_iadd G 231 dL_law_231 (nI_add _ _) ?_
  refine hs 232 _ _ _ _ dL_law_232 (by omega) ?_
  refine c_I4 (x_callI G (mm_fill l dC dI ad d (xs (i + 1)) (xs (i + 2)) (xs (i + 3)) (xs (i + 4)) M) (lw_V q283 q284 q285 q30 q286) xRec13 (by decide +kernel) rfl rfl ⟨Nat.le_of_ble_eq_true rfl, Nat.le_of_ble_eq_true rfl⟩) 233 dL_law_233 (Nat.le_of_ble_eq_true rfl) ⟨rfl, hm1, hby⟩ (fun r_233 σ_233 h_233 => ?_)
  obtain ⟨er, M2, c1, c2, c3⟩ := lw_both (ok_fill _ _ _ _) hby h_209 h_233
  refine r_icmp_eq G 236 616 dL_law_236 (by decide) (fun h_236 => ?_) (fun h_236 => absurd er h_236)
  exact hT _ _ c1 c2 c3
theorem lc_copy (G : xGood l room_1 dC dI ad d R_law code 4 K) {L i : Nat} {xs : Nat → Int32} (hs : xScr K L xs) (hL : L ≤ 320) (hi : i + 5 ≤ L) {σ : Sg} {M : Mm} (hI : Iv σ M []) (hm : mem σ M) (hby : BY M) (hT : ∀ σ M, Iv σ M [] → mem σ M → BY M → K 616 (lw_lv i) [] σ) : K 241 (lw_lv i) [] σ := by
  refine r_aload G 241 dL_law_241 rfl ?_
  refine r_aload G 242 dL_law_242 rfl ?_
  refine r_iload_n G 243 dL_law_243 rfl ?_
  refine r_iconst G 244 (nI 1) dL_law_244 (by decide) ?_
  refine r_iadd G 245 dL_law_245 (nI_add _ _) ?_
  refine hs 246 _ _ _ _ dL_law_246 (by omega) ?_
  refine r_aload G 247 dL_law_247 rfl ?_
  refine r_iload_n G 248 dL_law_248 rfl ?_
  refine r_iconst G 249 (nI 2) dL_law_249 (by decide) ?_
  refine r_iadd G 250 dL_law_250 (nI_add _ _) ?_
  refine hs 251 _ _ _ _ dL_law_251 (by omega) ?_
  refine c_I2 (x_callI G (met_copy l dC dI ad d (xs (i + 1)) (xs (i + 2)) M) (lw_V q189 q190 q191 q29 q192) xRec2 (by decide +kernel) rfl rfl ⟨Nat.le_of_ble_eq_true rfl, Nat.le_of_ble_eq_true rfl⟩) 252 dL_law_252 (Nat.le_of_ble_eq_true rfl) ⟨rfl, hI⟩ (fun r_252 σ_252 h_252 => ?_)
  have hm1 : mem σ_252 M := by obtain ⟨M1, a1, a2, a3⟩ := h_252; exact mem_eq hm a3
  refine r_aload G 255 dL_law_255 rfl ?_
  refine r_aload G 256 dL_law_256 rfl ?_
  refine r_iload_n G 257 dL_law_257 rfl ?_
  refine r_iconst G 258 (nI 1) dL_law_258 (by decide) ?_
  refine r_iadd G 259 dL_law_259 (nI_add _ _) ?_
  refine hs 260 _ _ _ _ dL_law_260 (by omega) ?_
  refine r_aload G 261 dL_law_261 rfl ?_
  refine r_iload_n G 262 dL_law_262 rfl ?_
  refine r_iconst G 263 (nI 2) dL_law_263 (by decide) ?_
  refine r_iadd G 264 dL_law_264 (nI_add _ _) ?_
  refine hs 265 _ _ _ _ dL_law_265 (by omega) ?_
  refine c_I2 (x_callI G (mm_copy l dC dI ad d (xs (i + 1)) (xs (i + 2)) M) (lw_V q287 q288 q289 q30 q290) xRec13 (by decide +kernel) rfl rfl ⟨Nat.le_of_ble_eq_true rfl, Nat.le_of_ble_eq_true rfl⟩) 266 dL_law_266 (Nat.le_of_ble_eq_true rfl) ⟨rfl, hm1, hby⟩ (fun r_266 σ_266 h_266 => ?_)
  obtain ⟨er, M2, c1, c2, c3⟩ := lw_both (ok_copy _ _) hby h_252 h_266
  refine r_icmp_eq G 269 616 dL_law_269 (by decide) (fun h_269 => ?_) (fun h_269 => absurd er h_269)
  exact hT _ _ c1 c2 c3
theorem lc_exchange (G : xGood l room_1 dC dI ad d R_law code 4 K) {L i : Nat} {xs : Nat → Int32} (hs : xScr K L xs) (hL : L ≤ 320) (hi : i + 5 ≤ L) {σ : Sg} {M : Mm} (hI : Iv σ M []) (hm : mem σ M) (hby : BY M) (hT : ∀ σ M, Iv σ M [] → mem σ M → BY M → K 616 (lw_lv i) [] σ) : K 274 (lw_lv i) [] σ := by
  refine r_aload G 274 dL_law_274 rfl ?_
  refine r_aload G 275 dL_law_275 rfl ?_
  refine r_iload_n G 276 dL_law_276 rfl ?_
  refine r_iconst G 277 (nI 1) dL_law_277 (by decide) ?_
  refine r_iadd G 278 dL_law_278 (nI_add _ _) ?_
  refine hs 279 _ _ _ _ dL_law_279 (by omega) ?_
  refine r_aload G 280 dL_law_280 rfl ?_
  refine r_iload_n G 281 dL_law_281 rfl ?_
  refine r_iconst G 282 (nI 2) dL_law_282 (by decide) ?_
  refine r_iadd G 283 dL_law_283 (nI_add _ _) ?_
  refine hs 284 _ _ _ _ dL_law_284 (by omega) ?_
  refine c_I2 (x_callI G (met_exchange l dC dI ad d (xs (i + 1)) (xs (i + 2)) M) (lw_V q197 q198 q199 q29 q200) xRec2 (by decide +kernel) rfl rfl ⟨Nat.le_of_ble_eq_true rfl, Nat.le_of_ble_eq_true rfl⟩) 285 dL_law_285 (Nat.le_of_ble_eq_true rfl) ⟨rfl, hI⟩ (fun r_285 σ_285 h_285 => ?_)
  have hm1 : mem σ_285 M := by obtain ⟨M1, a1, a2, a3⟩ := h_285; exact mem_eq hm a3
  refine r_aload G 288 dL_law_288 rfl ?_
  refine r_aload G 289 dL_law_289 rfl ?_
  refine r_iload_n G 290 dL_law_290 rfl ?_
  refine r_iconst G 291 (nI 1) dL_law_291 (by decide) ?_
  refine r_iadd G 292 dL_law_292 (nI_add _ _) ?_
  refine hs 293 _ _ _ _ dL_law_293 (by omega) ?_
  refine r_aload G 294 dL_law_294 rfl ?_
  refine r_iload_n G 295 dL_law_295 rfl ?_
  refine r_iconst G 296 (nI 2) dL_law_296 (by decide) ?_
  refine r_iadd G 297 dL_law_297 (nI_add _ _) ?_
  refine hs 298 _ _ _ _ dL_law_298 (by omega) ?_
  refine c_I2 (x_callI G (mm_exchange l dC dI ad d (xs (i + 1)) (xs (i + 2)) M) (lw_V q291 q292 q293 q30 q294) xRec13 (by decide +kernel) rfl rfl ⟨Nat.le_of_ble_eq_true rfl, Nat.le_of_ble_eq_true rfl⟩) 299 dL_law_299 (Nat.le_of_ble_eq_true rfl) ⟨rfl, hm1, hby⟩ (fun r_299 σ_299 h_299 => ?_)
  obtain ⟨er, M2, c1, c2, c3⟩ := lw_both (ok_exchange _ _) hby h_285 h_299
  refine r_icmp_eq G 302 616 dL_law_302 (by decide) (fun h_302 => ?_) (fun h_302 => absurd er h_302)
  exact hT _ _ c1 c2 c3
theorem lc_move (G : xGood l room_1 dC dI ad d R_law code 4 K) {L i : Nat} {xs : Nat → Int32} (hs : xScr K L xs) (hL : L ≤ 320) (hi : i + 5 ≤ L) {σ : Sg} {M : Mm} (hI : Iv σ M []) (hm : mem σ M) (hby : BY M) (hT : ∀ σ M, Iv σ M [] → mem σ M → BY M → K 616 (lw_lv i) [] σ) : K 307 (lw_lv i) [] σ := by
  refine r_aload G 307 dL_law_307 rfl ?_
  refine r_aload G 308 dL_law_308 rfl ?_
  refine r_iload_n G 309 dL_law_309 rfl ?_
  refine r_iconst G 310 (nI 1) dL_law_310 (by decide) ?_
  refine r_iadd G 311 dL_law_311 (nI_add _ _) ?_
  refine hs 312 _ _ _ _ dL_law_312 (by omega) ?_
  refine r_aload G 313 dL_law_313 rfl ?_
  refine r_iload_n G 314 dL_law_314 rfl ?_
  refine r_iconst G 315 (nI 2) dL_law_315 (by decide) ?_
  refine r_iadd G 316 dL_law_316 (nI_add _ _) ?_
  refine hs 317 _ _ _ _ dL_law_317 (by omega) ?_
  refine r_aload G 318 dL_law_318 rfl ?_
  refine r_iload_n G 319 dL_law_319 rfl ?_
  refine r_iconst G 320 (nI 3) dL_law_320 (by decide) ?_
  refine r_iadd G 321 dL_law_321 (nI_add _ _) ?_
  refine hs 322 _ _ _ _ dL_law_322 (by omega) ?_
  refine r_aload G 323 dL_law_323 rfl ?_
  refine r_iload_n G 324 dL_law_324 rfl ?_
  refine r_iconst G 325 (nI 4) dL_law_325 (by decide) ?_
  refine r_iadd G 326 dL_law_326 (nI_add _ _) ?_
  refine hs 327 _ _ _ _ dL_law_327 (by omega) ?_
  refine c_I4 (x_callI G (met_move l dC dI ad d (xs (i + 1)) (xs (i + 2)) (xs (i + 3)) (xs (i + 4)) M) (lw_V q205 q206 q207 q29 q208) xRec2 (by decide +kernel) rfl rfl ⟨Nat.le_of_ble_eq_true rfl, Nat.le_of_ble_eq_true rfl⟩) 328 dL_law_328 (Nat.le_of_ble_eq_true rfl) ⟨rfl, hI⟩ (fun r_328 σ_328 h_328 => ?_)
  have hm1 : mem σ_328 M := by obtain ⟨M1, a1, a2, a3⟩ := h_328; exact mem_eq hm a3
  refine r_aload G 331 dL_law_331 rfl ?_
  refine r_aload G 332 dL_law_332 rfl ?_
  refine r_iload_n G 333 dL_law_333 rfl ?_
  refine r_iconst G 334 (nI 1) dL_law_334 (by decide) ?_
  refine r_iadd G 335 dL_law_335 (nI_add _ _) ?_
  refine hs 336 _ _ _ _ dL_law_336 (by omega) ?_
  refine r_aload G 337 dL_law_337 rfl ?_
  refine r_iload_n G 338 dL_law_338 rfl ?_
  refine r_iconst G 339 (nI 2) dL_law_339 (by decide) ?_
  refine r_iadd G 340 dL_law_340 (nI_add _ _) ?_
  refine hs 341 _ _ _ _ dL_law_341 (by omega) ?_
  refine r_aload G 342 dL_law_342 rfl ?_
  refine r_iload_n G 343 dL_law_343 rfl ?_
  refine r_iconst G 344 (nI 3) dL_law_344 (by decide) ?_
  refine r_iadd G 345 dL_law_345 (nI_add _ _) ?_
  refine hs 346 _ _ _ _ dL_law_346 (by omega) ?_
  refine r_aload G 347 dL_law_347 rfl ?_
  refine r_iload_n G 348 dL_law_348 rfl ?_
  refine r_iconst G 349 (nI 4) dL_law_349 (by decide) ?_
  refine r_iadd G 350 dL_law_350 (nI_add _ _) ?_
  refine hs 351 _ _ _ _ dL_law_351 (by omega) ?_
  refine c_I4 (x_callI G (mm_move l dC dI ad d (xs (i + 1)) (xs (i + 2)) (xs (i + 3)) (xs (i + 4)) M) (lw_V q295 q296 q297 q30 q298) xRec13 (by decide +kernel) rfl rfl ⟨Nat.le_of_ble_eq_true rfl, Nat.le_of_ble_eq_true rfl⟩) 352 dL_law_352 (Nat.le_of_ble_eq_true rfl) ⟨rfl, hm1, hby⟩ (fun r_352 σ_352 h_352 => ?_)
  obtain ⟨er, M2, c1, c2, c3⟩ := lw_both (ok_move _ _ _ _) hby h_328 h_352
  refine r_icmp_eq G 355 616 dL_law_355 (by decide) (fun h_355 => ?_) (fun h_355 => absurd er h_355)
  exact hT _ _ c1 c2 c3
theorem lc_mix (G : xGood l room_1 dC dI ad d R_law code 4 K) {L i : Nat} {xs : Nat → Int32} (hs : xScr K L xs) (hL : L ≤ 320) (hi : i + 5 ≤ L) {σ : Sg} {M : Mm} (hI : Iv σ M []) (hm : mem σ M) (hby : BY M) (hT : ∀ σ M, Iv σ M [] → mem σ M → BY M → K 616 (lw_lv i) [] σ) : K 360 (lw_lv i) [] σ := by
  refine r_aload G 360 dL_law_360 rfl ?_
  refine r_aload G 361 dL_law_361 rfl ?_
  refine r_iload_n G 362 dL_law_362 rfl ?_
  refine r_iconst G 363 (nI 1) dL_law_363 (by decide) ?_
  refine r_iadd G 364 dL_law_364 (nI_add _ _) ?_
  refine hs 365 _ _ _ _ dL_law_365 (by omega) ?_
  refine r_aload G 366 dL_law_366 rfl ?_
  refine r_iload_n G 367 dL_law_367 rfl ?_
  refine r_iconst G 368 (nI 2) dL_law_368 (by decide) ?_
  refine r_iadd G 369 dL_law_369 (nI_add _ _) ?_
  refine hs 370 _ _ _ _ dL_law_370 (by omega) ?_
  refine c_I2 (x_callI G (met_mix l dC dI ad d (xs (i + 1)) (xs (i + 2)) M) (lw_V q209 q210 q211 q29 q212) xRec2 (by decide +kernel) rfl rfl ⟨Nat.le_of_ble_eq_true rfl, Nat.le_of_ble_eq_true rfl⟩) 371 dL_law_371 (Nat.le_of_ble_eq_true rfl) ⟨rfl, hI⟩ (fun r_371 σ_371 h_371 => ?_)
  have hm1 : mem σ_371 M := by obtain ⟨M1, a1, a2, a3⟩ := h_371; exact mem_eq hm a3
  refine r_aload G 374 dL_law_374 rfl ?_
  refine r_aload G 375 dL_law_375 rfl ?_
  refine r_iload_n G 376 dL_law_376 rfl ?_
  refine r_iconst G 377 (nI 1) dL_law_377 (by decide) ?_
  refine r_iadd G 378 dL_law_378 (nI_add _ _) ?_
  refine hs 379 _ _ _ _ dL_law_379 (by omega) ?_
  refine r_aload G 380 dL_law_380 rfl ?_
  refine r_iload_n G 381 dL_law_381 rfl ?_
  refine r_iconst G 382 (nI 2) dL_law_382 (by decide) ?_
  refine r_iadd G 383 dL_law_383 (nI_add _ _) ?_
  refine hs 384 _ _ _ _ dL_law_384 (by omega) ?_
  refine c_I2 (x_callI G (mm_mix l dC dI ad d (xs (i + 1)) (xs (i + 2)) M) (lw_V q299 q300 q301 q30 q302) xRec13 (by decide +kernel) rfl rfl ⟨Nat.le_of_ble_eq_true rfl, Nat.le_of_ble_eq_true rfl⟩) 385 dL_law_385 (Nat.le_of_ble_eq_true rfl) ⟨rfl, hm1, hby⟩ (fun r_385 σ_385 h_385 => ?_)
  obtain ⟨er, M2, c1, c2, c3⟩ := lw_both (ok_mix _ _) hby h_371 h_385
  refine r_icmp_eq G 388 616 dL_law_388 (by decide) (fun h_388 => ?_) (fun h_388 => absurd er h_388)
  exact hT _ _ c1 c2 c3
theorem lc_drop (G : xGood l room_1 dC dI ad d R_law code 4 K) {L i : Nat} {xs : Nat → Int32} (hs : xScr K L xs) (hL : L ≤ 320) (hi : i + 5 ≤ L) {σ : Sg} {M : Mm} (hI : Iv σ M []) (hm : mem σ M) (hby : BY M) (hT : ∀ σ M, Iv σ M [] → mem σ M → BY M → K 616 (lw_lv i) [] σ) : K 393 (lw_lv i) [] σ := by
  refine r_aload G 393 dL_law_393 rfl ?_
  refine r_aload G 394 dL_law_394 rfl ?_
  refine r_iload_n G 395 dL_law_395 rfl ?_
  refine r_iconst G 396 (nI 1) dL_law_396 (by decide) ?_
  refine r_iadd G 397 dL_law_397 (nI_add _ _) ?_
  refine hs 398 _ _ _ _ dL_law_398 (by omega) ?_
  refine c_I1 (x_callI G (met_drop l dC dI ad d (xs (i + 1)) M) (lw_V q213 q214 q215 q29 q216) xRec2 (by decide +kernel) rfl rfl ⟨Nat.le_of_ble_eq_true rfl, Nat.le_of_ble_eq_true rfl⟩) 399 dL_law_399 (Nat.le_of_ble_eq_true rfl) ⟨rfl, hI⟩ (fun r_399 σ_399 h_399 => ?_)
  have hm1 : mem σ_399 M := by obtain ⟨M1, a1, a2, a3⟩ := h_399; exact mem_eq hm a3
  refine r_aload G 402 dL_law_402 rfl ?_
  refine r_aload G 403 dL_law_403 rfl ?_
  refine r_iload_n G 404 dL_law_404 rfl ?_
  refine r_iconst G 405 (nI 1) dL_law_405 (by decide) ?_
  refine r_iadd G 406 dL_law_406 (nI_add _ _) ?_
  refine hs 407 _ _ _ _ dL_law_407 (by omega) ?_
  refine c_I1 (x_callI G (mm_drop l dC dI ad d (xs (i + 1)) M) (lw_V q303 q304 q305 q30 q306) xRec13 (by decide +kernel) rfl rfl ⟨Nat.le_of_ble_eq_true rfl, Nat.le_of_ble_eq_true rfl⟩) 408 dL_law_408 (Nat.le_of_ble_eq_true rfl) ⟨rfl, hm1, hby⟩ (fun r_408 σ_408 h_408 => ?_)
  obtain ⟨er, M2, c1, c2, c3⟩ := lw_both (ok_drop _) hby h_399 h_408
  refine r_icmp_eq G 411 616 dL_law_411 (by decide) (fun h_411 => ?_) (fun h_411 => absurd er h_411)
  exact hT _ _ c1 c2 c3
theorem lc_sum (G : xGood l room_1 dC dI ad d R_law code 4 K) {L i : Nat} {xs : Nat → Int32} (hs : xScr K L xs) (hL : L ≤ 320) (hi : i + 5 ≤ L) {σ : Sg} {M : Mm} (hI : Iv σ M []) (hm : mem σ M) (hby : BY M) (hT : ∀ σ M, Iv σ M [] → mem σ M → BY M → K 616 (lw_lv i) [] σ) : K 416 (lw_lv i) [] σ := by
  refine r_aload G 416 dL_law_416 rfl ?_
  refine r_aload G 417 dL_law_417 rfl ?_
  refine r_iload_n G 418 dL_law_418 rfl ?_
  refine r_iconst G 419 (nI 1) dL_law_419 (by decide) ?_
  refine r_iadd G 420 dL_law_420 (nI_add _ _) ?_
  refine hs 421 _ _ _ _ dL_law_421 (by omega) ?_
  refine c_I1 (x_callI G (met_sum l dC dI ad d (xs (i + 1)) M) (lw_V q217 q218 q219 q29 q220) xRec2 (by decide +kernel) rfl rfl ⟨Nat.le_of_ble_eq_true rfl, Nat.le_of_ble_eq_true rfl⟩) 422 dL_law_422 (Nat.le_of_ble_eq_true rfl) ⟨rfl, hI⟩ (fun r_422 σ_422 h_422 => ?_)
  have hm1 : mem σ_422 M := by obtain ⟨M1, a1, a2, a3⟩ := h_422; exact mem_eq hm a3
  refine r_aload G 425 dL_law_425 rfl ?_
  refine r_aload G 426 dL_law_426 rfl ?_
  refine r_iload_n G 427 dL_law_427 rfl ?_
  refine r_iconst G 428 (nI 1) dL_law_428 (by decide) ?_
  refine r_iadd G 429 dL_law_429 (nI_add _ _) ?_
  refine hs 430 _ _ _ _ dL_law_430 (by omega) ?_
  refine c_I1 (x_callI G (mm_sum l dC dI ad d (xs (i + 1)) M) (lw_V q307 q308 q309 q30 q310) xRec13 (by decide +kernel) rfl rfl ⟨Nat.le_of_ble_eq_true rfl, Nat.le_of_ble_eq_true rfl⟩) 431 dL_law_431 (Nat.le_of_ble_eq_true rfl) ⟨rfl, hm1, hby⟩ (fun r_431 σ_431 h_431 => ?_)
  obtain ⟨er, M2, c1, c2, c3⟩ := lw_both (ok_sum _) hby h_422 h_431
  refine r_icmp_eq G 434 616 dL_law_434 (by decide) (fun h_434 => ?_) (fun h_434 => absurd er h_434)
  exact hT _ _ c1 c2 c3
theorem lc_differ (G : xGood l room_1 dC dI ad d R_law code 4 K) {L i : Nat} {xs : Nat → Int32} (hs : xScr K L xs) (hL : L ≤ 320) (hi : i + 5 ≤ L) {σ : Sg} {M : Mm} (hI : Iv σ M []) (hm : mem σ M) (hby : BY M) (hT : ∀ σ M, Iv σ M [] → mem σ M → BY M → K 616 (lw_lv i) [] σ) : K 439 (lw_lv i) [] σ := by
  refine r_aload G 439 dL_law_439 rfl ?_
  refine r_aload G 440 dL_law_440 rfl ?_
  refine r_iload_n G 441 dL_law_441 rfl ?_
  refine r_iconst G 442 (nI 1) dL_law_442 (by decide) ?_
  refine r_iadd G 443 dL_law_443 (nI_add _ _) ?_
  refine hs 444 _ _ _ _ dL_law_444 (by omega) ?_
  refine r_aload G 445 dL_law_445 rfl ?_
  refine r_iload_n G 446 dL_law_446 rfl ?_
  refine r_iconst G 447 (nI 2) dL_law_447 (by decide) ?_
  refine r_iadd G 448 dL_law_448 (nI_add _ _) ?_
  refine hs 449 _ _ _ _ dL_law_449 (by omega) ?_
  refine c_I2 (x_callI G (met_differ l dC dI ad d (xs (i + 1)) (xs (i + 2)) M) (lw_V q221 q222 q223 q29 q224) xRec2 (by decide +kernel) rfl rfl ⟨Nat.le_of_ble_eq_true rfl, Nat.le_of_ble_eq_true rfl⟩) 450 dL_law_450 (Nat.le_of_ble_eq_true rfl) ⟨rfl, hI⟩ (fun r_450 σ_450 h_450 => ?_)
  have hm1 : mem σ_450 M := by obtain ⟨M1, a1, a2, a3⟩ := h_450; exact mem_eq hm a3
  refine r_aload G 453 dL_law_453 rfl ?_
  refine r_aload G 454 dL_law_454 rfl ?_
  refine r_iload_n G 455 dL_law_455 rfl ?_
  refine r_iconst G 456 (nI 1) dL_law_456 (by decide) ?_
  refine r_iadd G 457 dL_law_457 (nI_add _ _) ?_
  refine hs 458 _ _ _ _ dL_law_458 (by omega) ?_
  refine r_aload G 459 dL_law_459 rfl ?_
  refine r_iload_n G 460 dL_law_460 rfl ?_
  refine r_iconst G 461 (nI 2) dL_law_461 (by decide) ?_
  refine r_iadd G 462 dL_law_462 (nI_add _ _) ?_
  refine hs 463 _ _ _ _ dL_law_463 (by omega) ?_
  refine c_I2 (x_callI G (mm_differ l dC dI ad d (xs (i + 1)) (xs (i + 2)) M) (lw_V q311 q312 q313 q30 q314) xRec13 (by decide +kernel) rfl rfl ⟨Nat.le_of_ble_eq_true rfl, Nat.le_of_ble_eq_true rfl⟩) 464 dL_law_464 (Nat.le_of_ble_eq_true rfl) ⟨rfl, hm1, hby⟩ (fun r_464 σ_464 h_464 => ?_)
  obtain ⟨er, M2, c1, c2, c3⟩ := lw_both (ok_differ _ _) hby h_450 h_464
  refine r_icmp_eq G 467 616 dL_law_467 (by decide) (fun h_467 => ?_) (fun h_467 => absurd er h_467)
  exact hT _ _ c1 c2 c3
theorem lc_find (G : xGood l room_1 dC dI ad d R_law code 4 K) {L i : Nat} {xs : Nat → Int32} (hs : xScr K L xs) (hL : L ≤ 320) (hi : i + 5 ≤ L) {σ : Sg} {M : Mm} (hI : Iv σ M []) (hm : mem σ M) (hby : BY M) (hT : ∀ σ M, Iv σ M [] → mem σ M → BY M → K 616 (lw_lv i) [] σ) : K 472 (lw_lv i) [] σ := by
  refine r_aload G 472 dL_law_472 rfl ?_
  refine r_aload G 473 dL_law_473 rfl ?_
  refine r_iload_n G 474 dL_law_474 rfl ?_
  refine r_iconst G 475 (nI 1) dL_law_475 (by decide) ?_
  refine r_iadd G 476 dL_law_476 (nI_add _ _) ?_
  refine hs 477 _ _ _ _ dL_law_477 (by omega) ?_
  refine r_aload G 478 dL_law_478 rfl ?_
  refine r_iload_n G 479 dL_law_479 rfl ?_
  refine r_iconst G 480 (nI 2) dL_law_480 (by decide) ?_
  refine r_iadd G 481 dL_law_481 (nI_add _ _) ?_
  refine hs 482 _ _ _ _ dL_law_482 (by omega) ?_
  refine r_aload G 483 dL_law_483 rfl ?_
  refine r_iload_n G 484 dL_law_484 rfl ?_
  refine r_iconst G 485 (nI 3) dL_law_485 (by decide) ?_
  refine r_iadd G 486 dL_law_486 (nI_add _ _) ?_
  refine hs 487 _ _ _ _ dL_law_487 (by omega) ?_
  refine c_I3 (x_callI G (met_find l dC dI ad d (xs (i + 1)) (xs (i + 2)) (xs (i + 3)) M) (lw_V q229 q230 q231 q29 q232) xRec2 (by decide +kernel) rfl rfl ⟨Nat.le_of_ble_eq_true rfl, Nat.le_of_ble_eq_true rfl⟩) 488 dL_law_488 (Nat.le_of_ble_eq_true rfl) ⟨rfl, hI⟩ (fun r_488 σ_488 h_488 => ?_)
  have hm1 : mem σ_488 M := by obtain ⟨M1, a1, a2, a3⟩ := h_488; exact mem_eq hm a3
  refine r_aload G 491 dL_law_491 rfl ?_
  refine r_aload G 492 dL_law_492 rfl ?_
  refine r_iload_n G 493 dL_law_493 rfl ?_
  refine r_iconst G 494 (nI 1) dL_law_494 (by decide) ?_
  refine r_iadd G 495 dL_law_495 (nI_add _ _) ?_
  refine hs 496 _ _ _ _ dL_law_496 (by omega) ?_
  refine r_aload G 497 dL_law_497 rfl ?_
  refine r_iload_n G 498 dL_law_498 rfl ?_
  refine r_iconst G 499 (nI 2) dL_law_499 (by decide) ?_
  refine r_iadd G 500 dL_law_500 (nI_add _ _) ?_
  refine hs 501 _ _ _ _ dL_law_501 (by omega) ?_
  refine r_aload G 502 dL_law_502 rfl ?_
  refine r_iload_n G 503 dL_law_503 rfl ?_
  refine r_iconst G 504 (nI 3) dL_law_504 (by decide) ?_
  refine r_iadd G 505 dL_law_505 (nI_add _ _) ?_
  refine hs 506 _ _ _ _ dL_law_506 (by omega) ?_
  refine c_I3 (x_callI G (mm_find l dC dI ad d (xs (i + 1)) (xs (i + 2)) (xs (i + 3)) M) (lw_V q315 q316 q317 q30 q318) xRec13 (by decide +kernel) rfl rfl ⟨Nat.le_of_ble_eq_true rfl, Nat.le_of_ble_eq_true rfl⟩) 507 dL_law_507 (Nat.le_of_ble_eq_true rfl) ⟨rfl, hm1, hby⟩ (fun r_507 σ_507 h_507 => ?_)
  obtain ⟨er, M2, c1, c2, c3⟩ := lw_both (ok_find _ _ _) hby h_488 h_507
  refine r_icmp_eq G 510 616 dL_law_510 (by decide) (fun h_510 => ?_) (fun h_510 => absurd er h_510)
  exact hT _ _ c1 c2 c3
theorem lc_blank (G : xGood l room_1 dC dI ad d R_law code 4 K) {L i : Nat} {xs : Nat → Int32} (hs : xScr K L xs) (hL : L ≤ 320) (hi : i + 5 ≤ L) {σ : Sg} {M : Mm} (hI : Iv σ M []) (hm : mem σ M) (hby : BY M) (hT : ∀ σ M, Iv σ M [] → mem σ M → BY M → K 616 (lw_lv i) [] σ) : K 515 (lw_lv i) [] σ := by
  refine r_aload G 515 dL_law_515 rfl ?_
  refine c_I0 (x_callI G (met_blank l dC dI ad d  M) (lw_V q233 q234 q235 q29 q236) xRec2 (by decide +kernel) rfl rfl ⟨Nat.le_of_ble_eq_true rfl, Nat.le_of_ble_eq_true rfl⟩) 516 dL_law_516 (Nat.le_of_ble_eq_true rfl) ⟨rfl, hI⟩ (fun r_516 σ_516 h_516 => ?_)
  have hm1 : mem σ_516 M := by obtain ⟨M1, a1, a2, a3⟩ := h_516; exact mem_eq hm a3
  refine r_aload G 519 dL_law_519 rfl ?_
  refine c_I0 (x_callI G (mm_blank l dC dI ad d  M) (lw_V q319 q320 q321 q30 q322) xRec13 (by decide +kernel) rfl rfl ⟨Nat.le_of_ble_eq_true rfl, Nat.le_of_ble_eq_true rfl⟩) 520 dL_law_520 (Nat.le_of_ble_eq_true rfl) ⟨rfl, hm1, hby⟩ (fun r_520 σ_520 h_520 => ?_)
  obtain ⟨er, M2, c1, c2, c3⟩ := lw_both (ok_blank) hby h_516 h_520
  refine r_icmp_eq G 523 616 dL_law_523 (by decide) (fun h_523 => ?_) (fun h_523 => absurd er h_523)
  exact hT _ _ c1 c2 c3
theorem lc_twin (G : xGood l room_1 dC dI ad d R_law code 4 K) {L i : Nat} {xs : Nat → Int32} (hs : xScr K L xs) (hL : L ≤ 320) (hi : i + 5 ≤ L) {σ : Sg} {M : Mm} (hI : Iv σ M []) (hm : mem σ M) (hby : BY M) (hT : ∀ σ M, Iv σ M [] → mem σ M → BY M → K 616 (lw_lv i) [] σ) : K 528 (lw_lv i) [] σ := by
  refine r_aload G 528 dL_law_528 rfl ?_
  refine r_aload G 529 dL_law_529 rfl ?_
  refine r_iload_n G 530 dL_law_530 rfl ?_
  refine r_iconst G 531 (nI 1) dL_law_531 (by decide) ?_
  refine r_iadd G 532 dL_law_532 (nI_add _ _) ?_
  refine hs 533 _ _ _ _ dL_law_533 (by omega) ?_
  refine c_I1 (x_callI G (met_twin l dC dI ad d (xs (i + 1)) M) (lw_V q237 q238 q239 q29 q240) xRec2 (by decide +kernel) rfl rfl ⟨Nat.le_of_ble_eq_true rfl, Nat.le_of_ble_eq_true rfl⟩) 534 dL_law_534 (Nat.le_of_ble_eq_true rfl) ⟨rfl, hI⟩ (fun r_534 σ_534 h_534 => ?_)
  have hm1 : mem σ_534 M := by obtain ⟨M1, a1, a2, a3⟩ := h_534; exact mem_eq hm a3
  refine r_aload G 537 dL_law_537 rfl ?_
  refine r_aload G 538 dL_law_538 rfl ?_
  refine r_iload_n G 539 dL_law_539 rfl ?_
  refine r_iconst G 540 (nI 1) dL_law_540 (by decide) ?_
  refine r_iadd G 541 dL_law_541 (nI_add _ _) ?_
  refine hs 542 _ _ _ _ dL_law_542 (by omega) ?_
  refine c_I1 (x_callI G (mm_twin l dC dI ad d (xs (i + 1)) M) (lw_V q324 q325 q326 q30 q327) xRec13 (by decide +kernel) rfl rfl ⟨Nat.le_of_ble_eq_true rfl, Nat.le_of_ble_eq_true rfl⟩) 543 dL_law_543 (Nat.le_of_ble_eq_true rfl) ⟨rfl, hm1, hby⟩ (fun r_543 σ_543 h_543 => ?_)
  obtain ⟨er, M2, c1, c2, c3⟩ := lw_both (ok_twin _) hby h_534 h_543
  refine r_icmp_eq G 546 616 dL_law_546 (by decide) (fun h_546 => ?_) (fun h_546 => absurd er h_546)
  exact hT _ _ c1 c2 c3
theorem lc_away (G : xGood l room_1 dC dI ad d R_law code 4 K) {L i : Nat} {xs : Nat → Int32} (hs : xScr K L xs) (hL : L ≤ 320) (hi : i + 5 ≤ L) {σ : Sg} {M : Mm} (hI : Iv σ M []) (hm : mem σ M) (hby : BY M) (hT : ∀ σ M, Iv σ M [] → mem σ M → BY M → K 616 (lw_lv i) [] σ) : K 551 (lw_lv i) [] σ := by
  refine r_aload G 551 dL_law_551 rfl ?_
  refine r_aload G 552 dL_law_552 rfl ?_
  refine r_iload_n G 553 dL_law_553 rfl ?_
  refine r_iconst G 554 (nI 1) dL_law_554 (by decide) ?_
  refine r_iadd G 555 dL_law_555 (nI_add _ _) ?_
  refine hs 556 _ _ _ _ dL_law_556 (by omega) ?_
  refine c_I1 (x_callI G (met_away l dC dI ad d (xs (i + 1)) M) (lw_V q241 q242 q243 q29 q244) xRec2 (by decide +kernel) rfl rfl ⟨Nat.le_of_ble_eq_true rfl, Nat.le_of_ble_eq_true rfl⟩) 557 dL_law_557 (Nat.le_of_ble_eq_true rfl) ⟨rfl, hI⟩ (fun r_557 σ_557 h_557 => ?_)
  have hm1 : mem σ_557 M := by obtain ⟨M1, a1, a2, a3⟩ := h_557; exact mem_eq hm a3
  refine r_aload G 560 dL_law_560 rfl ?_
  refine r_aload G 561 dL_law_561 rfl ?_
  refine r_iload_n G 562 dL_law_562 rfl ?_
  refine r_iconst G 563 (nI 1) dL_law_563 (by decide) ?_
  refine r_iadd G 564 dL_law_564 (nI_add _ _) ?_
  refine hs 565 _ _ _ _ dL_law_565 (by omega) ?_
  refine c_I1 (x_callI G (mm_away l dC dI ad d (xs (i + 1)) M) (lw_V q329 q330 q331 q30 q332) xRec13 (by decide +kernel) rfl rfl ⟨Nat.le_of_ble_eq_true rfl, Nat.le_of_ble_eq_true rfl⟩) 566 dL_law_566 (Nat.le_of_ble_eq_true rfl) ⟨rfl, hm1, hby⟩ (fun r_566 σ_566 h_566 => ?_)
  obtain ⟨er, M2, c1, c2, c3⟩ := lw_both (ok_away _) hby h_557 h_566
  refine r_icmp_eq G 569 616 dL_law_569 (by decide) (fun h_569 => ?_) (fun h_569 => absurd er h_569)
  exact hT _ _ c1 c2 c3
theorem lc_flush (G : xGood l room_1 dC dI ad d R_law code 4 K) {L i : Nat} {xs : Nat → Int32} (hs : xScr K L xs) (hL : L ≤ 320) (hi : i + 5 ≤ L) {σ : Sg} {M : Mm} (hI : Iv σ M []) (hm : mem σ M) (hby : BY M) (hT : ∀ σ M, Iv σ M [] → mem σ M → BY M → K 616 (lw_lv i) [] σ) : K 574 (lw_lv i) [] σ := by
  refine r_aload G 574 dL_law_574 rfl ?_
  refine r_aload G 575 dL_law_575 rfl ?_
  refine r_iload_n G 576 dL_law_576 rfl ?_
  refine r_iconst G 577 (nI 1) dL_law_577 (by decide) ?_
  refine r_iadd G 578 dL_law_578 (nI_add _ _) ?_
  refine hs 579 _ _ _ _ dL_law_579 (by omega) ?_
  refine c_V1 (x_callV G (met_flush l dC dI ad d (xs (i + 1)) M) (lw_V q245 q246 q247 q29 q248) xRec2 (by decide +kernel) rfl rfl ⟨Nat.le_of_ble_eq_true rfl, Nat.le_of_ble_eq_true rfl⟩) 580 dL_law_580 (Nat.le_of_ble_eq_true rfl) ⟨rfl, hI⟩ (fun σ_580 h_580 => ?_)
  obtain ⟨b1, b2⟩ := h_580
  refine r_aload G 583 dL_law_583 rfl ?_
  refine r_aload G 584 dL_law_584 rfl ?_
  refine r_iload_n G 585 dL_law_585 rfl ?_
  refine r_iconst G 586 (nI 1) dL_law_586 (by decide) ?_
  refine r_iadd G 587 dL_law_587 (nI_add _ _) ?_
  refine hs 588 _ _ _ _ dL_law_588 (by omega) ?_
  refine c_V1 (x_callV G (mm_flush l dC dI ad d (xs (i + 1))) (lw_V q333 q334 q335 q30 q336) xRec13 (by decide +kernel) rfl rfl ⟨Nat.le_of_ble_eq_true rfl, Nat.le_of_ble_eq_true rfl⟩) 589 dL_law_589 (Nat.le_of_ble_eq_true rfl) rfl (fun σ_589 h_589 => ?_)
  obtain rfl : σ_589 = σ_580 := h_589
  refine r_goto G 592 616 dL_law_592 (by decide) ?_
  exact hT _ _ b1 (mem_eq hm b2) hby
theorem lc_rest (G : xGood l room_1 dC dI ad d R_law code 4 K) {L i : Nat} {xs : Nat → Int32} (hs : xScr K L xs) (hL : L ≤ 320) (hi : i + 5 ≤ L) {σ : Sg} {M : Mm} (hI : Iv σ M []) (hm : mem σ M) (hby : BY M) (hT : ∀ σ M, Iv σ M [] → mem σ M → BY M → K 616 (lw_lv i) [] σ) : K 595 (lw_lv i) [] σ := by
  refine r_aload G 595 dL_law_595 rfl ?_
  refine r_aload G 596 dL_law_596 rfl ?_
  refine r_iload_n G 597 dL_law_597 rfl ?_
  refine r_iconst G 598 (nI 1) dL_law_598 (by decide) ?_
  refine r_iadd G 599 dL_law_599 (nI_add _ _) ?_
  refine hs 600 _ _ _ _ dL_law_600 (by omega) ?_
  refine c_V1 (x_callV G (met_rest l dC dI ad d (xs (i + 1)) M) (lw_V q249 q250 q251 q29 q252) xRec2 (by decide +kernel) rfl rfl ⟨Nat.le_of_ble_eq_true rfl, Nat.le_of_ble_eq_true rfl⟩) 601 dL_law_601 (Nat.le_of_ble_eq_true rfl) ⟨rfl, hI⟩ (fun σ_601 h_601 => ?_)
  obtain ⟨b1, b2⟩ := h_601
  refine r_aload G 604 dL_law_604 rfl ?_
  refine r_aload G 605 dL_law_605 rfl ?_
  refine r_iload_n G 606 dL_law_606 rfl ?_
  refine r_iconst G 607 (nI 1) dL_law_607 (by decide) ?_
  refine r_iadd G 608 dL_law_608 (nI_add _ _) ?_
  refine hs 609 _ _ _ _ dL_law_609 (by omega) ?_
  refine c_V1 (x_callV G (mm_rest l dC dI ad d (xs (i + 1))) (lw_V q337 q338 q339 q30 q340) xRec13 (by decide +kernel) rfl rfl ⟨Nat.le_of_ble_eq_true rfl, Nat.le_of_ble_eq_true rfl⟩) 610 dL_law_610 (Nat.le_of_ble_eq_true rfl) rfl (fun σ_610 h_610 => ?_)
  obtain rfl : σ_610 = σ_601 := h_610
  refine r_goto G 613 616 dL_law_613 (by decide) ?_
  exact hT _ _ b1 (mem_eq hm b2) hby
theorem lw_lp (G : xGood l room_1 dC dI ad d R_law code 4 K) {L : Nat} {xs : Nat → Int32} (hs : xScr K L xs) (hlen : xLen K L) (hL : L ≤ 320) (hone : ∀ (lv : xL) (σ : Sg), K 622 lv [] σ) :
    ∀ (t i : Nat) (σ : Sg) (M : Mm), i ≤ L → L + 1 ≤ t + i → Iv σ M [] → mem σ M → BY M → K 18 (lw_lv i) [] σ := by
  intro t
  induction t with
  | zero => intro i σ M h1 h2; omega
  | succ t ih =>
    intro i σ M h1 h2 hI hm hby
    refine r_iload_n G 18 dL_law_18 rfl ?_
    refine r_aload G 19 dL_law_19 rfl ?_
    refine hlen 20 _ _ _ dL_law_20 ?_
    refine r_iconst G 21 (nI 5) dL_law_21 (by decide) ?_
    refine r_isub G 22 dL_law_22 rfl ?_
    refine r_icmp_gt G 23 622 dL_law_23 (by decide) (fun _ => hone _ _) (fun h_23 => ?_)
    have hi : i + 5 ≤ L := gt5 (by omega) (by omega) h_23
    have hT : ∀ σ M, Iv σ M [] → mem σ M → BY M → K 616 (lw_lv i) [] σ := by
      intro σ M q1 q2 q3
      refine r_iinc G 616 dL_law_616 rfl (c_inc5 i) (Nat.le_of_ble_eq_true rfl) ?_
      refine r_goto G 619 18 dL_law_619 (by decide) ?_
      exact r_pick G [0, 1, 2, 3] (ih (i + 5) σ M (by omega) (by omega) q1 q2 q3)
    refine r_aload G 26 dL_law_26 rfl ?_
    refine r_iload_n G 27 dL_law_27 rfl ?_
    refine hs 28 _ _ _ _ dL_law_28 (by omega) ?_
    refine r_bipush G 29 (nI 15) dL_law_29 (by decide) ?_
    obtain ⟨k, hk, ek⟩ := and15 (xs i)
    refine r_iand G 31 dL_law_31 ek ?_
    rcases (show k = 0 ∨ k = 1 ∨ k = 2 ∨ k = 3 ∨ k = 4 ∨ k = 5 ∨ k = 6 ∨ k = 7 ∨ k = 8 ∨ k = 9 ∨ k = 10 ∨ k = 11 ∨ k = 12 ∨ k = 13 ∨ k = 14 ∨ k = 15 by omega) with rfl | rfl | rfl | rfl | rfl | rfl | rfl | rfl | rfl | rfl | rfl | rfl | rfl | rfl | rfl | rfl
    · exact r_tab G 32 112 (off := 80) dL_law_32 (by decide) (by decide) (by decide) (by decide) (lc_write G hs hL hi hI hm hby hT)
    · exact r_tab G 32 155 (off := 123) dL_law_32 (by decide) (by decide) (by decide) (by decide) (lc_read G hs hL hi hI hm hby hT)
    · exact r_tab G 32 188 (off := 156) dL_law_32 (by decide) (by decide) (by decide) (by decide) (lc_fill G hs hL hi hI hm hby hT)
    · exact r_tab G 32 241 (off := 209) dL_law_32 (by decide) (by decide) (by decide) (by decide) (lc_copy G hs hL hi hI hm hby hT)
    · exact r_tab G 32 274 (off := 242) dL_law_32 (by decide) (by decide) (by decide) (by decide) (lc_exchange G hs hL hi hI hm hby hT)
    · exact r_tab G 32 307 (off := 275) dL_law_32 (by decide) (by decide) (by decide) (by decide) (lc_move G hs hL hi hI hm hby hT)
    · exact r_tab G 32 360 (off := 328) dL_law_32 (by decide) (by decide) (by decide) (by decide) (lc_mix G hs hL hi hI hm hby hT)
    · exact r_tab G 32 393 (off := 361) dL_law_32 (by decide) (by decide) (by decide) (by decide) (lc_drop G hs hL hi hI hm hby hT)
    · exact r_tab G 32 416 (off := 384) dL_law_32 (by decide) (by decide) (by decide) (by decide) (lc_sum G hs hL hi hI hm hby hT)
    · exact r_tab G 32 439 (off := 407) dL_law_32 (by decide) (by decide) (by decide) (by decide) (lc_differ G hs hL hi hI hm hby hT)
    · exact r_tab G 32 472 (off := 440) dL_law_32 (by decide) (by decide) (by decide) (by decide) (lc_find G hs hL hi hI hm hby hT)
    · exact r_tab G 32 515 (off := 483) dL_law_32 (by decide) (by decide) (by decide) (by decide) (lc_blank G hs hL hi hI hm hby hT)
    · exact r_tab G 32 528 (off := 496) dL_law_32 (by decide) (by decide) (by decide) (by decide) (lc_twin G hs hL hi hI hm hby hT)
    · exact r_tab G 32 551 (off := 519) dL_law_32 (by decide) (by decide) (by decide) (by decide) (lc_away G hs hL hi hI hm hby hT)
    · exact r_tab G 32 574 (off := 542) dL_law_32 (by decide) (by decide) (by decide) (by decide) (lc_flush G hs hL hi hI hm hby hT)
    · exact r_tab G 32 595 (off := 563) dL_law_32 (by decide) (by decide) (by decide) (by decide) (lc_rest G hs hL hi hI hm hby hT)
end LAWC
end
section
/-! THE LAW FROM ITS ENTRY -/
theorem iv_ini {σ : Sg} (h : sg_ini σ) : Iv σ (fun _ _ => 0) [] := by
  refine ⟨fun p hp _ => Or.inl ⟨by rw [h.2.2.2 0 (by decide) (by decide) (by decide)]; exact nI_z.symm, fun _ _ => rfl⟩, fun kd j h1 h3 hj => Or.inl ?_, fun g hg n0 n1 => absurd (h.2.1 (g * 2) (by omega)) n0⟩
  rcases kd_cases h1 h3 with rfl | rfl | rfl
  · exact h.1 j hj
  · exact h.2.1 j hj
  · exact h.2.2.1 j hj
def ad_all (ad : Nat → Nat) (m0 u b : Nat) : Nat → Nat := fun k => if k = 13 then m0 else if k = 16 then u else if k = 17 then b else ad k
set_option maxHeartbeats 4000000 in
set_option maxRecDepth 100000 in
theorem lw_go {p : Program} {l : Launch} {e : Env} {s : State} {m : MethodId} {below : List Frame} {meth : Method} {c : Code} {dC : Nat → ClassId} {dI : Nat → Nat → Nat} {d : ClassId} {ad : Nat → Nat} {b L : Nat} {xs : Nat → Int32} (hL : L ≤ 320) (C0 : lw_At p s m meth c b L xs) (hK : va_K (dC, dI) vwCl [(d, .int)] s) (had : ad 17 = b) {σ : Sg} (hini : sg_ini σ) {H : Heap} {locs : List Loc} {ls : Array Slot} (hP : va_P (dC, dI) vwCl (sw_w ad d σ) H) (hD : va_D (fun q : Nat => s.heap.size ≤ q) (sw_w ad d σ)) (hS : va_S (fun q : Nat => s.heap.size ≤ q) s.heap H locs) (hl : lv_has ls 4 (x_lv ad (lw_lv 0))) : W p l e room_1 s m #[Value.ref b] below meth c H locs 17 631 (lw_Z below #[Value.ref b] s) (F0 m 18 ls []) := by
  obtain ⟨hx, hb, hr, hml, hown, hts0, hX, hbl, hlocks, hgv⟩ := id C0
  have hts : ∀ w ∈ lw_all, w.before #[Value.ref b] s = true := fun w h => hts0 w (lw_all_tbl h)
  have hbA : ¬ (fun q : Nat => s.heap.size ≤ q) b := Nat.not_le.mpr hbl
  have G : xGood l room_1 dC dI ad d R_law code 4 (x_at p l e room_1 s m #[Value.ref b] below meth c 17 631 (lw_Z below #[Value.ref b] s) dC dI (fun q : Nat => s.heap.size ≤ q) ad d 4) := ⟨p, e, s, m, _, below, meth, c, 17, 631, _, _, hx, hb, hml, hown, hts, fun _ h => h, hK, ⟨Nat.le_of_ble_eq_true rfl, Nat.le_of_ble_eq_true rfl⟩, rfl⟩
  have hs : xScr (x_at p l e room_1 s m #[Value.ref b] below meth c 17 631 (lw_Z below #[Value.ref b] s) dC dI (fun q : Nat => s.heap.size ≤ q) ad d 4) L xs := by
    intro pc j lv st σ hd hj kk H locs ls hP hD hS hl
    show W p l e room_1 s m #[Value.ref b] below meth c H locs 17 631 _ (F0 m pc ls (.int (nI j) :: .ref (ad 17) :: st.map (x_val ad)))
    rw [had]
    refine va_sld hx hb hX hbl hbA hS (vp_in_nI hj (by omega)) hd ?_
    rw [nI_clamp (by omega)]
    exact kk H locs ls hP hD hS hl
  have hlen : xLen (x_at p l e room_1 s m #[Value.ref b] below meth c 17 631 (lw_Z below #[Value.ref b] s) dC dI (fun q : Nat => s.heap.size ≤ q) ad d 4) L := by
    intro pc lv st σ hd kk H locs ls hP hD hS hl
    show W p l e room_1 s m #[Value.ref b] below meth c H locs 17 631 _ (F0 m pc ls (.ref (ad 17) :: st.map (x_val ad)))
    rw [had]
    exact va_slen hx hb hX hbl hbA hS hd (kk H locs ls hP hD hS hl)
  have hone : ∀ (lv : xL) (σ : Sg), (x_at p l e room_1 s m #[Value.ref b] below meth c 17 631 (lw_Z below #[Value.ref b] s) dC dI (fun q : Nat => s.heap.size ≤ q) ad d 4) 622 lv [] σ := by
    intro lv σ
    refine r_iconst G 622 1 dL_law_622 (by decide) ?_
    intro H locs ls hP hD hS hl
    refine va_forget (fun q hq => hS.2.2 q hq) ?_
    refine W.widen (k := 600000) (n := 7290000) (Nat.le_of_ble_eq_true rfl) (Nat.le_of_ble_eq_true rfl) ?_
    exact lw_ret hx hb hr hlocks dL_law_623
  exact lw_lp G hs hlen hL hone (L + 1) 0 σ (fun _ _ => 0) (Nat.zero_le _) (by omega) (iv_ini hini) (fun q hq i hi => by rw [hini.2.2.2 16 (by decide) (by decide) (by decide)]) (fun p hp i hi => ⟨0, by decide, nI_z.symm⟩) H locs ls hP hD hS hl
set_option maxHeartbeats 4000000 in
set_option maxRecDepth 100000 in
/-- THE LAW, from its entry -/
theorem whole_start {p : Program} {e : Env} {s : State} {m : MethodId} {below : List Frame} {meth : Method} {c : Code} (l : Launch) {b L : Nat} {xs : Nat → Int32} (hL : L ≤ 320) (C0 : lw_At p s m meth c b L xs) : W p l e room_1 s m #[Value.ref b] below meth c s.heap [] 0 0 (lw_Z below #[Value.ref b] s) (entryFrame m ([Value.ref b] : List Value).toArray 4) := by
  obtain ⟨hx, hb, hr, hml, hown, hts0, hX, hbl, hlocks, hgv⟩ := id C0
  have hts : ∀ w ∈ lw_all, w.before #[Value.ref b] s = true := fun w h => hts0 w (lw_all_tbl h)
  have hA : ∀ q : Nat, s.heap.size ≤ q → (fun q : Nat => s.heap.size ≤ q) q := fun _ h => h
  obtain ⟨c0, iS0, hKn0⟩ := u_known (C := RX0) (T := TX0) (N := 16) (n := 16) hts in_X0 (hts _ q32)
  obtain ⟨c1, iS1, hKn1⟩ := u_known (C := RX1) (T := TX1) (N := 1) (n := 1) hts in_X1 (hts _ q254)
  obtain ⟨dC, dI, hKc⟩ : ∃ (dC : Nat → ClassId) (dI : Nat → Nat → Nat), ∀ (k : Nat) (q : vw_C), vwCl[k]? = some q → u_Kn s q.1 q.2.1 q.2.2 (dC k) (dI k) := by
    refine ⟨fun k => if k = 0 then c0 else c1, fun k => if k = 0 then iS0 else iS1, ?_⟩
    intro k q hq
    match k, hq with
    | 0, hq => cases hq; exact hKn0
    | 1, hq => cases hq; exact hKn1
    | k + 2, hq => simp [vwCl] at hq
  obtain ⟨d, kA, comp, g1, g2, g3⟩ := Cond.arrayClass_spec (hts _ q88)
  have hK : va_K (dC, dI) vwCl [(d, .int)] s := ⟨hKc, fun k q h => by
    match k, h with
    | 0, h => cases h; exact ⟨fun n z => ⟨fun k h => (by cases h), kA, g2, comp, g3⟩, g1⟩
    | k + 1, h => simp at h⟩
  have hS : va_S (fun q : Nat => s.heap.size ≤ q) s.heap s.heap [] := va_S.rf
  have hP : va_P (dC, dI) vwCl [] s.heap := fun k q h => by simp at h
  have hD : va_D (fun q : Nat => s.heap.size ≤ q) [] := ⟨fun i j p q h => by simp at h, fun k q h => by simp at h⟩
  have hl := lv_entry ([.ref b]) (n := 4) (Nat.le_of_ble_eq_true rfl)
  rw [lg_entry_eq]
  generalize (lg_sl ([.ref b]) ++ List.replicate (4 - (lg_sl ([.ref b])).length) Slot.unset).toArray = ls at hl ⊢
  have hl : lv_has ls 4 [(0, .ref b)] := hl
  refine va_new (ci := 0) (fs := fs_0) (C := RX0) (T := TX0) (N := 16) hx hb hts in_X0 tyX0 tyX0_ok hown (hts _ q31) (hts _ q32) (hts _ q29) hK hP hD hS hA rfl (fun j hj => by rcases (show j = 0 ∨ j = 1 ∨ j = 2 ∨ j = 3 ∨ j = 4 ∨ j = 5 ∨ j = 6 ∨ j = 7 ∨ j = 8 ∨ j = 9 ∨ j = 10 ∨ j = 11 ∨ j = 12 ∨ j = 13 ∨ j = 14 ∨ j = 15 by omega) with rfl | rfl | rfl | rfl | rfl | rfl | rfl | rfl | rfl | rfl | rfl | rfl | rfl | rfl | rfl | rfl <;> rfl) (Nat.le_of_ble_eq_true rfl) (Nat.le_of_ble_eq_true rfl) dL_law_0 (fun h0 H hP hD hS => ?_)
  have hP : va_P (dC, dI) vwCl [(h0, .inr (0, fs_0))] H := hP
  have hD : va_D (fun q : Nat => s.heap.size ≤ q) [(h0, .inr (0, fs_0))] := hD
  refine W.widen (k := 1) (n := 16) (by decide) (by decide) ?_
  refine lv_dup hx hb dL_law_3 rfl ?_
  have hFc := va_free (wc := [(h0, .inr (0, fs_0))]) hD hS hA [0] rfl
  refine va_callv (va_runI (As := []) (rest := [.ref h0]) ⟨hx, hb, hml, hown, hts⟩ (met_init l dC dI d h0 H.size) (cwI 0 hts (lw_meth q35) rfl rfl rfl (hts _ q29) (hts _ q33) (hts _ q34) rfl (by decide +kernel) ⟨Nat.le_of_ble_eq_true rfl, Nat.le_of_ble_eq_true rfl⟩) ⟨fun a U g mk q => by obtain ⟨q0, q1, qP, qK, qD⟩ := q; exact ⟨q0, q1, qP, va_K.moved (u := U) (U := U.calling g mk a) (Vm.Alike.refl U.vm) qK, qD⟩, fun U hU hW => ⟨rfl, by rw [hU], by rw [hU]; exact hP, va_K.moved hW.alike hK, hD.weaken (fun _ _ _ _ => trivial)⟩⟩ rfl rfl hl.1 rfl (lv_room (Nat.le_of_ble_eq_true rfl)) dL_law_4 ⟨Nat.le_of_ble_eq_true rfl, Nat.le_of_ble_eq_true rfl⟩) hS (fun q _ h => hFc q h) hFc (fun u t H1 locs1 ht hvm hw hB hz1 hk1 hS => ?_)
  obtain ⟨ad, σ⟩ := u
  obtain ⟨hP1, hK1, hD1⟩ := hB
  rw [ht] at hP1
  have hP1 : va_P (dC, dI) vwCl (sw_w1 ad d σ) H1 := hP1
  have hD1 : va_D (va_A [(h0, .inr (0, fs_0))] H.size) (sw_w1 ad d σ) := hD1
  obtain ⟨h2, hini⟩ : ad 2 = h0 ∧ sg_ini σ := hw
  obtain ⟨hP, hD⟩ := va_join (wr := []) (w1 := sw_w1 ad d σ) hP hD [0] [] rfl rfl (by decide) (by decide) hk1 hFc hP1 hD1
  have hP : va_P (dC, dI) vwCl (sw_w1 ad d σ) H1 := hP
  have hD : va_D (fun q : Nat => s.heap.size ≤ q) (sw_w1 ad d σ) := hD
  refine W.widen (k := 15) (n := 438) (by decide) (by decide) ?_
  refine lv_astore_n (lv' := [(1, .ref h0), (0, .ref b)]) hx hb dL_law_7 rfl hl (by decide) rfl (fun ls hl => ?_)
  refine va_new (ci := 1) (fs := [.null]) (C := RX1) (T := TX1) (N := 1) hx hb hts in_X1 tyX1 tyX1_ok hown (hts _ q253) (hts _ q254) (hts _ q30) hK hP hD hS hA rfl (fun j hj => by rcases (show j = 0 by omega) with rfl; rfl) (Nat.le_of_ble_eq_true rfl) (Nat.le_of_ble_eq_true rfl) dL_law_8 (fun m0 H2 hP hD hS => ?_)
  refine W.widen (k := 16) (n := 439) (by decide) (by decide) ?_
  refine lv_dup hx hb dL_law_11 rfl ?_
  have hPc := hP.sub (ws' := [(m0, .inr (1, [.null]))]) [15] rfl
  have hDc := hD.sub (ws' := [(m0, .inr (1, [.null]))]) [15] (by decide) rfl
  have hFc := va_free (wc := [(m0, .inr (1, [.null]))]) hD hS hA [15] rfl
  refine va_callv (va_runI (As := []) (rest := [.ref m0]) ⟨hx, hb, hml, hown, hts⟩ (mm_init l dC dI d m0 H2.size) (cwI 0 hts (lw_meth q257) rfl rfl rfl (hts _ q30) (hts _ q255) (hts _ q256) rfl (by decide +kernel) ⟨Nat.le_of_ble_eq_true rfl, Nat.le_of_ble_eq_true rfl⟩) ⟨fun a U g mk q => by obtain ⟨q0, q1, qP, qK, qD⟩ := q; exact ⟨q0, q1, qP, va_K.moved (u := U) (U := U.calling g mk a) (Vm.Alike.refl U.vm) qK, qD⟩, fun U hU hW => ⟨rfl, by rw [hU], by rw [hU]; exact hPc, va_K.moved hW.alike hK, hDc.weaken (fun _ _ _ _ => trivial)⟩⟩ rfl rfl hl.1 rfl (lv_room (Nat.le_of_ble_eq_true rfl)) dL_law_12 ⟨Nat.le_of_ble_eq_true rfl, Nat.le_of_ble_eq_true rfl⟩) hS (fun q _ h => hFc q h) hFc (fun u t H3 locs3 ht hvm hw hB hz3 hk3 hS => ?_)
  obtain ⟨hP1, hK1, hD1⟩ := hB
  rw [ht] at hP1
  have e16 : σ 16 = fun _ => 0 := hini.2.2.2 16 (by decide) (by decide) (by decide)
  have hP1 : va_P (dC, dI) vwCl [(m0, .inr (1, [.ref u])), (u, .inl (d, 192, .inl (σ 16)))] H3 := by rw [e16]; exact hP1
  have hD1 : va_D (va_A [(m0, .inr (1, [.null]))] H2.size) [(m0, .inr (1, [.ref u])), (u, .inl (d, 192, .inl (σ 16)))] := by rw [e16]; exact hD1
  obtain ⟨hP, hD⟩ := va_join (wr := sw_w1 ad d σ) (w1 := [(m0, .inr (1, [.ref u])), (u, .inl (d, 192, .inl (σ 16)))]) hP hD [15] [0, 1, 2, 3, 4, 5, 6, 7, 8, 9, 10, 11, 12, 13, 14] rfl rfl (by decide) (by decide) hk3 hFc hP1 hD1
  have hP := hP.sub (ws' := sw_w (ad_all ad m0 u b) d σ) [0, 1, 2, 3, 4, 5, 6, 7, 8, 9, 10, 11, 12, 15, 13, 14, 16] rfl
  have hD := hD.sub (ws' := sw_w (ad_all ad m0 u b) d σ) [0, 1, 2, 3, 4, 5, 6, 7, 8, 9, 10, 11, 12, 15, 13, 14, 16] (by decide) rfl
  refine W.widen (k := 17) (n := 631) (by decide) (by decide) ?_
  refine lv_astore_n (lv' := [(2, .ref m0), (1, .ref h0), (0, .ref b)]) hx hb dL_law_15 rfl hl (by decide) rfl (fun ls hl => ?_)
  refine lv_iconst (v := nI 0) hx hb dL_law_16 (by decide) ?_
  refine lv_istore_n (lv' := [(3, .int (nI 0)), (2, .ref m0), (1, .ref h0), (0, .ref b)]) hx hb dL_law_17 rfl hl (by decide) rfl (fun ls hl => ?_)
  have hl := lv_sub (l' := [(0, .ref b), (1, .ref h0), (2, .ref m0), (3, .int (nI 0))]) hl [3, 2, 1, 0] rfl
  rw [← h2] at hl
  exact lw_go (ad := ad_all ad m0 u b) hL C0 hK rfl hini hP hD hS hl
end
section
set_option maxHeartbeats 4000000 in
theorem lw_walk (l : Launch) (b : Addr) (xs : List Int32) : MetFree l x (headSpec (Jvm.Cond.code x code maxLocals ret :: tables_1) room_1) (lw_P b xs) (fun _ _ _ _ _ => True) lw_Q := by
  refine MetFree.of_bodyS (code := code) (maxLocals := maxLocals) (ret := ret) (by decide) ?_ ?_
  · intro args s m h hn
    obtain ⟨meth, c, h1, h2, h3, h4, h5, h6, -, -⟩ := Cond.code_spec hn (atoms_spec (ws := Jvm.Cond.code x code maxLocals ret :: tables_1) h _ List.mem_cons_self)
    exact ⟨meth, c, h1, h2, h3, h4, h5, h6⟩
  · intro p e s m args below meth c s₁ B hml0 hP _
    obtain ⟨rfl, hx, hbd, hgv⟩ := hP
    obtain ⟨scr, harrAt, hlist, hof, hsmall⟩ := hx
    obtain ⟨hcb, hkn, -, -⟩ := State.arrayAt?_spec harrAt
    have hown : s.vm.findClass R_law = some m.cls := findClass_of_methodNamed B.named
    have hts0 : ∀ c ∈ (Jvm.Cond.code x code maxLocals ret :: tables_1), c.before #[Value.ref b] s = true := atoms_spec (ws := Jvm.Cond.code x code maxLocals ret :: tables_1) B.pre
    have hts : ∀ w ∈ lw_tbl, w.before #[Value.ref b] s = true := k2_hts_sels lw_privs (fun w hw => hts0 w (List.mem_cons_of_mem _ hw)) lw_privs_ok
    have hml : c.maxLocals = 4 := B.maxLocals_eq (hts0 _ List.mem_cons_self)
    have X₀ : Stand p l e room_1 s m #[Value.ref b] below meth c s₁ [] 0 0 := Stand.of_body B
    have hh0 : s₁.heap = s.heap := by rw [B.state]; rfl
    have hsz : scr.slots.size = xs.length := by rw [← Array.length_toList, hlist, List.length_map]
    have hval : ∀ j : Nat, j < xs.length → scr.slots[j]? = some (.int (xs.getD j 0)) := fun j hj => by
      rw [← Array.getElem?_toList, hlist]
      simp [hj]
    have hbl : b < s.heap.size := (Array.getElem?_eq_some_iff.mp hcb).1
    have hX : va_X b xs.length (fun j => xs.getD j 0) s s.heap := ⟨scr, hcb, hof, hkn, hsz, hval⟩
    have K : W p l e room_1 s m #[Value.ref b] below meth c s₁.heap [] 0 0 (lw_Z below #[Value.ref b] s) (entryFrame m ([Value.ref b] : List Value).toArray 4) := by
      rw [hh0]
      exact whole_start l hbd ⟨B.exec, B.bytes, B.returns, hml, hown, hts, hX, hbl, B.notSynchronized, hgv⟩
    obtain ⟨t, a1, o, b1, b2, b3⟩ := K s₁ rfl X₀
    exact ⟨t, o, a1, b1, b2, b3⟩
theorem lw_pre_spec {args : Array Value} {s : State} (h : (Jvm.Cond.and given_1 narrow_1).before args s = true) (hr : rest_1_c.before args s = true) : ∃ (b : Addr) (xs : List Int32), lw_P b xs args s := by
  have hs := flat_of_before _ h
  have hq := flat_of_before _ hr
  have hc : (Cond.count 1).before args s = true := hs _ (by decide +kernel)
  have harr : (Cond.arrayOf (.arg 0) .int).before args s = true := hs _ (by decide +kernel)
  have hle : (Cond.le (.length (.arg 0)) (.int 320)).before args s = true := hs _ (by decide +kernel)
  have hlen : (Cond.isInt (.length (.arg 0))).before args s = true := hq _ (by decide +kernel)
  have hall : (Cond.all (.arg 0) (.isInt (.elem (.arg 0) (.index 0)))).before args s = true := hq _ (by decide +kernel)
  obtain ⟨b, xs, hb, hx⟩ := State.ints_of_pre rfl harr hlen hall
  have hsm : xs.length < 2 ^ 31 := hx.choose_spec.2.2.2
  have hev : (Term.length (.arg 0)).eval args s none [] s = some (.int xs.length.toInt32) := hx.length_eval hb
  have hv := Cond.le_ints hev (show (Term.int 320).eval args s none [] s = some (.int 320) from rfl)
  have hd : xs.length.toInt32 ≤ 320 := by
    simpa [Cond.before, Cond.holds, hv] using hle
  have hN : xs.length ≤ 320 := (Int32.ofNat_le_ofNat hsm (by decide)).mp (show Int32.ofNat xs.length ≤ Int32.ofNat 320 from hd)
  exact ⟨b, xs, Cond.one_arg hc (show args[0]? = some (.ref b) from hb), hx, hN, h⟩
theorem lw_comes (l : Launch) : Comes l x (Jvm.Cond.code x code maxLocals ret :: tables_1) room_1 (fun tb e args s => Calls_1 tb e args s ∧ rest_1 tb e args s ∧ Pre_1 tb e args s)
    (fun _ _ args s o t => lw_Q args s o t) := by
  intro p e ha hc hk s m args below hf hfit hheap happ hpre
  obtain ⟨b, xs, hP⟩ := lw_pre_spec hpre.2.2 hpre.2.1
  obtain ⟨k, o, h1, h2, h3, hQ⟩ := lw_walk l b xs p e ha hc hk s m args below hf ((Spec.applies_iff_loose hf).mp happ).1 hP trivial
  exact ⟨k, o, h1, h2, h3, hQ⟩
theorem lw_frame {s t : State} {o : Outcome} {args : Array Value} (h : Framed s o t [] 600000 7290000) :
    Framed s o t (fieldLocs frame_1_writes args s ++ arrayLocs frame_1_arrays args s ++ staticLocs frame_1_statics s) 600000 7290000 := h
theorem lw_limb (L : Cond) (hL : ∀ (args : Array Value) (s t : State), L.after args s (.returned (some (.int 1))) t = true) :
    ArmFor flags0 classFile x code maxLocals ret World_1 tables_1 room_1 Calls_1 rest_1 Pre_1
      (fun tb e a s o t => postC L tb e a s o t ∧ Framed s o t (fieldLocs frame_1_writes a s ++ arrayLocs frame_1_arrays a s ++ staticLocs frame_1_statics s) 600000 7290000) := by
  intro l _ _ _ p e ha hc hk s m args below hf hfit hheap happ hpre
  obtain ⟨k, o, h1, h2, h3, rfl, hF⟩ := lw_comes l p e ha hc hk s m args below hf hfit hheap happ hpre
  exact ⟨k, _, h1, h2, h3, hL args s _, lw_frame hF⟩
theorem i_vc : Claimed_1_1 ∧ Claimed_1_2 := ⟨lw_limb limb_1_1 (fun args s t => by simp [limb_1_1, Cond.after, Cond.holds, Cond.value]), lw_limb limb_1_2 (fun args s t => Cond.after_iff.mpr (by
  first | (rw [show limb_1_2 = Cond.eq .result (.int 1) from rfl, Cond.eq_ints (x := 1) (y := 1) rfl rfl]; simp; done) | (simp [limb_1_2, Cond.value, Term.eval]; done)))⟩
end
