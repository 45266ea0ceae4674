section
-- ===== PART A: goes FIRST, ahead of the names: the tables' words, and 'selects' of the private methods out of them =====
/-- a private method of a class that the tables say can be made, by its rows of tables_1 -/
def lw_okq (q : MethodName × Nat) : Prop := (q.1.cls ≠ "java/lang/invoke/MethodHandle" ∧ q.1.cls ≠ "java/lang/invoke/VarHandle") ∧ Cond.instantiable q.1.cls q.2 ∈ tables_1 ∧ Cond.privateMethod q.1 ∈ tables_1 ∧ Cond.instanceMethod q.1 ∈ tables_1
set_option maxRecDepth 100000
theorem lw_p0 : lw_okq (⟨"LevelForests", "isCouple", "(II)Z"⟩, 6) := ⟨⟨by decide +kernel, by decide +kernel⟩, List.mem_of_getElem? (i := 4) rfl, List.mem_of_getElem? (i := 38) rfl, List.mem_of_getElem? (i := 39) rfl⟩
theorem lw_p1 : lw_okq (⟨"LevelForests", "isPoint", "(I)Z"⟩, 6) := ⟨⟨by decide +kernel, by decide +kernel⟩, List.mem_of_getElem? (i := 4) rfl, List.mem_of_getElem? (i := 42) rfl, List.mem_of_getElem? (i := 43) rfl⟩
theorem lw_p2 : lw_okq (⟨"LevelForests", "pieceOf", "(II)I"⟩, 6) := ⟨⟨by decide +kernel, by decide +kernel⟩, List.mem_of_getElem? (i := 4) rfl, List.mem_of_getElem? (i := 54) rfl, List.mem_of_getElem? (i := 55) rfl⟩
theorem lw_p3 : lw_okq (⟨"LevelForests", "place", "(IIIZ)V"⟩, 6) := ⟨⟨by decide +kernel, by decide +kernel⟩, List.mem_of_getElem? (i := 4) rfl, List.mem_of_getElem? (i := 58) rfl, List.mem_of_getElem? (i := 59) rfl⟩
theorem lw_p4 : lw_okq (⟨"LevelForests", "unplace", "(II)V"⟩, 6) := ⟨⟨by decide +kernel, by decide +kernel⟩, List.mem_of_getElem? (i := 4) rfl, List.mem_of_getElem? (i := 66) rfl, List.mem_of_getElem? (i := 67) rfl⟩
theorem lw_p5 : lw_okq (⟨"LevelForests", "replace", "(III)Z"⟩, 6) := ⟨⟨by decide +kernel, by decide +kernel⟩, List.mem_of_getElem? (i := 4) rfl, List.mem_of_getElem? (i := 70) rfl, List.mem_of_getElem? (i := 71) rfl⟩
theorem lw_p6 : lw_okq (⟨"LevelForests", "bitsIn", "(I)I"⟩, 6) := ⟨⟨by decide +kernel, by decide +kernel⟩, List.mem_of_getElem? (i := 4) rfl, List.mem_of_getElem? (i := 74) rfl, List.mem_of_getElem? (i := 75) rfl⟩
theorem lw_p7 : lw_okq (⟨"LevelForests", "raiseTree", "(II)V"⟩, 6) := ⟨⟨by decide +kernel, by decide +kernel⟩, List.mem_of_getElem? (i := 4) rfl, List.mem_of_getElem? (i := 78) rfl, List.mem_of_getElem? (i := 79) rfl⟩
theorem lw_p8 : lw_okq (⟨"LevelForests", "lift", "(IIZ)V"⟩, 6) := ⟨⟨by decide +kernel, by decide +kernel⟩, List.mem_of_getElem? (i := 4) rfl, List.mem_of_getElem? (i := 82) rfl, List.mem_of_getElem? (i := 83) rfl⟩
theorem lw_p9 : lw_okq (⟨"LevelForests", "searchOut", "(II)Z"⟩, 6) := ⟨⟨by decide +kernel, by decide +kernel⟩, List.mem_of_getElem? (i := 4) rfl, List.mem_of_getElem? (i := 86) rfl, List.mem_of_getElem? (i := 87) rfl⟩
theorem lw_p10 : lw_okq (⟨"LevelForestsModel", "isPoint", "(I)Z"⟩, 2) := ⟨⟨by decide +kernel, by decide +kernel⟩, List.mem_of_getElem? (i := 121) rfl, List.mem_of_getElem? (i := 139) rfl, List.mem_of_getElem? (i := 140) rfl⟩
theorem lw_p11 : lw_okq (⟨"LevelForestsModel", "in", "(II)Z"⟩, 2) := ⟨⟨by decide +kernel, by decide +kernel⟩, List.mem_of_getElem? (i := 121) rfl, List.mem_of_getElem? (i := 143) rfl, List.mem_of_getElem? (i := 144) rfl⟩
theorem lw_p12 : lw_okq (⟨"LevelForestsModel", "sizeOf", "(I)I"⟩, 2) := ⟨⟨by decide +kernel, by decide +kernel⟩, List.mem_of_getElem? (i := 121) rfl, List.mem_of_getElem? (i := 151) rfl, List.mem_of_getElem? (i := 152) rfl⟩
theorem lw_p13 : lw_okq (⟨"LevelForestsModel", "walk", "(I)I"⟩, 2) := ⟨⟨by decide +kernel, by decide +kernel⟩, List.mem_of_getElem? (i := 121) rfl, List.mem_of_getElem? (i := 159) rfl, List.mem_of_getElem? (i := 160) rfl⟩
theorem lw_p14 : lw_okq (⟨"LevelForestsModel", "put", "(II)V"⟩, 2) := ⟨⟨by decide +kernel, by decide +kernel⟩, List.mem_of_getElem? (i := 121) rfl, List.mem_of_getElem? (i := 163) rfl, List.mem_of_getElem? (i := 164) rfl⟩
theorem lw_p15 : lw_okq (⟨"LevelForestsModel", "take", "(II)V"⟩, 2) := ⟨⟨by decide +kernel, by decide +kernel⟩, List.mem_of_getElem? (i := 121) rfl, List.mem_of_getElem? (i := 171) rfl, List.mem_of_getElem? (i := 172) rfl⟩
def lw_privs_1 : List (MethodName × Nat) := [(⟨"LevelForests", "isCouple", "(II)Z"⟩, 6), (⟨"LevelForests", "isPoint", "(I)Z"⟩, 6), (⟨"LevelForests", "pieceOf", "(II)I"⟩, 6), (⟨"LevelForests", "place", "(IIIZ)V"⟩, 6), (⟨"LevelForests", "unplace", "(II)V"⟩, 6), (⟨"LevelForests", "replace", "(III)Z"⟩, 6), (⟨"LevelForests", "bitsIn", "(I)I"⟩, 6), (⟨"LevelForests", "raiseTree", "(II)V"⟩, 6), (⟨"LevelForests", "lift", "(IIZ)V"⟩, 6), (⟨"LevelForests", "searchOut", "(II)Z"⟩, 6), (⟨"LevelForestsModel", "isPoint", "(I)Z"⟩, 2), (⟨"LevelForestsModel", "in", "(II)Z"⟩, 2), (⟨"LevelForestsModel", "sizeOf", "(I)I"⟩, 2), (⟨"LevelForestsModel", "walk", "(I)I"⟩, 2), (⟨"LevelForestsModel", "put", "(II)V"⟩, 2), (⟨"LevelForestsModel", "take", "(II)V"⟩, 2)]
theorem lw_r1 : ∀ q ∈ lw_privs_1, lw_okq q := List.forall_mem_cons.mpr ⟨lw_p0, List.forall_mem_cons.mpr ⟨lw_p1, List.forall_mem_cons.mpr ⟨lw_p2, List.forall_mem_cons.mpr ⟨lw_p3, List.forall_mem_cons.mpr ⟨lw_p4, List.forall_mem_cons.mpr ⟨lw_p5, List.forall_mem_cons.mpr ⟨lw_p6, List.forall_mem_cons.mpr ⟨lw_p7, List.forall_mem_cons.mpr ⟨lw_p8, List.forall_mem_cons.mpr ⟨lw_p9, List.forall_mem_cons.mpr ⟨lw_p10, List.forall_mem_cons.mpr ⟨lw_p11, List.forall_mem_cons.mpr ⟨lw_p12, List.forall_mem_cons.mpr ⟨lw_p13, List.forall_mem_cons.mpr ⟨lw_p14, List.forall_mem_cons.mpr ⟨lw_p15, fun _ h => absurd h List.not_mem_nil⟩⟩⟩⟩⟩⟩⟩⟩⟩⟩⟩⟩⟩⟩⟩⟩
def lw_privs : List (MethodName × Nat) := lw_privs_1
def lw_tbl : List Cond := k2_sels lw_privs ++ tables_1
theorem lw_privs_ok : ∀ q ∈ lw_privs, lw_okq q := lw_r1
-- ===== ONE list of words for every method: the tables' words that hold all through a run =====
def lw_all : List Cond := lw_tbl.filter goodWord
/-- a word of the tables by its place: claim/WORDS.tsv -/
theorem lw_w {w : Cond} (i : Nat) (h : lw_tbl[i]? = some w) (g : goodWord w = true) : w ∈ lw_all := List.mem_filter.mpr ⟨List.mem_of_getElem? h, g⟩
theorem lw_all_tbl {w : Cond} (h : w ∈ lw_all) : w ∈ lw_tbl := (List.mem_filter.mp h).1
theorem lw_self : GoodIn lw_all lw_all := fun w h => ⟨h, good_of_word (List.mem_filter.mp h).2⟩
/-- a class's field words, by their places -/
theorem lw_in (ws : List Cond) (ps : List Nat) (hp : ws = ps.filterMap (fun i => lw_tbl[i]?)) (hg : ws.all goodWord = true) : ∀ w ∈ ws, w ∈ lw_all := by
  intro w h
  have h1 := List.all_eq_true.mp hg w h
  rw [hp] at h
  obtain ⟨i, -, hi⟩ := List.mem_filterMap.mp h
  exact lw_w i hi h1
/-- the words of a contract for the method y with code b, L locals, answer r -/
abbrev ws_ (y : MethodName) (b : ByteArray) (L : Nat) (r : Option FieldType) : List Cond := Cond.code y b L r :: lw_all
theorem lw_meth {y : MethodName} {b : ByteArray} {L : Nat} {r : Option FieldType} (h : Cond.code y b L r ∈ lw_all) : GoodIn lw_all (ws_ y b L r) := by
  intro w hw
  rcases List.mem_cons.mp hw with e | e
  · rw [e]
    exact lw_self _ h
  · exact lw_self _ e
theorem lw_app {a c : List Cond} (ha : ∀ w ∈ a, w ∈ lw_all) (hc : GoodIn lw_all c) : GoodIn lw_all (a ++ c) := by
  intro w hw
  rcases List.mem_append.mp hw with e | e
  · exact lw_self w (ha w e)
  · exact hc w e
/-- what a call through an object asks: cwV n hts (lw_V ..) -/
theorem lw_V {own : String} {idx : Nat} {C : String} {y : MethodName} {b : ByteArray} {L : Nat} {r : Option FieldType} (h1 : Cond.methodLink own idx y ∈ lw_all) (h2 : Cond.instanceMethod y ∈ lw_all) (h3 : Cond.selects C y y ∈ lw_all) (h4 : Cond.initialized C ∈ lw_all) (h5 : Cond.code y b L r ∈ lw_all) : GoodIn lw_all (wsV own idx C y (ws_ y b L r)) := by
  refine lw_app ?_ (lw_meth h5)
  intro w hw
  simp only [List.mem_cons, List.not_mem_nil, or_false] at hw
  rcases hw with e | e | e | e
  · rw [e]; exact h1
  · rw [e]; exact h2
  · rw [e]; exact h3
  · rw [e]; exact h4
/-- what a static call asks: va_cwS n hts (lw_S ..) -/
theorem lw_S {own : String} {idx : Nat} {y : MethodName} {b : ByteArray} {L : Nat} {r : Option FieldType} (h1 : Cond.methodLink own idx y ∈ lw_all) (h2 : Cond.static y ∈ lw_all) (h3 : Cond.initialized y.cls ∈ lw_all) (h4 : Cond.code y b L r ∈ lw_all) : GoodIn lw_all (va_wsS own idx y (ws_ y b L r)) := by
  refine lw_app ?_ (lw_meth h4)
  intro w hw
  simp only [List.mem_cons, List.not_mem_nil, or_false] at hw
  rcases hw with e | e | e
  · rw [e]; exact h1
  · rw [e]; exact h2
  · rw [e]; exact h3
/-- the words of a contract for a method WITH HANDLERS (hh: its table) -/
abbrev wsW_ (y : MethodName) (b : ByteArray) (L : Nat) (r : Option FieldType) (hh : List (Nat × Nat × Nat × Nat)) : List Cond := Cond.codeWith y b L r hh :: lw_all
theorem lw_methW {y : MethodName} {b : ByteArray} {L : Nat} {r : Option FieldType} {hh : List (Nat × Nat × Nat × Nat)} (h : Cond.codeWith y b L r hh ∈ lw_all) : GoodIn lw_all (wsW_ y b L r hh) := by
  intro w hw
  rcases List.mem_cons.mp hw with e | e
  · rw [e]
    exact lw_self _ h
  · exact lw_self _ e
/-- any list of words by their places (lw_in), good -/
theorem lw_good {ws : List Cond} (h : ∀ w ∈ ws, w ∈ lw_all) : GoodIn lw_all ws := fun w hw => lw_self w (h w hw)
/-- what a call of a method with handlers asks: vx_cwVW n hts (lw_VW ..), vx_cwSW n hts (lw_SW ..) -/
theorem lw_VW {own : String} {idx : Nat} {C : String} {y : MethodName} {b : ByteArray} {L : Nat} {r : Option FieldType} {hh : List (Nat × Nat × Nat × Nat)} (h1 : Cond.methodLink own idx y ∈ lw_all) (h2 : Cond.instanceMethod y ∈ lw_all) (h3 : Cond.selects C y y ∈ lw_all) (h4 : Cond.initialized C ∈ lw_all) (h5 : Cond.codeWith y b L r hh ∈ lw_all) : GoodIn lw_all (wsV own idx C y (wsW_ y b L r hh)) := by
  refine lw_app ?_ (lw_methW h5)
  intro w hw
  simp only [List.mem_cons, List.not_mem_nil, or_false] at hw
  rcases hw with e | e | e | e
  · rw [e]; exact h1
  · rw [e]; exact h2
  · rw [e]; exact h3
  · rw [e]; exact h4
theorem lw_SW {own : String} {idx : Nat} {y : MethodName} {b : ByteArray} {L : Nat} {r : Option FieldType} {hh : List (Nat × Nat × Nat × Nat)} (h1 : Cond.methodLink own idx y ∈ lw_all) (h2 : Cond.static y ∈ lw_all) (h3 : Cond.initialized y.cls ∈ lw_all) (h4 : Cond.codeWith y b L r hh ∈ lw_all) : GoodIn lw_all (va_wsS own idx y (wsW_ y b L r hh)) := by
  refine lw_app ?_ (lw_methW h4)
  intro w hw
  simp only [List.mem_cons, List.not_mem_nil, or_false] at hw
  rcases hw with e | e | e
  · rw [e]; exact h1
  · rw [e]; exact h2
  · rw [e]; exact h3
/-- a word by its place in its run of the tables -/
theorem lw_at {r : List Cond} (hr : ∀ w ∈ r, w ∈ lw_tbl) {w : Cond} (i : Nat) (h : r[i]? = some w) : w ∈ lw_tbl := hr w (List.mem_of_getElem? h)
theorem lw_g {w : Cond} (h : w ∈ lw_tbl) (g : goodWord w = true) : w ∈ lw_all := List.mem_filter.mpr ⟨h, g⟩
theorem lw_ms : ∀ w ∈ k2_sels lw_privs, w ∈ lw_tbl := fun w h => show w ∈ k2_sels lw_privs ++ tables_1 from List.mem_append_left _ h
theorem lw_m0 : ∀ w ∈ tables_1, w ∈ lw_tbl := fun w h => show w ∈ k2_sels lw_privs ++ tables_1 from List.mem_append_right (k2_sels lw_privs) h
theorem qs0 : (Cond.selects "LevelForests" ⟨"LevelForests", "isCouple", "(II)Z"⟩ ⟨"LevelForests", "isCouple", "(II)Z"⟩) ∈ lw_all := lw_g (lw_at lw_ms 0 rfl) rfl
theorem qs1 : (Cond.selects "LevelForests" ⟨"LevelForests", "isPoint", "(I)Z"⟩ ⟨"LevelForests", "isPoint", "(I)Z"⟩) ∈ lw_all := lw_g (lw_at lw_ms 1 rfl) rfl
theorem qs2 : (Cond.selects "LevelForests" ⟨"LevelForests", "pieceOf", "(II)I"⟩ ⟨"LevelForests", "pieceOf", "(II)I"⟩) ∈ lw_all := lw_g (lw_at lw_ms 2 rfl) rfl
theorem qs3 : (Cond.selects "LevelForests" ⟨"LevelForests", "place", "(IIIZ)V"⟩ ⟨"LevelForests", "place", "(IIIZ)V"⟩) ∈ lw_all := lw_g (lw_at lw_ms 3 rfl) rfl
theorem qs4 : (Cond.selects "LevelForests" ⟨"LevelForests", "unplace", "(II)V"⟩ ⟨"LevelForests", "unplace", "(II)V"⟩) ∈ lw_all := lw_g (lw_at lw_ms 4 rfl) rfl
theorem qs5 : (Cond.selects "LevelForests" ⟨"LevelForests", "replace", "(III)Z"⟩ ⟨"LevelForests", "replace", "(III)Z"⟩) ∈ lw_all := lw_g (lw_at lw_ms 5 rfl) rfl
theorem qs6 : (Cond.selects "LevelForests" ⟨"LevelForests", "bitsIn", "(I)I"⟩ ⟨"LevelForests", "bitsIn", "(I)I"⟩) ∈ lw_all := lw_g (lw_at lw_ms 6 rfl) rfl
theorem qs7 : (Cond.selects "LevelForests" ⟨"LevelForests", "raiseTree", "(II)V"⟩ ⟨"LevelForests", "raiseTree", "(II)V"⟩) ∈ lw_all := lw_g (lw_at lw_ms 7 rfl) rfl
theorem qs8 : (Cond.selects "LevelForests" ⟨"LevelForests", "lift", "(IIZ)V"⟩ ⟨"LevelForests", "lift", "(IIZ)V"⟩) ∈ lw_all := lw_g (lw_at lw_ms 8 rfl) rfl
theorem qs9 : (Cond.selects "LevelForests" ⟨"LevelForests", "searchOut", "(II)Z"⟩ ⟨"LevelForests", "searchOut", "(II)Z"⟩) ∈ lw_all := lw_g (lw_at lw_ms 9 rfl) rfl
theorem qs10 : (Cond.selects "LevelForestsModel" ⟨"LevelForestsModel", "isPoint", "(I)Z"⟩ ⟨"LevelForestsModel", "isPoint", "(I)Z"⟩) ∈ lw_all := lw_g (lw_at lw_ms 10 rfl) rfl
theorem qs11 : (Cond.selects "LevelForestsModel" ⟨"LevelForestsModel", "in", "(II)Z"⟩ ⟨"LevelForestsModel", "in", "(II)Z"⟩) ∈ lw_all := lw_g (lw_at lw_ms 11 rfl) rfl
theorem qs12 : (Cond.selects "LevelForestsModel" ⟨"LevelForestsModel", "sizeOf", "(I)I"⟩ ⟨"LevelForestsModel", "sizeOf", "(I)I"⟩) ∈ lw_all := lw_g (lw_at lw_ms 12 rfl) rfl
theorem qs13 : (Cond.selects "LevelForestsModel" ⟨"LevelForestsModel", "walk", "(I)I"⟩ ⟨"LevelForestsModel", "walk", "(I)I"⟩) ∈ lw_all := lw_g (lw_at lw_ms 13 rfl) rfl
theorem qs14 : (Cond.selects "LevelForestsModel" ⟨"LevelForestsModel", "put", "(II)V"⟩ ⟨"LevelForestsModel", "put", "(II)V"⟩) ∈ lw_all := lw_g (lw_at lw_ms 14 rfl) rfl
theorem qs15 : (Cond.selects "LevelForestsModel" ⟨"LevelForestsModel", "take", "(II)V"⟩ ⟨"LevelForestsModel", "take", "(II)V"⟩) ∈ lw_all := lw_g (lw_at lw_ms 15 rfl) rfl
-- ===== end of PART A; then your names; then what follows =====
end
section
/-! LevelForests -/
set_option maxRecDepth 100000
def RX0 : String := "LevelForests"
def TX0 : u_T := fun k => match k with
  | 0 => ("LevelForests", "edgeCount", "I", false)
  | 1 => ("LevelForests", "partCount", "I", false)
  | 2 => ("LevelForests", "level", "[B", true)
  | 3 => ("LevelForests", "inTree", "[Z", true)
  | 4 => ("LevelForests", "treeNeighbours", "[S", true)
  | _ => ("LevelForests", "otherNeighbours", "[S", true)
def tyX0 : Nat → FieldType := fun k => match k with
  | 0 => .int
  | 1 => .int
  | 2 => .array .byte
  | 3 => .array .boolean
  | 4 => .array .short
  | _ => .array .short
abbrev wsX00 : List Cond := u_ws RX0 TX0 6
theorem nmX0 : ∀ a, a < 6 → ∀ b, b < 6 → a ≠ b → (TX0 a).2.1 ≠ (TX0 b).2.1 := by decide +kernel
theorem tyX0_ok : ∀ k, k < 6 → parseFieldDescriptor (TX0 k).2.2.1 = some (tyX0 k) := by decide +kernel
abbrev cX0_init : ByteArray := prog_1_method_1_code
def yX0_init : MethodName := ⟨RX0, "<init>", "()V"⟩
theorem dX0_init_0 : decode cX0_init 0 = .ok (.aload_n 0, 1) := by decide +kernel
theorem dX0_init_1 : decode cX0_init 1 = .ok (.invokespecial 1, 3) := by decide +kernel
theorem dX0_init_4 : decode cX0_init 4 = .ok (.aload_n 0, 1) := by decide +kernel
theorem dX0_init_5 : decode cX0_init 5 = .ok (.sipush 144, 3) := by decide +kernel
theorem dX0_init_8 : decode cX0_init 8 = .ok (.newarray .byte, 2) := by decide +kernel
theorem dX0_init_10 : decode cX0_init 10 = .ok (.putfield 7, 3) := by decide +kernel
theorem dX0_init_13 : decode cX0_init 13 = .ok (.aload_n 0, 1) := by decide +kernel
theorem dX0_init_14 : decode cX0_init 14 = .ok (.sipush 144, 3) := by decide +kernel
theorem dX0_init_17 : decode cX0_init 17 = .ok (.newarray .boolean, 2) := by decide +kernel
theorem dX0_init_19 : decode cX0_init 19 = .ok (.putfield 13, 3) := by decide +kernel
theorem dX0_init_22 : decode cX0_init 22 = .ok (.aload_n 0, 1) := by decide +kernel
theorem dX0_init_23 : decode cX0_init 23 = .ok (.bipush 48, 2) := by decide +kernel
theorem dX0_init_25 : decode cX0_init 25 = .ok (.newarray .short, 2) := by decide +kernel
theorem dX0_init_27 : decode cX0_init 27 = .ok (.putfield 17, 3) := by decide +kernel
theorem dX0_init_30 : decode cX0_init 30 = .ok (.aload_n 0, 1) := by decide +kernel
theorem dX0_init_31 : decode cX0_init 31 = .ok (.bipush 48, 2) := by decide +kernel
theorem dX0_init_33 : decode cX0_init 33 = .ok (.newarray .short, 2) := by decide +kernel
theorem dX0_init_35 : decode cX0_init 35 = .ok (.putfield 21, 3) := by decide +kernel
theorem dX0_init_38 : decode cX0_init 38 = .ok (.aload_n 0, 1) := by decide +kernel
theorem dX0_init_39 : decode cX0_init 39 = .ok (.bipush 12, 2) := by decide +kernel
theorem dX0_init_41 : decode cX0_init 41 = .ok (.putfield 24, 3) := by decide +kernel
theorem dX0_init_44 : decode cX0_init 44 = .ok (.iconst 0, 1) := by decide +kernel
theorem dX0_init_45 : decode cX0_init 45 = .ok (.istore_n 1, 1) := by decide +kernel
theorem dX0_init_46 : decode cX0_init 46 = .ok (.iload_n 1, 1) := by decide +kernel
theorem dX0_init_47 : decode cX0_init 47 = .ok (.sipush 144, 3) := by decide +kernel
theorem dX0_init_50 : decode cX0_init 50 = .ok (.if_icmp .ge 16, 3) := by decide +kernel
theorem dX0_init_53 : decode cX0_init 53 = .ok (.aload_n 0, 1) := by decide +kernel
theorem dX0_init_54 : decode cX0_init 54 = .ok (.getfield 7, 3) := by decide +kernel
theorem dX0_init_57 : decode cX0_init 57 = .ok (.iload_n 1, 1) := by decide +kernel
theorem dX0_init_58 : decode cX0_init 58 = .ok (.iconst (-1), 1) := by decide +kernel
theorem dX0_init_59 : decode cX0_init 59 = .ok (.bastore, 1) := by decide +kernel
theorem dX0_init_60 : decode cX0_init 60 = .ok (.iinc 1 1, 3) := by decide +kernel
theorem dX0_init_63 : decode cX0_init 63 = .ok (.goto (-17), 3) := by decide +kernel
theorem dX0_init_66 : decode cX0_init 66 = .ok (.return_, 1) := by decide +kernel
abbrev cX0_link : ByteArray := prog_1_method_2_code
def yX0_link : MethodName := ⟨RX0, "link", "(II)I"⟩
theorem dX0_link_0 : decode cX0_link 0 = .ok (.aload_n 0, 1) := by decide +kernel
theorem dX0_link_1 : decode cX0_link 1 = .ok (.iload_n 1, 1) := by decide +kernel
theorem dX0_link_2 : decode cX0_link 2 = .ok (.iload_n 2, 1) := by decide +kernel
theorem dX0_link_3 : decode cX0_link 3 = .ok (.invokevirtual 28, 3) := by decide +kernel
theorem dX0_link_6 : decode cX0_link 6 = .ok (.ifCond .ne 5, 3) := by decide +kernel
theorem dX0_link_9 : decode cX0_link 9 = .ok (.iconst (-1), 1) := by decide +kernel
theorem dX0_link_10 : decode cX0_link 10 = .ok (.ireturn, 1) := by decide +kernel
theorem dX0_link_11 : decode cX0_link 11 = .ok (.aload_n 0, 1) := by decide +kernel
theorem dX0_link_12 : decode cX0_link 12 = .ok (.iload_n 1, 1) := by decide +kernel
theorem dX0_link_13 : decode cX0_link 13 = .ok (.iload_n 2, 1) := by decide +kernel
theorem dX0_link_14 : decode cX0_link 14 = .ok (.invokevirtual 32, 3) := by decide +kernel
theorem dX0_link_17 : decode cX0_link 17 = .ok (.ifCond .eq 5, 3) := by decide +kernel
theorem dX0_link_20 : decode cX0_link 20 = .ok (.iconst 0, 1) := by decide +kernel
theorem dX0_link_21 : decode cX0_link 21 = .ok (.ireturn, 1) := by decide +kernel
theorem dX0_link_22 : decode cX0_link 22 = .ok (.aload_n 0, 1) := by decide +kernel
theorem dX0_link_23 : decode cX0_link 23 = .ok (.getfield 35, 3) := by decide +kernel
theorem dX0_link_26 : decode cX0_link 26 = .ok (.bipush 30, 2) := by decide +kernel
theorem dX0_link_28 : decode cX0_link 28 = .ok (.if_icmp .lt 6, 3) := by decide +kernel
theorem dX0_link_31 : decode cX0_link 31 = .ok (.bipush (-2), 2) := by decide +kernel
theorem dX0_link_33 : decode cX0_link 33 = .ok (.ireturn, 1) := by decide +kernel
theorem dX0_link_34 : decode cX0_link 34 = .ok (.aload_n 0, 1) := by decide +kernel
theorem dX0_link_35 : decode cX0_link 35 = .ok (.iload_n 1, 1) := by decide +kernel
theorem dX0_link_36 : decode cX0_link 36 = .ok (.iload_n 2, 1) := by decide +kernel
theorem dX0_link_37 : decode cX0_link 37 = .ok (.invokevirtual 38, 3) := by decide +kernel
theorem dX0_link_40 : decode cX0_link 40 = .ok (.ifCond .ne 7, 3) := by decide +kernel
theorem dX0_link_43 : decode cX0_link 43 = .ok (.iconst 1, 1) := by decide +kernel
theorem dX0_link_44 : decode cX0_link 44 = .ok (.goto 4, 3) := by decide +kernel
theorem dX0_link_47 : decode cX0_link 47 = .ok (.iconst 0, 1) := by decide +kernel
theorem dX0_link_48 : decode cX0_link 48 = .ok (.istore_n 3, 1) := by decide +kernel
theorem dX0_link_49 : decode cX0_link 49 = .ok (.aload_n 0, 1) := by decide +kernel
theorem dX0_link_50 : decode cX0_link 50 = .ok (.dup, 1) := by decide +kernel
theorem dX0_link_51 : decode cX0_link 51 = .ok (.getfield 35, 3) := by decide +kernel
theorem dX0_link_54 : decode cX0_link 54 = .ok (.iconst 1, 1) := by decide +kernel
theorem dX0_link_55 : decode cX0_link 55 = .ok (.iadd, 1) := by decide +kernel
theorem dX0_link_56 : decode cX0_link 56 = .ok (.putfield 35, 3) := by decide +kernel
theorem dX0_link_59 : decode cX0_link 59 = .ok (.aload_n 0, 1) := by decide +kernel
theorem dX0_link_60 : decode cX0_link 60 = .ok (.iload_n 1, 1) := by decide +kernel
theorem dX0_link_61 : decode cX0_link 61 = .ok (.iload_n 2, 1) := by decide +kernel
theorem dX0_link_62 : decode cX0_link 62 = .ok (.iconst 0, 1) := by decide +kernel
theorem dX0_link_63 : decode cX0_link 63 = .ok (.iload_n 3, 1) := by decide +kernel
theorem dX0_link_64 : decode cX0_link 64 = .ok (.invokevirtual 41, 3) := by decide +kernel
theorem dX0_link_67 : decode cX0_link 67 = .ok (.iload_n 3, 1) := by decide +kernel
theorem dX0_link_68 : decode cX0_link 68 = .ok (.ifCond .ne 5, 3) := by decide +kernel
theorem dX0_link_71 : decode cX0_link 71 = .ok (.iconst 1, 1) := by decide +kernel
theorem dX0_link_72 : decode cX0_link 72 = .ok (.ireturn, 1) := by decide +kernel
theorem dX0_link_73 : decode cX0_link 73 = .ok (.aload_n 0, 1) := by decide +kernel
theorem dX0_link_74 : decode cX0_link 74 = .ok (.dup, 1) := by decide +kernel
theorem dX0_link_75 : decode cX0_link 75 = .ok (.getfield 24, 3) := by decide +kernel
theorem dX0_link_78 : decode cX0_link 78 = .ok (.iconst 1, 1) := by decide +kernel
theorem dX0_link_79 : decode cX0_link 79 = .ok (.isub, 1) := by decide +kernel
theorem dX0_link_80 : decode cX0_link 80 = .ok (.putfield 24, 3) := by decide +kernel
theorem dX0_link_83 : decode cX0_link 83 = .ok (.iconst 2, 1) := by decide +kernel
theorem dX0_link_84 : decode cX0_link 84 = .ok (.ireturn, 1) := by decide +kernel
abbrev cX0_isCouple : ByteArray := prog_1_method_14_code
def yX0_isCouple : MethodName := ⟨RX0, "isCouple", "(II)Z"⟩
theorem dX0_isCouple_0 : decode cX0_isCouple 0 = .ok (.aload_n 0, 1) := by decide +kernel
theorem dX0_isCouple_1 : decode cX0_isCouple 1 = .ok (.iload_n 1, 1) := by decide +kernel
theorem dX0_isCouple_2 : decode cX0_isCouple 2 = .ok (.invokevirtual 53, 3) := by decide +kernel
theorem dX0_isCouple_5 : decode cX0_isCouple 5 = .ok (.ifCond .eq 20, 3) := by decide +kernel
theorem dX0_isCouple_8 : decode cX0_isCouple 8 = .ok (.aload_n 0, 1) := by decide +kernel
theorem dX0_isCouple_9 : decode cX0_isCouple 9 = .ok (.iload_n 2, 1) := by decide +kernel
theorem dX0_isCouple_10 : decode cX0_isCouple 10 = .ok (.invokevirtual 53, 3) := by decide +kernel
theorem dX0_isCouple_13 : decode cX0_isCouple 13 = .ok (.ifCond .eq 12, 3) := by decide +kernel
theorem dX0_isCouple_16 : decode cX0_isCouple 16 = .ok (.iload_n 1, 1) := by decide +kernel
theorem dX0_isCouple_17 : decode cX0_isCouple 17 = .ok (.iload_n 2, 1) := by decide +kernel
theorem dX0_isCouple_18 : decode cX0_isCouple 18 = .ok (.if_icmp .eq 7, 3) := by decide +kernel
theorem dX0_isCouple_21 : decode cX0_isCouple 21 = .ok (.iconst 1, 1) := by decide +kernel
theorem dX0_isCouple_22 : decode cX0_isCouple 22 = .ok (.goto 4, 3) := by decide +kernel
theorem dX0_isCouple_25 : decode cX0_isCouple 25 = .ok (.iconst 0, 1) := by decide +kernel
theorem dX0_isCouple_26 : decode cX0_isCouple 26 = .ok (.ireturn, 1) := by decide +kernel
abbrev cX0_isPoint : ByteArray := prog_1_method_13_code
def yX0_isPoint : MethodName := ⟨RX0, "isPoint", "(I)Z"⟩
theorem dX0_isPoint_0 : decode cX0_isPoint 0 = .ok (.iload_n 1, 1) := by decide +kernel
theorem dX0_isPoint_1 : decode cX0_isPoint 1 = .ok (.ifCond .lt 13, 3) := by decide +kernel
theorem dX0_isPoint_4 : decode cX0_isPoint 4 = .ok (.iload_n 1, 1) := by decide +kernel
theorem dX0_isPoint_5 : decode cX0_isPoint 5 = .ok (.bipush 12, 2) := by decide +kernel
theorem dX0_isPoint_7 : decode cX0_isPoint 7 = .ok (.if_icmp .ge 7, 3) := by decide +kernel
theorem dX0_isPoint_10 : decode cX0_isPoint 10 = .ok (.iconst 1, 1) := by decide +kernel
theorem dX0_isPoint_11 : decode cX0_isPoint 11 = .ok (.goto 4, 3) := by decide +kernel
theorem dX0_isPoint_14 : decode cX0_isPoint 14 = .ok (.iconst 0, 1) := by decide +kernel
theorem dX0_isPoint_15 : decode cX0_isPoint 15 = .ok (.ireturn, 1) := by decide +kernel
abbrev cX0_isEdge : ByteArray := prog_1_method_7_code
def yX0_isEdge : MethodName := ⟨RX0, "isEdge", "(II)Z"⟩
theorem dX0_isEdge_0 : decode cX0_isEdge 0 = .ok (.aload_n 0, 1) := by decide +kernel
theorem dX0_isEdge_1 : decode cX0_isEdge 1 = .ok (.iload_n 1, 1) := by decide +kernel
theorem dX0_isEdge_2 : decode cX0_isEdge 2 = .ok (.iload_n 2, 1) := by decide +kernel
theorem dX0_isEdge_3 : decode cX0_isEdge 3 = .ok (.invokevirtual 28, 3) := by decide +kernel
theorem dX0_isEdge_6 : decode cX0_isEdge 6 = .ok (.ifCond .eq 21, 3) := by decide +kernel
theorem dX0_isEdge_9 : decode cX0_isEdge 9 = .ok (.aload_n 0, 1) := by decide +kernel
theorem dX0_isEdge_10 : decode cX0_isEdge 10 = .ok (.getfield 7, 3) := by decide +kernel
theorem dX0_isEdge_13 : decode cX0_isEdge 13 = .ok (.bipush 12, 2) := by decide +kernel
theorem dX0_isEdge_15 : decode cX0_isEdge 15 = .ok (.iload_n 1, 1) := by decide +kernel
theorem dX0_isEdge_16 : decode cX0_isEdge 16 = .ok (.imul, 1) := by decide +kernel
theorem dX0_isEdge_17 : decode cX0_isEdge 17 = .ok (.iload_n 2, 1) := by decide +kernel
theorem dX0_isEdge_18 : decode cX0_isEdge 18 = .ok (.iadd, 1) := by decide +kernel
theorem dX0_isEdge_19 : decode cX0_isEdge 19 = .ok (.baload, 1) := by decide +kernel
theorem dX0_isEdge_20 : decode cX0_isEdge 20 = .ok (.ifCond .lt 7, 3) := by decide +kernel
theorem dX0_isEdge_23 : decode cX0_isEdge 23 = .ok (.iconst 1, 1) := by decide +kernel
theorem dX0_isEdge_24 : decode cX0_isEdge 24 = .ok (.goto 4, 3) := by decide +kernel
theorem dX0_isEdge_27 : decode cX0_isEdge 27 = .ok (.iconst 0, 1) := by decide +kernel
theorem dX0_isEdge_28 : decode cX0_isEdge 28 = .ok (.ireturn, 1) := by decide +kernel
abbrev cX0_connected : ByteArray := prog_1_method_4_code
def yX0_connected : MethodName := ⟨RX0, "connected", "(II)Z"⟩
theorem dX0_connected_0 : decode cX0_connected 0 = .ok (.aload_n 0, 1) := by decide +kernel
theorem dX0_connected_1 : decode cX0_connected 1 = .ok (.iload_n 1, 1) := by decide +kernel
theorem dX0_connected_2 : decode cX0_connected 2 = .ok (.invokevirtual 53, 3) := by decide +kernel
theorem dX0_connected_5 : decode cX0_connected 5 = .ok (.ifCond .eq 11, 3) := by decide +kernel
theorem dX0_connected_8 : decode cX0_connected 8 = .ok (.aload_n 0, 1) := by decide +kernel
theorem dX0_connected_9 : decode cX0_connected 9 = .ok (.iload_n 2, 1) := by decide +kernel
theorem dX0_connected_10 : decode cX0_connected 10 = .ok (.invokevirtual 53, 3) := by decide +kernel
theorem dX0_connected_13 : decode cX0_connected 13 = .ok (.ifCond .ne 5, 3) := by decide +kernel
theorem dX0_connected_16 : decode cX0_connected 16 = .ok (.iconst 0, 1) := by decide +kernel
theorem dX0_connected_17 : decode cX0_connected 17 = .ok (.ireturn, 1) := by decide +kernel
theorem dX0_connected_18 : decode cX0_connected 18 = .ok (.aload_n 0, 1) := by decide +kernel
theorem dX0_connected_19 : decode cX0_connected 19 = .ok (.iload_n 1, 1) := by decide +kernel
theorem dX0_connected_20 : decode cX0_connected 20 = .ok (.iconst 0, 1) := by decide +kernel
theorem dX0_connected_21 : decode cX0_connected 21 = .ok (.invokevirtual 57, 3) := by decide +kernel
theorem dX0_connected_24 : decode cX0_connected 24 = .ok (.istore_n 3, 1) := by decide +kernel
theorem dX0_connected_25 : decode cX0_connected 25 = .ok (.iload_n 3, 1) := by decide +kernel
theorem dX0_connected_26 : decode cX0_connected 26 = .ok (.iload_n 2, 1) := by decide +kernel
theorem dX0_connected_27 : decode cX0_connected 27 = .ok (.ishr, 1) := by decide +kernel
theorem dX0_connected_28 : decode cX0_connected 28 = .ok (.iconst 1, 1) := by decide +kernel
theorem dX0_connected_29 : decode cX0_connected 29 = .ok (.iand, 1) := by decide +kernel
theorem dX0_connected_30 : decode cX0_connected 30 = .ok (.ifCond .eq 7, 3) := by decide +kernel
theorem dX0_connected_33 : decode cX0_connected 33 = .ok (.iconst 1, 1) := by decide +kernel
theorem dX0_connected_34 : decode cX0_connected 34 = .ok (.goto 4, 3) := by decide +kernel
theorem dX0_connected_37 : decode cX0_connected 37 = .ok (.iconst 0, 1) := by decide +kernel
theorem dX0_connected_38 : decode cX0_connected 38 = .ok (.ireturn, 1) := by decide +kernel
abbrev cX0_pieceOf : ByteArray := prog_1_method_18_code
def yX0_pieceOf : MethodName := ⟨RX0, "pieceOf", "(II)I"⟩
theorem dX0_pieceOf_0 : decode cX0_pieceOf 0 = .ok (.iconst 1, 1) := by decide +kernel
theorem dX0_pieceOf_1 : decode cX0_pieceOf 1 = .ok (.iload_n 1, 1) := by decide +kernel
theorem dX0_pieceOf_2 : decode cX0_pieceOf 2 = .ok (.ishl, 1) := by decide +kernel
theorem dX0_pieceOf_3 : decode cX0_pieceOf 3 = .ok (.istore_n 3, 1) := by decide +kernel
theorem dX0_pieceOf_4 : decode cX0_pieceOf 4 = .ok (.iload_n 3, 1) := by decide +kernel
theorem dX0_pieceOf_5 : decode cX0_pieceOf 5 = .ok (.istore 4, 2) := by decide +kernel
theorem dX0_pieceOf_7 : decode cX0_pieceOf 7 = .ok (.iconst 0, 1) := by decide +kernel
theorem dX0_pieceOf_8 : decode cX0_pieceOf 8 = .ok (.istore 5, 2) := by decide +kernel
theorem dX0_pieceOf_10 : decode cX0_pieceOf 10 = .ok (.iload 5, 2) := by decide +kernel
theorem dX0_pieceOf_12 : decode cX0_pieceOf 12 = .ok (.bipush 12, 2) := by decide +kernel
theorem dX0_pieceOf_14 : decode cX0_pieceOf 14 = .ok (.if_icmp .ge 92, 3) := by decide +kernel
theorem dX0_pieceOf_17 : decode cX0_pieceOf 17 = .ok (.iload 4, 2) := by decide +kernel
theorem dX0_pieceOf_19 : decode cX0_pieceOf 19 = .ok (.ifCond .eq 87, 3) := by decide +kernel
theorem dX0_pieceOf_22 : decode cX0_pieceOf 22 = .ok (.iconst 0, 1) := by decide +kernel
theorem dX0_pieceOf_23 : decode cX0_pieceOf 23 = .ok (.istore 6, 2) := by decide +kernel
theorem dX0_pieceOf_25 : decode cX0_pieceOf 25 = .ok (.iconst 0, 1) := by decide +kernel
theorem dX0_pieceOf_26 : decode cX0_pieceOf 26 = .ok (.istore 7, 2) := by decide +kernel
theorem dX0_pieceOf_28 : decode cX0_pieceOf 28 = .ok (.iload 7, 2) := by decide +kernel
theorem dX0_pieceOf_30 : decode cX0_pieceOf 30 = .ok (.bipush 12, 2) := by decide +kernel
theorem dX0_pieceOf_32 : decode cX0_pieceOf 32 = .ok (.if_icmp .ge 55, 3) := by decide +kernel
theorem dX0_pieceOf_35 : decode cX0_pieceOf 35 = .ok (.iload 4, 2) := by decide +kernel
theorem dX0_pieceOf_37 : decode cX0_pieceOf 37 = .ok (.iload 7, 2) := by decide +kernel
theorem dX0_pieceOf_39 : decode cX0_pieceOf 39 = .ok (.ishr, 1) := by decide +kernel
theorem dX0_pieceOf_40 : decode cX0_pieceOf 40 = .ok (.iconst 1, 1) := by decide +kernel
theorem dX0_pieceOf_41 : decode cX0_pieceOf 41 = .ok (.iand, 1) := by decide +kernel
theorem dX0_pieceOf_42 : decode cX0_pieceOf 42 = .ok (.ifCond .ne 6, 3) := by decide +kernel
theorem dX0_pieceOf_45 : decode cX0_pieceOf 45 = .ok (.goto 36, 3) := by decide +kernel
theorem dX0_pieceOf_48 : decode cX0_pieceOf 48 = .ok (.iload_n 2, 1) := by decide +kernel
theorem dX0_pieceOf_49 : decode cX0_pieceOf 49 = .ok (.istore 8, 2) := by decide +kernel
theorem dX0_pieceOf_51 : decode cX0_pieceOf 51 = .ok (.iload 8, 2) := by decide +kernel
theorem dX0_pieceOf_53 : decode cX0_pieceOf 53 = .ok (.iconst 3, 1) := by decide +kernel
theorem dX0_pieceOf_54 : decode cX0_pieceOf 54 = .ok (.if_icmp .gt 27, 3) := by decide +kernel
theorem dX0_pieceOf_57 : decode cX0_pieceOf 57 = .ok (.iload 6, 2) := by decide +kernel
theorem dX0_pieceOf_59 : decode cX0_pieceOf 59 = .ok (.aload_n 0, 1) := by decide +kernel
theorem dX0_pieceOf_60 : decode cX0_pieceOf 60 = .ok (.getfield 17, 3) := by decide +kernel
theorem dX0_pieceOf_63 : decode cX0_pieceOf 63 = .ok (.bipush 12, 2) := by decide +kernel
theorem dX0_pieceOf_65 : decode cX0_pieceOf 65 = .ok (.iload 8, 2) := by decide +kernel
theorem dX0_pieceOf_67 : decode cX0_pieceOf 67 = .ok (.imul, 1) := by decide +kernel
theorem dX0_pieceOf_68 : decode cX0_pieceOf 68 = .ok (.iload 7, 2) := by decide +kernel
theorem dX0_pieceOf_70 : decode cX0_pieceOf 70 = .ok (.iadd, 1) := by decide +kernel
theorem dX0_pieceOf_71 : decode cX0_pieceOf 71 = .ok (.saload, 1) := by decide +kernel
theorem dX0_pieceOf_72 : decode cX0_pieceOf 72 = .ok (.ior, 1) := by decide +kernel
theorem dX0_pieceOf_73 : decode cX0_pieceOf 73 = .ok (.istore 6, 2) := by decide +kernel
theorem dX0_pieceOf_75 : decode cX0_pieceOf 75 = .ok (.iinc 8 1, 3) := by decide +kernel
theorem dX0_pieceOf_78 : decode cX0_pieceOf 78 = .ok (.goto (-27), 3) := by decide +kernel
theorem dX0_pieceOf_81 : decode cX0_pieceOf 81 = .ok (.iinc 7 1, 3) := by decide +kernel
theorem dX0_pieceOf_84 : decode cX0_pieceOf 84 = .ok (.goto (-56), 3) := by decide +kernel
theorem dX0_pieceOf_87 : decode cX0_pieceOf 87 = .ok (.iload 6, 2) := by decide +kernel
theorem dX0_pieceOf_89 : decode cX0_pieceOf 89 = .ok (.iload_n 3, 1) := by decide +kernel
theorem dX0_pieceOf_90 : decode cX0_pieceOf 90 = .ok (.iconst (-1), 1) := by decide +kernel
theorem dX0_pieceOf_91 : decode cX0_pieceOf 91 = .ok (.ixor, 1) := by decide +kernel
theorem dX0_pieceOf_92 : decode cX0_pieceOf 92 = .ok (.iand, 1) := by decide +kernel
theorem dX0_pieceOf_93 : decode cX0_pieceOf 93 = .ok (.istore 4, 2) := by decide +kernel
theorem dX0_pieceOf_95 : decode cX0_pieceOf 95 = .ok (.iload_n 3, 1) := by decide +kernel
theorem dX0_pieceOf_96 : decode cX0_pieceOf 96 = .ok (.iload 4, 2) := by decide +kernel
theorem dX0_pieceOf_98 : decode cX0_pieceOf 98 = .ok (.ior, 1) := by decide +kernel
theorem dX0_pieceOf_99 : decode cX0_pieceOf 99 = .ok (.istore_n 3, 1) := by decide +kernel
theorem dX0_pieceOf_100 : decode cX0_pieceOf 100 = .ok (.iinc 5 1, 3) := by decide +kernel
theorem dX0_pieceOf_103 : decode cX0_pieceOf 103 = .ok (.goto (-93), 3) := by decide +kernel
theorem dX0_pieceOf_106 : decode cX0_pieceOf 106 = .ok (.iload_n 3, 1) := by decide +kernel
theorem dX0_pieceOf_107 : decode cX0_pieceOf 107 = .ok (.ireturn, 1) := by decide +kernel
abbrev cX0_place : ByteArray := prog_1_method_16_code
def yX0_place : MethodName := ⟨RX0, "place", "(IIIZ)V"⟩
theorem dX0_place_0 : decode cX0_place 0 = .ok (.aload_n 0, 1) := by decide +kernel
theorem dX0_place_1 : decode cX0_place 1 = .ok (.getfield 7, 3) := by decide +kernel
theorem dX0_place_4 : decode cX0_place 4 = .ok (.bipush 12, 2) := by decide +kernel
theorem dX0_place_6 : decode cX0_place 6 = .ok (.iload_n 1, 1) := by decide +kernel
theorem dX0_place_7 : decode cX0_place 7 = .ok (.imul, 1) := by decide +kernel
theorem dX0_place_8 : decode cX0_place 8 = .ok (.iload_n 2, 1) := by decide +kernel
theorem dX0_place_9 : decode cX0_place 9 = .ok (.iadd, 1) := by decide +kernel
theorem dX0_place_10 : decode cX0_place 10 = .ok (.iload_n 3, 1) := by decide +kernel
theorem dX0_place_11 : decode cX0_place 11 = .ok (.i2b, 1) := by decide +kernel
theorem dX0_place_12 : decode cX0_place 12 = .ok (.bastore, 1) := by decide +kernel
theorem dX0_place_13 : decode cX0_place 13 = .ok (.aload_n 0, 1) := by decide +kernel
theorem dX0_place_14 : decode cX0_place 14 = .ok (.getfield 7, 3) := by decide +kernel
theorem dX0_place_17 : decode cX0_place 17 = .ok (.bipush 12, 2) := by decide +kernel
theorem dX0_place_19 : decode cX0_place 19 = .ok (.iload_n 2, 1) := by decide +kernel
theorem dX0_place_20 : decode cX0_place 20 = .ok (.imul, 1) := by decide +kernel
theorem dX0_place_21 : decode cX0_place 21 = .ok (.iload_n 1, 1) := by decide +kernel
theorem dX0_place_22 : decode cX0_place 22 = .ok (.iadd, 1) := by decide +kernel
theorem dX0_place_23 : decode cX0_place 23 = .ok (.iload_n 3, 1) := by decide +kernel
theorem dX0_place_24 : decode cX0_place 24 = .ok (.i2b, 1) := by decide +kernel
theorem dX0_place_25 : decode cX0_place 25 = .ok (.bastore, 1) := by decide +kernel
theorem dX0_place_26 : decode cX0_place 26 = .ok (.aload_n 0, 1) := by decide +kernel
theorem dX0_place_27 : decode cX0_place 27 = .ok (.getfield 13, 3) := by decide +kernel
theorem dX0_place_30 : decode cX0_place 30 = .ok (.bipush 12, 2) := by decide +kernel
theorem dX0_place_32 : decode cX0_place 32 = .ok (.iload_n 1, 1) := by decide +kernel
theorem dX0_place_33 : decode cX0_place 33 = .ok (.imul, 1) := by decide +kernel
theorem dX0_place_34 : decode cX0_place 34 = .ok (.iload_n 2, 1) := by decide +kernel
theorem dX0_place_35 : decode cX0_place 35 = .ok (.iadd, 1) := by decide +kernel
theorem dX0_place_36 : decode cX0_place 36 = .ok (.iload 4, 2) := by decide +kernel
theorem dX0_place_38 : decode cX0_place 38 = .ok (.bastore, 1) := by decide +kernel
theorem dX0_place_39 : decode cX0_place 39 = .ok (.aload_n 0, 1) := by decide +kernel
theorem dX0_place_40 : decode cX0_place 40 = .ok (.getfield 13, 3) := by decide +kernel
theorem dX0_place_43 : decode cX0_place 43 = .ok (.bipush 12, 2) := by decide +kernel
theorem dX0_place_45 : decode cX0_place 45 = .ok (.iload_n 2, 1) := by decide +kernel
theorem dX0_place_46 : decode cX0_place 46 = .ok (.imul, 1) := by decide +kernel
theorem dX0_place_47 : decode cX0_place 47 = .ok (.iload_n 1, 1) := by decide +kernel
theorem dX0_place_48 : decode cX0_place 48 = .ok (.iadd, 1) := by decide +kernel
theorem dX0_place_49 : decode cX0_place 49 = .ok (.iload 4, 2) := by decide +kernel
theorem dX0_place_51 : decode cX0_place 51 = .ok (.bastore, 1) := by decide +kernel
theorem dX0_place_52 : decode cX0_place 52 = .ok (.iload 4, 2) := by decide +kernel
theorem dX0_place_54 : decode cX0_place 54 = .ok (.ifCond .eq 42, 3) := by decide +kernel
theorem dX0_place_57 : decode cX0_place 57 = .ok (.aload_n 0, 1) := by decide +kernel
theorem dX0_place_58 : decode cX0_place 58 = .ok (.getfield 17, 3) := by decide +kernel
theorem dX0_place_61 : decode cX0_place 61 = .ok (.bipush 12, 2) := by decide +kernel
theorem dX0_place_63 : decode cX0_place 63 = .ok (.iload_n 3, 1) := by decide +kernel
theorem dX0_place_64 : decode cX0_place 64 = .ok (.imul, 1) := by decide +kernel
theorem dX0_place_65 : decode cX0_place 65 = .ok (.iload_n 1, 1) := by decide +kernel
theorem dX0_place_66 : decode cX0_place 66 = .ok (.iadd, 1) := by decide +kernel
theorem dX0_place_67 : decode cX0_place 67 = .ok (.dup2, 1) := by decide +kernel
theorem dX0_place_68 : decode cX0_place 68 = .ok (.saload, 1) := by decide +kernel
theorem dX0_place_69 : decode cX0_place 69 = .ok (.iconst 1, 1) := by decide +kernel
theorem dX0_place_70 : decode cX0_place 70 = .ok (.iload_n 2, 1) := by decide +kernel
theorem dX0_place_71 : decode cX0_place 71 = .ok (.ishl, 1) := by decide +kernel
theorem dX0_place_72 : decode cX0_place 72 = .ok (.ior, 1) := by decide +kernel
theorem dX0_place_73 : decode cX0_place 73 = .ok (.i2s, 1) := by decide +kernel
theorem dX0_place_74 : decode cX0_place 74 = .ok (.sastore, 1) := by decide +kernel
theorem dX0_place_75 : decode cX0_place 75 = .ok (.aload_n 0, 1) := by decide +kernel
theorem dX0_place_76 : decode cX0_place 76 = .ok (.getfield 17, 3) := by decide +kernel
theorem dX0_place_79 : decode cX0_place 79 = .ok (.bipush 12, 2) := by decide +kernel
theorem dX0_place_81 : decode cX0_place 81 = .ok (.iload_n 3, 1) := by decide +kernel
theorem dX0_place_82 : decode cX0_place 82 = .ok (.imul, 1) := by decide +kernel
theorem dX0_place_83 : decode cX0_place 83 = .ok (.iload_n 2, 1) := by decide +kernel
theorem dX0_place_84 : decode cX0_place 84 = .ok (.iadd, 1) := by decide +kernel
theorem dX0_place_85 : decode cX0_place 85 = .ok (.dup2, 1) := by decide +kernel
theorem dX0_place_86 : decode cX0_place 86 = .ok (.saload, 1) := by decide +kernel
theorem dX0_place_87 : decode cX0_place 87 = .ok (.iconst 1, 1) := by decide +kernel
theorem dX0_place_88 : decode cX0_place 88 = .ok (.iload_n 1, 1) := by decide +kernel
theorem dX0_place_89 : decode cX0_place 89 = .ok (.ishl, 1) := by decide +kernel
theorem dX0_place_90 : decode cX0_place 90 = .ok (.ior, 1) := by decide +kernel
theorem dX0_place_91 : decode cX0_place 91 = .ok (.i2s, 1) := by decide +kernel
theorem dX0_place_92 : decode cX0_place 92 = .ok (.sastore, 1) := by decide +kernel
theorem dX0_place_93 : decode cX0_place 93 = .ok (.goto 39, 3) := by decide +kernel
theorem dX0_place_96 : decode cX0_place 96 = .ok (.aload_n 0, 1) := by decide +kernel
theorem dX0_place_97 : decode cX0_place 97 = .ok (.getfield 21, 3) := by decide +kernel
theorem dX0_place_100 : decode cX0_place 100 = .ok (.bipush 12, 2) := by decide +kernel
theorem dX0_place_102 : decode cX0_place 102 = .ok (.iload_n 3, 1) := by decide +kernel
theorem dX0_place_103 : decode cX0_place 103 = .ok (.imul, 1) := by decide +kernel
theorem dX0_place_104 : decode cX0_place 104 = .ok (.iload_n 1, 1) := by decide +kernel
theorem dX0_place_105 : decode cX0_place 105 = .ok (.iadd, 1) := by decide +kernel
theorem dX0_place_106 : decode cX0_place 106 = .ok (.dup2, 1) := by decide +kernel
theorem dX0_place_107 : decode cX0_place 107 = .ok (.saload, 1) := by decide +kernel
theorem dX0_place_108 : decode cX0_place 108 = .ok (.iconst 1, 1) := by decide +kernel
theorem dX0_place_109 : decode cX0_place 109 = .ok (.iload_n 2, 1) := by decide +kernel
theorem dX0_place_110 : decode cX0_place 110 = .ok (.ishl, 1) := by decide +kernel
theorem dX0_place_111 : decode cX0_place 111 = .ok (.ior, 1) := by decide +kernel
theorem dX0_place_112 : decode cX0_place 112 = .ok (.i2s, 1) := by decide +kernel
theorem dX0_place_113 : decode cX0_place 113 = .ok (.sastore, 1) := by decide +kernel
theorem dX0_place_114 : decode cX0_place 114 = .ok (.aload_n 0, 1) := by decide +kernel
theorem dX0_place_115 : decode cX0_place 115 = .ok (.getfield 21, 3) := by decide +kernel
theorem dX0_place_118 : decode cX0_place 118 = .ok (.bipush 12, 2) := by decide +kernel
theorem dX0_place_120 : decode cX0_place 120 = .ok (.iload_n 3, 1) := by decide +kernel
theorem dX0_place_121 : decode cX0_place 121 = .ok (.imul, 1) := by decide +kernel
theorem dX0_place_122 : decode cX0_place 122 = .ok (.iload_n 2, 1) := by decide +kernel
theorem dX0_place_123 : decode cX0_place 123 = .ok (.iadd, 1) := by decide +kernel
theorem dX0_place_124 : decode cX0_place 124 = .ok (.dup2, 1) := by decide +kernel
theorem dX0_place_125 : decode cX0_place 125 = .ok (.saload, 1) := by decide +kernel
theorem dX0_place_126 : decode cX0_place 126 = .ok (.iconst 1, 1) := by decide +kernel
theorem dX0_place_127 : decode cX0_place 127 = .ok (.iload_n 1, 1) := by decide +kernel
theorem dX0_place_128 : decode cX0_place 128 = .ok (.ishl, 1) := by decide +kernel
theorem dX0_place_129 : decode cX0_place 129 = .ok (.ior, 1) := by decide +kernel
theorem dX0_place_130 : decode cX0_place 130 = .ok (.i2s, 1) := by decide +kernel
theorem dX0_place_131 : decode cX0_place 131 = .ok (.sastore, 1) := by decide +kernel
theorem dX0_place_132 : decode cX0_place 132 = .ok (.return_, 1) := by decide +kernel
abbrev cX0_cut : ByteArray := prog_1_method_3_code
def yX0_cut : MethodName := ⟨RX0, "cut", "(II)I"⟩
theorem dX0_cut_0 : decode cX0_cut 0 = .ok (.aload_n 0, 1) := by decide +kernel
theorem dX0_cut_1 : decode cX0_cut 1 = .ok (.iload_n 1, 1) := by decide +kernel
theorem dX0_cut_2 : decode cX0_cut 2 = .ok (.iload_n 2, 1) := by decide +kernel
theorem dX0_cut_3 : decode cX0_cut 3 = .ok (.invokevirtual 28, 3) := by decide +kernel
theorem dX0_cut_6 : decode cX0_cut 6 = .ok (.ifCond .ne 5, 3) := by decide +kernel
theorem dX0_cut_9 : decode cX0_cut 9 = .ok (.iconst (-1), 1) := by decide +kernel
theorem dX0_cut_10 : decode cX0_cut 10 = .ok (.ireturn, 1) := by decide +kernel
theorem dX0_cut_11 : decode cX0_cut 11 = .ok (.aload_n 0, 1) := by decide +kernel
theorem dX0_cut_12 : decode cX0_cut 12 = .ok (.iload_n 1, 1) := by decide +kernel
theorem dX0_cut_13 : decode cX0_cut 13 = .ok (.iload_n 2, 1) := by decide +kernel
theorem dX0_cut_14 : decode cX0_cut 14 = .ok (.invokevirtual 32, 3) := by decide +kernel
theorem dX0_cut_17 : decode cX0_cut 17 = .ok (.ifCond .ne 5, 3) := by decide +kernel
theorem dX0_cut_20 : decode cX0_cut 20 = .ok (.iconst 0, 1) := by decide +kernel
theorem dX0_cut_21 : decode cX0_cut 21 = .ok (.ireturn, 1) := by decide +kernel
theorem dX0_cut_22 : decode cX0_cut 22 = .ok (.aload_n 0, 1) := by decide +kernel
theorem dX0_cut_23 : decode cX0_cut 23 = .ok (.getfield 7, 3) := by decide +kernel
theorem dX0_cut_26 : decode cX0_cut 26 = .ok (.bipush 12, 2) := by decide +kernel
theorem dX0_cut_28 : decode cX0_cut 28 = .ok (.iload_n 1, 1) := by decide +kernel
theorem dX0_cut_29 : decode cX0_cut 29 = .ok (.imul, 1) := by decide +kernel
theorem dX0_cut_30 : decode cX0_cut 30 = .ok (.iload_n 2, 1) := by decide +kernel
theorem dX0_cut_31 : decode cX0_cut 31 = .ok (.iadd, 1) := by decide +kernel
theorem dX0_cut_32 : decode cX0_cut 32 = .ok (.baload, 1) := by decide +kernel
theorem dX0_cut_33 : decode cX0_cut 33 = .ok (.istore_n 3, 1) := by decide +kernel
theorem dX0_cut_34 : decode cX0_cut 34 = .ok (.aload_n 0, 1) := by decide +kernel
theorem dX0_cut_35 : decode cX0_cut 35 = .ok (.getfield 13, 3) := by decide +kernel
theorem dX0_cut_38 : decode cX0_cut 38 = .ok (.bipush 12, 2) := by decide +kernel
theorem dX0_cut_40 : decode cX0_cut 40 = .ok (.iload_n 1, 1) := by decide +kernel
theorem dX0_cut_41 : decode cX0_cut 41 = .ok (.imul, 1) := by decide +kernel
theorem dX0_cut_42 : decode cX0_cut 42 = .ok (.iload_n 2, 1) := by decide +kernel
theorem dX0_cut_43 : decode cX0_cut 43 = .ok (.iadd, 1) := by decide +kernel
theorem dX0_cut_44 : decode cX0_cut 44 = .ok (.baload, 1) := by decide +kernel
theorem dX0_cut_45 : decode cX0_cut 45 = .ok (.istore 4, 2) := by decide +kernel
theorem dX0_cut_47 : decode cX0_cut 47 = .ok (.aload_n 0, 1) := by decide +kernel
theorem dX0_cut_48 : decode cX0_cut 48 = .ok (.iload_n 1, 1) := by decide +kernel
theorem dX0_cut_49 : decode cX0_cut 49 = .ok (.iload_n 2, 1) := by decide +kernel
theorem dX0_cut_50 : decode cX0_cut 50 = .ok (.invokevirtual 45, 3) := by decide +kernel
theorem dX0_cut_53 : decode cX0_cut 53 = .ok (.aload_n 0, 1) := by decide +kernel
theorem dX0_cut_54 : decode cX0_cut 54 = .ok (.dup, 1) := by decide +kernel
theorem dX0_cut_55 : decode cX0_cut 55 = .ok (.getfield 35, 3) := by decide +kernel
theorem dX0_cut_58 : decode cX0_cut 58 = .ok (.iconst 1, 1) := by decide +kernel
theorem dX0_cut_59 : decode cX0_cut 59 = .ok (.isub, 1) := by decide +kernel
theorem dX0_cut_60 : decode cX0_cut 60 = .ok (.putfield 35, 3) := by decide +kernel
theorem dX0_cut_63 : decode cX0_cut 63 = .ok (.iload 4, 2) := by decide +kernel
theorem dX0_cut_65 : decode cX0_cut 65 = .ok (.ifCond .ne 5, 3) := by decide +kernel
theorem dX0_cut_68 : decode cX0_cut 68 = .ok (.iconst 1, 1) := by decide +kernel
theorem dX0_cut_69 : decode cX0_cut 69 = .ok (.ireturn, 1) := by decide +kernel
theorem dX0_cut_70 : decode cX0_cut 70 = .ok (.aload_n 0, 1) := by decide +kernel
theorem dX0_cut_71 : decode cX0_cut 71 = .ok (.iload_n 1, 1) := by decide +kernel
theorem dX0_cut_72 : decode cX0_cut 72 = .ok (.iload_n 2, 1) := by decide +kernel
theorem dX0_cut_73 : decode cX0_cut 73 = .ok (.iload_n 3, 1) := by decide +kernel
theorem dX0_cut_74 : decode cX0_cut 74 = .ok (.invokevirtual 49, 3) := by decide +kernel
theorem dX0_cut_77 : decode cX0_cut 77 = .ok (.ifCond .eq 5, 3) := by decide +kernel
theorem dX0_cut_80 : decode cX0_cut 80 = .ok (.iconst 1, 1) := by decide +kernel
theorem dX0_cut_81 : decode cX0_cut 81 = .ok (.ireturn, 1) := by decide +kernel
theorem dX0_cut_82 : decode cX0_cut 82 = .ok (.aload_n 0, 1) := by decide +kernel
theorem dX0_cut_83 : decode cX0_cut 83 = .ok (.dup, 1) := by decide +kernel
theorem dX0_cut_84 : decode cX0_cut 84 = .ok (.getfield 24, 3) := by decide +kernel
theorem dX0_cut_87 : decode cX0_cut 87 = .ok (.iconst 1, 1) := by decide +kernel
theorem dX0_cut_88 : decode cX0_cut 88 = .ok (.iadd, 1) := by decide +kernel
theorem dX0_cut_89 : decode cX0_cut 89 = .ok (.putfield 24, 3) := by decide +kernel
theorem dX0_cut_92 : decode cX0_cut 92 = .ok (.iconst 2, 1) := by decide +kernel
theorem dX0_cut_93 : decode cX0_cut 93 = .ok (.ireturn, 1) := by decide +kernel
abbrev cX0_unplace : ByteArray := prog_1_method_17_code
def yX0_unplace : MethodName := ⟨RX0, "unplace", "(II)V"⟩
theorem dX0_unplace_0 : decode cX0_unplace 0 = .ok (.aload_n 0, 1) := by decide +kernel
theorem dX0_unplace_1 : decode cX0_unplace 1 = .ok (.getfield 7, 3) := by decide +kernel
theorem dX0_unplace_4 : decode cX0_unplace 4 = .ok (.bipush 12, 2) := by decide +kernel
theorem dX0_unplace_6 : decode cX0_unplace 6 = .ok (.iload_n 1, 1) := by decide +kernel
theorem dX0_unplace_7 : decode cX0_unplace 7 = .ok (.imul, 1) := by decide +kernel
theorem dX0_unplace_8 : decode cX0_unplace 8 = .ok (.iload_n 2, 1) := by decide +kernel
theorem dX0_unplace_9 : decode cX0_unplace 9 = .ok (.iadd, 1) := by decide +kernel
theorem dX0_unplace_10 : decode cX0_unplace 10 = .ok (.baload, 1) := by decide +kernel
theorem dX0_unplace_11 : decode cX0_unplace 11 = .ok (.istore_n 3, 1) := by decide +kernel
theorem dX0_unplace_12 : decode cX0_unplace 12 = .ok (.aload_n 0, 1) := by decide +kernel
theorem dX0_unplace_13 : decode cX0_unplace 13 = .ok (.getfield 7, 3) := by decide +kernel
theorem dX0_unplace_16 : decode cX0_unplace 16 = .ok (.bipush 12, 2) := by decide +kernel
theorem dX0_unplace_18 : decode cX0_unplace 18 = .ok (.iload_n 1, 1) := by decide +kernel
theorem dX0_unplace_19 : decode cX0_unplace 19 = .ok (.imul, 1) := by decide +kernel
theorem dX0_unplace_20 : decode cX0_unplace 20 = .ok (.iload_n 2, 1) := by decide +kernel
theorem dX0_unplace_21 : decode cX0_unplace 21 = .ok (.iadd, 1) := by decide +kernel
theorem dX0_unplace_22 : decode cX0_unplace 22 = .ok (.iconst (-1), 1) := by decide +kernel
theorem dX0_unplace_23 : decode cX0_unplace 23 = .ok (.bastore, 1) := by decide +kernel
theorem dX0_unplace_24 : decode cX0_unplace 24 = .ok (.aload_n 0, 1) := by decide +kernel
theorem dX0_unplace_25 : decode cX0_unplace 25 = .ok (.getfield 7, 3) := by decide +kernel
theorem dX0_unplace_28 : decode cX0_unplace 28 = .ok (.bipush 12, 2) := by decide +kernel
theorem dX0_unplace_30 : decode cX0_unplace 30 = .ok (.iload_n 2, 1) := by decide +kernel
theorem dX0_unplace_31 : decode cX0_unplace 31 = .ok (.imul, 1) := by decide +kernel
theorem dX0_unplace_32 : decode cX0_unplace 32 = .ok (.iload_n 1, 1) := by decide +kernel
theorem dX0_unplace_33 : decode cX0_unplace 33 = .ok (.iadd, 1) := by decide +kernel
theorem dX0_unplace_34 : decode cX0_unplace 34 = .ok (.iconst (-1), 1) := by decide +kernel
theorem dX0_unplace_35 : decode cX0_unplace 35 = .ok (.bastore, 1) := by decide +kernel
theorem dX0_unplace_36 : decode cX0_unplace 36 = .ok (.aload_n 0, 1) := by decide +kernel
theorem dX0_unplace_37 : decode cX0_unplace 37 = .ok (.getfield 17, 3) := by decide +kernel
theorem dX0_unplace_40 : decode cX0_unplace 40 = .ok (.bipush 12, 2) := by decide +kernel
theorem dX0_unplace_42 : decode cX0_unplace 42 = .ok (.iload_n 3, 1) := by decide +kernel
theorem dX0_unplace_43 : decode cX0_unplace 43 = .ok (.imul, 1) := by decide +kernel
theorem dX0_unplace_44 : decode cX0_unplace 44 = .ok (.iload_n 1, 1) := by decide +kernel
theorem dX0_unplace_45 : decode cX0_unplace 45 = .ok (.iadd, 1) := by decide +kernel
theorem dX0_unplace_46 : decode cX0_unplace 46 = .ok (.dup2, 1) := by decide +kernel
theorem dX0_unplace_47 : decode cX0_unplace 47 = .ok (.saload, 1) := by decide +kernel
theorem dX0_unplace_48 : decode cX0_unplace 48 = .ok (.iconst 1, 1) := by decide +kernel
theorem dX0_unplace_49 : decode cX0_unplace 49 = .ok (.iload_n 2, 1) := by decide +kernel
theorem dX0_unplace_50 : decode cX0_unplace 50 = .ok (.ishl, 1) := by decide +kernel
theorem dX0_unplace_51 : decode cX0_unplace 51 = .ok (.iconst (-1), 1) := by decide +kernel
theorem dX0_unplace_52 : decode cX0_unplace 52 = .ok (.ixor, 1) := by decide +kernel
theorem dX0_unplace_53 : decode cX0_unplace 53 = .ok (.iand, 1) := by decide +kernel
theorem dX0_unplace_54 : decode cX0_unplace 54 = .ok (.i2s, 1) := by decide +kernel
theorem dX0_unplace_55 : decode cX0_unplace 55 = .ok (.sastore, 1) := by decide +kernel
theorem dX0_unplace_56 : decode cX0_unplace 56 = .ok (.aload_n 0, 1) := by decide +kernel
theorem dX0_unplace_57 : decode cX0_unplace 57 = .ok (.getfield 17, 3) := by decide +kernel
theorem dX0_unplace_60 : decode cX0_unplace 60 = .ok (.bipush 12, 2) := by decide +kernel
theorem dX0_unplace_62 : decode cX0_unplace 62 = .ok (.iload_n 3, 1) := by decide +kernel
theorem dX0_unplace_63 : decode cX0_unplace 63 = .ok (.imul, 1) := by decide +kernel
theorem dX0_unplace_64 : decode cX0_unplace 64 = .ok (.iload_n 2, 1) := by decide +kernel
theorem dX0_unplace_65 : decode cX0_unplace 65 = .ok (.iadd, 1) := by decide +kernel
theorem dX0_unplace_66 : decode cX0_unplace 66 = .ok (.dup2, 1) := by decide +kernel
theorem dX0_unplace_67 : decode cX0_unplace 67 = .ok (.saload, 1) := by decide +kernel
theorem dX0_unplace_68 : decode cX0_unplace 68 = .ok (.iconst 1, 1) := by decide +kernel
theorem dX0_unplace_69 : decode cX0_unplace 69 = .ok (.iload_n 1, 1) := by decide +kernel
theorem dX0_unplace_70 : decode cX0_unplace 70 = .ok (.ishl, 1) := by decide +kernel
theorem dX0_unplace_71 : decode cX0_unplace 71 = .ok (.iconst (-1), 1) := by decide +kernel
theorem dX0_unplace_72 : decode cX0_unplace 72 = .ok (.ixor, 1) := by decide +kernel
theorem dX0_unplace_73 : decode cX0_unplace 73 = .ok (.iand, 1) := by decide +kernel
theorem dX0_unplace_74 : decode cX0_unplace 74 = .ok (.i2s, 1) := by decide +kernel
theorem dX0_unplace_75 : decode cX0_unplace 75 = .ok (.sastore, 1) := by decide +kernel
theorem dX0_unplace_76 : decode cX0_unplace 76 = .ok (.aload_n 0, 1) := by decide +kernel
theorem dX0_unplace_77 : decode cX0_unplace 77 = .ok (.getfield 21, 3) := by decide +kernel
theorem dX0_unplace_80 : decode cX0_unplace 80 = .ok (.bipush 12, 2) := by decide +kernel
theorem dX0_unplace_82 : decode cX0_unplace 82 = .ok (.iload_n 3, 1) := by decide +kernel
theorem dX0_unplace_83 : decode cX0_unplace 83 = .ok (.imul, 1) := by decide +kernel
theorem dX0_unplace_84 : decode cX0_unplace 84 = .ok (.iload_n 1, 1) := by decide +kernel
theorem dX0_unplace_85 : decode cX0_unplace 85 = .ok (.iadd, 1) := by decide +kernel
theorem dX0_unplace_86 : decode cX0_unplace 86 = .ok (.dup2, 1) := by decide +kernel
theorem dX0_unplace_87 : decode cX0_unplace 87 = .ok (.saload, 1) := by decide +kernel
theorem dX0_unplace_88 : decode cX0_unplace 88 = .ok (.iconst 1, 1) := by decide +kernel
theorem dX0_unplace_89 : decode cX0_unplace 89 = .ok (.iload_n 2, 1) := by decide +kernel
theorem dX0_unplace_90 : decode cX0_unplace 90 = .ok (.ishl, 1) := by decide +kernel
theorem dX0_unplace_91 : decode cX0_unplace 91 = .ok (.iconst (-1), 1) := by decide +kernel
theorem dX0_unplace_92 : decode cX0_unplace 92 = .ok (.ixor, 1) := by decide +kernel
theorem dX0_unplace_93 : decode cX0_unplace 93 = .ok (.iand, 1) := by decide +kernel
theorem dX0_unplace_94 : decode cX0_unplace 94 = .ok (.i2s, 1) := by decide +kernel
theorem dX0_unplace_95 : decode cX0_unplace 95 = .ok (.sastore, 1) := by decide +kernel
theorem dX0_unplace_96 : decode cX0_unplace 96 = .ok (.aload_n 0, 1) := by decide +kernel
theorem dX0_unplace_97 : decode cX0_unplace 97 = .ok (.getfield 21, 3) := by decide +kernel
theorem dX0_unplace_100 : decode cX0_unplace 100 = .ok (.bipush 12, 2) := by decide +kernel
theorem dX0_unplace_102 : decode cX0_unplace 102 = .ok (.iload_n 3, 1) := by decide +kernel
theorem dX0_unplace_103 : decode cX0_unplace 103 = .ok (.imul, 1) := by decide +kernel
theorem dX0_unplace_104 : decode cX0_unplace 104 = .ok (.iload_n 2, 1) := by decide +kernel
theorem dX0_unplace_105 : decode cX0_unplace 105 = .ok (.iadd, 1) := by decide +kernel
theorem dX0_unplace_106 : decode cX0_unplace 106 = .ok (.dup2, 1) := by decide +kernel
theorem dX0_unplace_107 : decode cX0_unplace 107 = .ok (.saload, 1) := by decide +kernel
theorem dX0_unplace_108 : decode cX0_unplace 108 = .ok (.iconst 1, 1) := by decide +kernel
theorem dX0_unplace_109 : decode cX0_unplace 109 = .ok (.iload_n 1, 1) := by decide +kernel
theorem dX0_unplace_110 : decode cX0_unplace 110 = .ok (.ishl, 1) := by decide +kernel
theorem dX0_unplace_111 : decode cX0_unplace 111 = .ok (.iconst (-1), 1) := by decide +kernel
theorem dX0_unplace_112 : decode cX0_unplace 112 = .ok (.ixor, 1) := by decide +kernel
theorem dX0_unplace_113 : decode cX0_unplace 113 = .ok (.iand, 1) := by decide +kernel
theorem dX0_unplace_114 : decode cX0_unplace 114 = .ok (.i2s, 1) := by decide +kernel
theorem dX0_unplace_115 : decode cX0_unplace 115 = .ok (.sastore, 1) := by decide +kernel
theorem dX0_unplace_116 : decode cX0_unplace 116 = .ok (.return_, 1) := by decide +kernel
end
section
set_option maxRecDepth 100000
abbrev cX0_replace : ByteArray := prog_1_method_19_code
def yX0_replace : MethodName := ⟨RX0, "replace", "(III)Z"⟩
theorem dX0_replace_0 : decode cX0_replace 0 = .ok (.iload_n 3, 1) := by decide +kernel
theorem dX0_replace_1 : decode cX0_replace 1 = .ok (.istore 4, 2) := by decide +kernel
theorem dX0_replace_3 : decode cX0_replace 3 = .ok (.iload 4, 2) := by decide +kernel
theorem dX0_replace_5 : decode cX0_replace 5 = .ok (.ifCond .lt 80, 3) := by decide +kernel
theorem dX0_replace_8 : decode cX0_replace 8 = .ok (.aload_n 0, 1) := by decide +kernel
theorem dX0_replace_9 : decode cX0_replace 9 = .ok (.iload_n 1, 1) := by decide +kernel
theorem dX0_replace_10 : decode cX0_replace 10 = .ok (.iload 4, 2) := by decide +kernel
theorem dX0_replace_12 : decode cX0_replace 12 = .ok (.invokevirtual 57, 3) := by decide +kernel
theorem dX0_replace_15 : decode cX0_replace 15 = .ok (.istore 5, 2) := by decide +kernel
theorem dX0_replace_17 : decode cX0_replace 17 = .ok (.aload_n 0, 1) := by decide +kernel
theorem dX0_replace_18 : decode cX0_replace 18 = .ok (.iload_n 2, 1) := by decide +kernel
theorem dX0_replace_19 : decode cX0_replace 19 = .ok (.iload 4, 2) := by decide +kernel
theorem dX0_replace_21 : decode cX0_replace 21 = .ok (.invokevirtual 57, 3) := by decide +kernel
theorem dX0_replace_24 : decode cX0_replace 24 = .ok (.istore 6, 2) := by decide +kernel
theorem dX0_replace_26 : decode cX0_replace 26 = .ok (.aload_n 0, 1) := by decide +kernel
theorem dX0_replace_27 : decode cX0_replace 27 = .ok (.iload 5, 2) := by decide +kernel
theorem dX0_replace_29 : decode cX0_replace 29 = .ok (.invokevirtual 64, 3) := by decide +kernel
theorem dX0_replace_32 : decode cX0_replace 32 = .ok (.istore 7, 2) := by decide +kernel
theorem dX0_replace_34 : decode cX0_replace 34 = .ok (.aload_n 0, 1) := by decide +kernel
theorem dX0_replace_35 : decode cX0_replace 35 = .ok (.iload 6, 2) := by decide +kernel
theorem dX0_replace_37 : decode cX0_replace 37 = .ok (.invokevirtual 64, 3) := by decide +kernel
theorem dX0_replace_40 : decode cX0_replace 40 = .ok (.istore 8, 2) := by decide +kernel
theorem dX0_replace_42 : decode cX0_replace 42 = .ok (.iload 7, 2) := by decide +kernel
theorem dX0_replace_44 : decode cX0_replace 44 = .ok (.iload 8, 2) := by decide +kernel
theorem dX0_replace_46 : decode cX0_replace 46 = .ok (.if_icmp .gt 8, 3) := by decide +kernel
theorem dX0_replace_49 : decode cX0_replace 49 = .ok (.iload 5, 2) := by decide +kernel
theorem dX0_replace_51 : decode cX0_replace 51 = .ok (.goto 5, 3) := by decide +kernel
theorem dX0_replace_54 : decode cX0_replace 54 = .ok (.iload 6, 2) := by decide +kernel
theorem dX0_replace_56 : decode cX0_replace 56 = .ok (.istore 9, 2) := by decide +kernel
theorem dX0_replace_58 : decode cX0_replace 58 = .ok (.aload_n 0, 1) := by decide +kernel
theorem dX0_replace_59 : decode cX0_replace 59 = .ok (.iload 9, 2) := by decide +kernel
theorem dX0_replace_61 : decode cX0_replace 61 = .ok (.iload 4, 2) := by decide +kernel
theorem dX0_replace_63 : decode cX0_replace 63 = .ok (.invokevirtual 68, 3) := by decide +kernel
theorem dX0_replace_66 : decode cX0_replace 66 = .ok (.aload_n 0, 1) := by decide +kernel
theorem dX0_replace_67 : decode cX0_replace 67 = .ok (.iload 9, 2) := by decide +kernel
theorem dX0_replace_69 : decode cX0_replace 69 = .ok (.iload 4, 2) := by decide +kernel
theorem dX0_replace_71 : decode cX0_replace 71 = .ok (.invokevirtual 71, 3) := by decide +kernel
theorem dX0_replace_74 : decode cX0_replace 74 = .ok (.ifCond .eq 5, 3) := by decide +kernel
theorem dX0_replace_77 : decode cX0_replace 77 = .ok (.iconst 1, 1) := by decide +kernel
theorem dX0_replace_78 : decode cX0_replace 78 = .ok (.ireturn, 1) := by decide +kernel
theorem dX0_replace_79 : decode cX0_replace 79 = .ok (.iinc 4 (-1), 3) := by decide +kernel
theorem dX0_replace_82 : decode cX0_replace 82 = .ok (.goto (-79), 3) := by decide +kernel
theorem dX0_replace_85 : decode cX0_replace 85 = .ok (.iconst 0, 1) := by decide +kernel
theorem dX0_replace_86 : decode cX0_replace 86 = .ok (.ireturn, 1) := by decide +kernel
abbrev cX0_bitsIn : ByteArray := prog_1_method_15_code
def yX0_bitsIn : MethodName := ⟨RX0, "bitsIn", "(I)I"⟩
theorem dX0_bitsIn_0 : decode cX0_bitsIn 0 = .ok (.iconst 0, 1) := by decide +kernel
theorem dX0_bitsIn_1 : decode cX0_bitsIn 1 = .ok (.istore_n 2, 1) := by decide +kernel
theorem dX0_bitsIn_2 : decode cX0_bitsIn 2 = .ok (.iconst 0, 1) := by decide +kernel
theorem dX0_bitsIn_3 : decode cX0_bitsIn 3 = .ok (.istore_n 3, 1) := by decide +kernel
theorem dX0_bitsIn_4 : decode cX0_bitsIn 4 = .ok (.iload_n 3, 1) := by decide +kernel
theorem dX0_bitsIn_5 : decode cX0_bitsIn 5 = .ok (.bipush 12, 2) := by decide +kernel
theorem dX0_bitsIn_7 : decode cX0_bitsIn 7 = .ok (.if_icmp .ge 17, 3) := by decide +kernel
theorem dX0_bitsIn_10 : decode cX0_bitsIn 10 = .ok (.iload_n 2, 1) := by decide +kernel
theorem dX0_bitsIn_11 : decode cX0_bitsIn 11 = .ok (.iload_n 1, 1) := by decide +kernel
theorem dX0_bitsIn_12 : decode cX0_bitsIn 12 = .ok (.iload_n 3, 1) := by decide +kernel
theorem dX0_bitsIn_13 : decode cX0_bitsIn 13 = .ok (.ishr, 1) := by decide +kernel
theorem dX0_bitsIn_14 : decode cX0_bitsIn 14 = .ok (.iconst 1, 1) := by decide +kernel
theorem dX0_bitsIn_15 : decode cX0_bitsIn 15 = .ok (.iand, 1) := by decide +kernel
theorem dX0_bitsIn_16 : decode cX0_bitsIn 16 = .ok (.iadd, 1) := by decide +kernel
theorem dX0_bitsIn_17 : decode cX0_bitsIn 17 = .ok (.istore_n 2, 1) := by decide +kernel
theorem dX0_bitsIn_18 : decode cX0_bitsIn 18 = .ok (.iinc 3 1, 3) := by decide +kernel
theorem dX0_bitsIn_21 : decode cX0_bitsIn 21 = .ok (.goto (-17), 3) := by decide +kernel
theorem dX0_bitsIn_24 : decode cX0_bitsIn 24 = .ok (.iload_n 2, 1) := by decide +kernel
theorem dX0_bitsIn_25 : decode cX0_bitsIn 25 = .ok (.ireturn, 1) := by decide +kernel
abbrev cX0_raiseTree : ByteArray := prog_1_method_20_code
def yX0_raiseTree : MethodName := ⟨RX0, "raiseTree", "(II)V"⟩
theorem dX0_raiseTree_0 : decode cX0_raiseTree 0 = .ok (.iconst 0, 1) := by decide +kernel
theorem dX0_raiseTree_1 : decode cX0_raiseTree 1 = .ok (.istore_n 3, 1) := by decide +kernel
theorem dX0_raiseTree_2 : decode cX0_raiseTree 2 = .ok (.iload_n 3, 1) := by decide +kernel
theorem dX0_raiseTree_3 : decode cX0_raiseTree 3 = .ok (.bipush 12, 2) := by decide +kernel
theorem dX0_raiseTree_5 : decode cX0_raiseTree 5 = .ok (.if_icmp .ge 65, 3) := by decide +kernel
theorem dX0_raiseTree_8 : decode cX0_raiseTree 8 = .ok (.iload_n 1, 1) := by decide +kernel
theorem dX0_raiseTree_9 : decode cX0_raiseTree 9 = .ok (.iload_n 3, 1) := by decide +kernel
theorem dX0_raiseTree_10 : decode cX0_raiseTree 10 = .ok (.ishr, 1) := by decide +kernel
theorem dX0_raiseTree_11 : decode cX0_raiseTree 11 = .ok (.iconst 1, 1) := by decide +kernel
theorem dX0_raiseTree_12 : decode cX0_raiseTree 12 = .ok (.iand, 1) := by decide +kernel
theorem dX0_raiseTree_13 : decode cX0_raiseTree 13 = .ok (.ifCond .ne 6, 3) := by decide +kernel
theorem dX0_raiseTree_16 : decode cX0_raiseTree 16 = .ok (.goto 48, 3) := by decide +kernel
theorem dX0_raiseTree_19 : decode cX0_raiseTree 19 = .ok (.iload_n 3, 1) := by decide +kernel
theorem dX0_raiseTree_20 : decode cX0_raiseTree 20 = .ok (.iconst 1, 1) := by decide +kernel
theorem dX0_raiseTree_21 : decode cX0_raiseTree 21 = .ok (.iadd, 1) := by decide +kernel
theorem dX0_raiseTree_22 : decode cX0_raiseTree 22 = .ok (.istore 4, 2) := by decide +kernel
theorem dX0_raiseTree_24 : decode cX0_raiseTree 24 = .ok (.iload 4, 2) := by decide +kernel
theorem dX0_raiseTree_26 : decode cX0_raiseTree 26 = .ok (.bipush 12, 2) := by decide +kernel
theorem dX0_raiseTree_28 : decode cX0_raiseTree 28 = .ok (.if_icmp .ge 36, 3) := by decide +kernel
theorem dX0_raiseTree_31 : decode cX0_raiseTree 31 = .ok (.aload_n 0, 1) := by decide +kernel
theorem dX0_raiseTree_32 : decode cX0_raiseTree 32 = .ok (.getfield 17, 3) := by decide +kernel
theorem dX0_raiseTree_35 : decode cX0_raiseTree 35 = .ok (.bipush 12, 2) := by decide +kernel
theorem dX0_raiseTree_37 : decode cX0_raiseTree 37 = .ok (.iload_n 2, 1) := by decide +kernel
theorem dX0_raiseTree_38 : decode cX0_raiseTree 38 = .ok (.imul, 1) := by decide +kernel
theorem dX0_raiseTree_39 : decode cX0_raiseTree 39 = .ok (.iload_n 3, 1) := by decide +kernel
theorem dX0_raiseTree_40 : decode cX0_raiseTree 40 = .ok (.iadd, 1) := by decide +kernel
theorem dX0_raiseTree_41 : decode cX0_raiseTree 41 = .ok (.saload, 1) := by decide +kernel
theorem dX0_raiseTree_42 : decode cX0_raiseTree 42 = .ok (.iload 4, 2) := by decide +kernel
theorem dX0_raiseTree_44 : decode cX0_raiseTree 44 = .ok (.ishr, 1) := by decide +kernel
theorem dX0_raiseTree_45 : decode cX0_raiseTree 45 = .ok (.iconst 1, 1) := by decide +kernel
theorem dX0_raiseTree_46 : decode cX0_raiseTree 46 = .ok (.iand, 1) := by decide +kernel
theorem dX0_raiseTree_47 : decode cX0_raiseTree 47 = .ok (.ifCond .eq 11, 3) := by decide +kernel
theorem dX0_raiseTree_50 : decode cX0_raiseTree 50 = .ok (.aload_n 0, 1) := by decide +kernel
theorem dX0_raiseTree_51 : decode cX0_raiseTree 51 = .ok (.iload_n 3, 1) := by decide +kernel
theorem dX0_raiseTree_52 : decode cX0_raiseTree 52 = .ok (.iload 4, 2) := by decide +kernel
theorem dX0_raiseTree_54 : decode cX0_raiseTree 54 = .ok (.iconst 1, 1) := by decide +kernel
theorem dX0_raiseTree_55 : decode cX0_raiseTree 55 = .ok (.invokevirtual 74, 3) := by decide +kernel
theorem dX0_raiseTree_58 : decode cX0_raiseTree 58 = .ok (.iinc 4 1, 3) := by decide +kernel
theorem dX0_raiseTree_61 : decode cX0_raiseTree 61 = .ok (.goto (-37), 3) := by decide +kernel
theorem dX0_raiseTree_64 : decode cX0_raiseTree 64 = .ok (.iinc 3 1, 3) := by decide +kernel
theorem dX0_raiseTree_67 : decode cX0_raiseTree 67 = .ok (.goto (-65), 3) := by decide +kernel
theorem dX0_raiseTree_70 : decode cX0_raiseTree 70 = .ok (.return_, 1) := by decide +kernel
abbrev cX0_lift : ByteArray := prog_1_method_21_code
def yX0_lift : MethodName := ⟨RX0, "lift", "(IIZ)V"⟩
theorem dX0_lift_0 : decode cX0_lift 0 = .ok (.aload_n 0, 1) := by decide +kernel
theorem dX0_lift_1 : decode cX0_lift 1 = .ok (.getfield 7, 3) := by decide +kernel
theorem dX0_lift_4 : decode cX0_lift 4 = .ok (.bipush 12, 2) := by decide +kernel
theorem dX0_lift_6 : decode cX0_lift 6 = .ok (.iload_n 1, 1) := by decide +kernel
theorem dX0_lift_7 : decode cX0_lift 7 = .ok (.imul, 1) := by decide +kernel
theorem dX0_lift_8 : decode cX0_lift 8 = .ok (.iload_n 2, 1) := by decide +kernel
theorem dX0_lift_9 : decode cX0_lift 9 = .ok (.iadd, 1) := by decide +kernel
theorem dX0_lift_10 : decode cX0_lift 10 = .ok (.baload, 1) := by decide +kernel
theorem dX0_lift_11 : decode cX0_lift 11 = .ok (.iconst 1, 1) := by decide +kernel
theorem dX0_lift_12 : decode cX0_lift 12 = .ok (.iadd, 1) := by decide +kernel
theorem dX0_lift_13 : decode cX0_lift 13 = .ok (.istore 4, 2) := by decide +kernel
theorem dX0_lift_15 : decode cX0_lift 15 = .ok (.aload_n 0, 1) := by decide +kernel
theorem dX0_lift_16 : decode cX0_lift 16 = .ok (.iload_n 1, 1) := by decide +kernel
theorem dX0_lift_17 : decode cX0_lift 17 = .ok (.iload_n 2, 1) := by decide +kernel
theorem dX0_lift_18 : decode cX0_lift 18 = .ok (.invokevirtual 45, 3) := by decide +kernel
theorem dX0_lift_21 : decode cX0_lift 21 = .ok (.aload_n 0, 1) := by decide +kernel
theorem dX0_lift_22 : decode cX0_lift 22 = .ok (.iload_n 1, 1) := by decide +kernel
theorem dX0_lift_23 : decode cX0_lift 23 = .ok (.iload_n 2, 1) := by decide +kernel
theorem dX0_lift_24 : decode cX0_lift 24 = .ok (.iload 4, 2) := by decide +kernel
theorem dX0_lift_26 : decode cX0_lift 26 = .ok (.iload_n 3, 1) := by decide +kernel
theorem dX0_lift_27 : decode cX0_lift 27 = .ok (.invokevirtual 41, 3) := by decide +kernel
theorem dX0_lift_30 : decode cX0_lift 30 = .ok (.return_, 1) := by decide +kernel
abbrev cX0_searchOut : ByteArray := prog_1_method_22_code
def yX0_searchOut : MethodName := ⟨RX0, "searchOut", "(II)Z"⟩
theorem dX0_searchOut_0 : decode cX0_searchOut 0 = .ok (.iconst 0, 1) := by decide +kernel
theorem dX0_searchOut_1 : decode cX0_searchOut 1 = .ok (.istore_n 3, 1) := by decide +kernel
theorem dX0_searchOut_2 : decode cX0_searchOut 2 = .ok (.iload_n 3, 1) := by decide +kernel
theorem dX0_searchOut_3 : decode cX0_searchOut 3 = .ok (.bipush 12, 2) := by decide +kernel
theorem dX0_searchOut_5 : decode cX0_searchOut 5 = .ok (.if_icmp .ge 93, 3) := by decide +kernel
theorem dX0_searchOut_8 : decode cX0_searchOut 8 = .ok (.iload_n 1, 1) := by decide +kernel
theorem dX0_searchOut_9 : decode cX0_searchOut 9 = .ok (.iload_n 3, 1) := by decide +kernel
theorem dX0_searchOut_10 : decode cX0_searchOut 10 = .ok (.ishr, 1) := by decide +kernel
theorem dX0_searchOut_11 : decode cX0_searchOut 11 = .ok (.iconst 1, 1) := by decide +kernel
theorem dX0_searchOut_12 : decode cX0_searchOut 12 = .ok (.iand, 1) := by decide +kernel
theorem dX0_searchOut_13 : decode cX0_searchOut 13 = .ok (.ifCond .ne 6, 3) := by decide +kernel
theorem dX0_searchOut_16 : decode cX0_searchOut 16 = .ok (.goto 76, 3) := by decide +kernel
theorem dX0_searchOut_19 : decode cX0_searchOut 19 = .ok (.iconst 0, 1) := by decide +kernel
theorem dX0_searchOut_20 : decode cX0_searchOut 20 = .ok (.istore 4, 2) := by decide +kernel
theorem dX0_searchOut_22 : decode cX0_searchOut 22 = .ok (.iload 4, 2) := by decide +kernel
theorem dX0_searchOut_24 : decode cX0_searchOut 24 = .ok (.bipush 12, 2) := by decide +kernel
theorem dX0_searchOut_26 : decode cX0_searchOut 26 = .ok (.if_icmp .ge 66, 3) := by decide +kernel
theorem dX0_searchOut_29 : decode cX0_searchOut 29 = .ok (.aload_n 0, 1) := by decide +kernel
theorem dX0_searchOut_30 : decode cX0_searchOut 30 = .ok (.getfield 21, 3) := by decide +kernel
theorem dX0_searchOut_33 : decode cX0_searchOut 33 = .ok (.bipush 12, 2) := by decide +kernel
theorem dX0_searchOut_35 : decode cX0_searchOut 35 = .ok (.iload_n 2, 1) := by decide +kernel
theorem dX0_searchOut_36 : decode cX0_searchOut 36 = .ok (.imul, 1) := by decide +kernel
theorem dX0_searchOut_37 : decode cX0_searchOut 37 = .ok (.iload_n 3, 1) := by decide +kernel
theorem dX0_searchOut_38 : decode cX0_searchOut 38 = .ok (.iadd, 1) := by decide +kernel
theorem dX0_searchOut_39 : decode cX0_searchOut 39 = .ok (.saload, 1) := by decide +kernel
theorem dX0_searchOut_40 : decode cX0_searchOut 40 = .ok (.iload 4, 2) := by decide +kernel
theorem dX0_searchOut_42 : decode cX0_searchOut 42 = .ok (.ishr, 1) := by decide +kernel
theorem dX0_searchOut_43 : decode cX0_searchOut 43 = .ok (.iconst 1, 1) := by decide +kernel
theorem dX0_searchOut_44 : decode cX0_searchOut 44 = .ok (.iand, 1) := by decide +kernel
theorem dX0_searchOut_45 : decode cX0_searchOut 45 = .ok (.ifCond .ne 6, 3) := by decide +kernel
theorem dX0_searchOut_48 : decode cX0_searchOut 48 = .ok (.goto 38, 3) := by decide +kernel
theorem dX0_searchOut_51 : decode cX0_searchOut 51 = .ok (.iload_n 1, 1) := by decide +kernel
theorem dX0_searchOut_52 : decode cX0_searchOut 52 = .ok (.iload 4, 2) := by decide +kernel
theorem dX0_searchOut_54 : decode cX0_searchOut 54 = .ok (.ishr, 1) := by decide +kernel
theorem dX0_searchOut_55 : decode cX0_searchOut 55 = .ok (.iconst 1, 1) := by decide +kernel
theorem dX0_searchOut_56 : decode cX0_searchOut 56 = .ok (.iand, 1) := by decide +kernel
theorem dX0_searchOut_57 : decode cX0_searchOut 57 = .ok (.ifCond .ne 21, 3) := by decide +kernel
theorem dX0_searchOut_60 : decode cX0_searchOut 60 = .ok (.aload_n 0, 1) := by decide +kernel
theorem dX0_searchOut_61 : decode cX0_searchOut 61 = .ok (.iload_n 3, 1) := by decide +kernel
theorem dX0_searchOut_62 : decode cX0_searchOut 62 = .ok (.iload 4, 2) := by decide +kernel
theorem dX0_searchOut_64 : decode cX0_searchOut 64 = .ok (.invokevirtual 45, 3) := by decide +kernel
theorem dX0_searchOut_67 : decode cX0_searchOut 67 = .ok (.aload_n 0, 1) := by decide +kernel
theorem dX0_searchOut_68 : decode cX0_searchOut 68 = .ok (.iload_n 3, 1) := by decide +kernel
theorem dX0_searchOut_69 : decode cX0_searchOut 69 = .ok (.iload 4, 2) := by decide +kernel
theorem dX0_searchOut_71 : decode cX0_searchOut 71 = .ok (.iload_n 2, 1) := by decide +kernel
theorem dX0_searchOut_72 : decode cX0_searchOut 72 = .ok (.iconst 1, 1) := by decide +kernel
theorem dX0_searchOut_73 : decode cX0_searchOut 73 = .ok (.invokevirtual 41, 3) := by decide +kernel
theorem dX0_searchOut_76 : decode cX0_searchOut 76 = .ok (.iconst 1, 1) := by decide +kernel
theorem dX0_searchOut_77 : decode cX0_searchOut 77 = .ok (.ireturn, 1) := by decide +kernel
theorem dX0_searchOut_78 : decode cX0_searchOut 78 = .ok (.aload_n 0, 1) := by decide +kernel
theorem dX0_searchOut_79 : decode cX0_searchOut 79 = .ok (.iload_n 3, 1) := by decide +kernel
theorem dX0_searchOut_80 : decode cX0_searchOut 80 = .ok (.iload 4, 2) := by decide +kernel
theorem dX0_searchOut_82 : decode cX0_searchOut 82 = .ok (.iconst 0, 1) := by decide +kernel
theorem dX0_searchOut_83 : decode cX0_searchOut 83 = .ok (.invokevirtual 74, 3) := by decide +kernel
theorem dX0_searchOut_86 : decode cX0_searchOut 86 = .ok (.iinc 4 1, 3) := by decide +kernel
theorem dX0_searchOut_89 : decode cX0_searchOut 89 = .ok (.goto (-67), 3) := by decide +kernel
theorem dX0_searchOut_92 : decode cX0_searchOut 92 = .ok (.iinc 3 1, 3) := by decide +kernel
theorem dX0_searchOut_95 : decode cX0_searchOut 95 = .ok (.goto (-93), 3) := by decide +kernel
theorem dX0_searchOut_98 : decode cX0_searchOut 98 = .ok (.iconst 0, 1) := by decide +kernel
theorem dX0_searchOut_99 : decode cX0_searchOut 99 = .ok (.ireturn, 1) := by decide +kernel
abbrev cX0_part : ByteArray := prog_1_method_5_code
def yX0_part : MethodName := ⟨RX0, "part", "(I)I"⟩
theorem dX0_part_0 : decode cX0_part 0 = .ok (.aload_n 0, 1) := by decide +kernel
theorem dX0_part_1 : decode cX0_part 1 = .ok (.iload_n 1, 1) := by decide +kernel
theorem dX0_part_2 : decode cX0_part 2 = .ok (.invokevirtual 53, 3) := by decide +kernel
theorem dX0_part_5 : decode cX0_part 5 = .ok (.ifCond .eq 12, 3) := by decide +kernel
theorem dX0_part_8 : decode cX0_part 8 = .ok (.aload_n 0, 1) := by decide +kernel
theorem dX0_part_9 : decode cX0_part 9 = .ok (.iload_n 1, 1) := by decide +kernel
theorem dX0_part_10 : decode cX0_part 10 = .ok (.iconst 0, 1) := by decide +kernel
theorem dX0_part_11 : decode cX0_part 11 = .ok (.invokevirtual 57, 3) := by decide +kernel
theorem dX0_part_14 : decode cX0_part 14 = .ok (.goto 4, 3) := by decide +kernel
theorem dX0_part_17 : decode cX0_part 17 = .ok (.iconst (-1), 1) := by decide +kernel
theorem dX0_part_18 : decode cX0_part 18 = .ok (.ireturn, 1) := by decide +kernel
abbrev cX0_parts : ByteArray := prog_1_method_6_code
def yX0_parts : MethodName := ⟨RX0, "parts", "()I"⟩
theorem dX0_parts_0 : decode cX0_parts 0 = .ok (.aload_n 0, 1) := by decide +kernel
theorem dX0_parts_1 : decode cX0_parts 1 = .ok (.getfield 24, 3) := by decide +kernel
theorem dX0_parts_4 : decode cX0_parts 4 = .ok (.ireturn, 1) := by decide +kernel
abbrev cX0_isBridge : ByteArray := prog_1_method_8_code
def yX0_isBridge : MethodName := ⟨RX0, "isBridge", "(II)Z"⟩
theorem dX0_isBridge_0 : decode cX0_isBridge 0 = .ok (.aload_n 0, 1) := by decide +kernel
theorem dX0_isBridge_1 : decode cX0_isBridge 1 = .ok (.iload_n 1, 1) := by decide +kernel
theorem dX0_isBridge_2 : decode cX0_isBridge 2 = .ok (.iload_n 2, 1) := by decide +kernel
theorem dX0_isBridge_3 : decode cX0_isBridge 3 = .ok (.invokevirtual 32, 3) := by decide +kernel
theorem dX0_isBridge_6 : decode cX0_isBridge 6 = .ok (.ifCond .eq 17, 3) := by decide +kernel
theorem dX0_isBridge_9 : decode cX0_isBridge 9 = .ok (.aload_n 0, 1) := by decide +kernel
theorem dX0_isBridge_10 : decode cX0_isBridge 10 = .ok (.getfield 13, 3) := by decide +kernel
theorem dX0_isBridge_13 : decode cX0_isBridge 13 = .ok (.bipush 12, 2) := by decide +kernel
theorem dX0_isBridge_15 : decode cX0_isBridge 15 = .ok (.iload_n 1, 1) := by decide +kernel
theorem dX0_isBridge_16 : decode cX0_isBridge 16 = .ok (.imul, 1) := by decide +kernel
theorem dX0_isBridge_17 : decode cX0_isBridge 17 = .ok (.iload_n 2, 1) := by decide +kernel
theorem dX0_isBridge_18 : decode cX0_isBridge 18 = .ok (.iadd, 1) := by decide +kernel
theorem dX0_isBridge_19 : decode cX0_isBridge 19 = .ok (.baload, 1) := by decide +kernel
theorem dX0_isBridge_20 : decode cX0_isBridge 20 = .ok (.ifCond .ne 5, 3) := by decide +kernel
theorem dX0_isBridge_23 : decode cX0_isBridge 23 = .ok (.iconst 0, 1) := by decide +kernel
theorem dX0_isBridge_24 : decode cX0_isBridge 24 = .ok (.ireturn, 1) := by decide +kernel
theorem dX0_isBridge_25 : decode cX0_isBridge 25 = .ok (.aload_n 0, 1) := by decide +kernel
theorem dX0_isBridge_26 : decode cX0_isBridge 26 = .ok (.getfield 7, 3) := by decide +kernel
theorem dX0_isBridge_29 : decode cX0_isBridge 29 = .ok (.bipush 12, 2) := by decide +kernel
theorem dX0_isBridge_31 : decode cX0_isBridge 31 = .ok (.iload_n 1, 1) := by decide +kernel
theorem dX0_isBridge_32 : decode cX0_isBridge 32 = .ok (.imul, 1) := by decide +kernel
theorem dX0_isBridge_33 : decode cX0_isBridge 33 = .ok (.iload_n 2, 1) := by decide +kernel
theorem dX0_isBridge_34 : decode cX0_isBridge 34 = .ok (.iadd, 1) := by decide +kernel
theorem dX0_isBridge_35 : decode cX0_isBridge 35 = .ok (.baload, 1) := by decide +kernel
theorem dX0_isBridge_36 : decode cX0_isBridge 36 = .ok (.istore_n 3, 1) := by decide +kernel
theorem dX0_isBridge_37 : decode cX0_isBridge 37 = .ok (.aload_n 0, 1) := by decide +kernel
theorem dX0_isBridge_38 : decode cX0_isBridge 38 = .ok (.iload_n 1, 1) := by decide +kernel
theorem dX0_isBridge_39 : decode cX0_isBridge 39 = .ok (.iload_n 2, 1) := by decide +kernel
theorem dX0_isBridge_40 : decode cX0_isBridge 40 = .ok (.invokevirtual 45, 3) := by decide +kernel
theorem dX0_isBridge_43 : decode cX0_isBridge 43 = .ok (.aload_n 0, 1) := by decide +kernel
theorem dX0_isBridge_44 : decode cX0_isBridge 44 = .ok (.iload_n 1, 1) := by decide +kernel
theorem dX0_isBridge_45 : decode cX0_isBridge 45 = .ok (.iconst 0, 1) := by decide +kernel
theorem dX0_isBridge_46 : decode cX0_isBridge 46 = .ok (.invokevirtual 57, 3) := by decide +kernel
theorem dX0_isBridge_49 : decode cX0_isBridge 49 = .ok (.istore 4, 2) := by decide +kernel
theorem dX0_isBridge_51 : decode cX0_isBridge 51 = .ok (.iconst 0, 1) := by decide +kernel
theorem dX0_isBridge_52 : decode cX0_isBridge 52 = .ok (.istore 5, 2) := by decide +kernel
theorem dX0_isBridge_54 : decode cX0_isBridge 54 = .ok (.iconst 0, 1) := by decide +kernel
theorem dX0_isBridge_55 : decode cX0_isBridge 55 = .ok (.istore 6, 2) := by decide +kernel
theorem dX0_isBridge_57 : decode cX0_isBridge 57 = .ok (.iload 6, 2) := by decide +kernel
theorem dX0_isBridge_59 : decode cX0_isBridge 59 = .ok (.bipush 12, 2) := by decide +kernel
theorem dX0_isBridge_61 : decode cX0_isBridge 61 = .ok (.if_icmp .ge 61, 3) := by decide +kernel
theorem dX0_isBridge_64 : decode cX0_isBridge 64 = .ok (.iload 4, 2) := by decide +kernel
theorem dX0_isBridge_66 : decode cX0_isBridge 66 = .ok (.iload 6, 2) := by decide +kernel
theorem dX0_isBridge_68 : decode cX0_isBridge 68 = .ok (.ishr, 1) := by decide +kernel
theorem dX0_isBridge_69 : decode cX0_isBridge 69 = .ok (.iconst 1, 1) := by decide +kernel
theorem dX0_isBridge_70 : decode cX0_isBridge 70 = .ok (.iand, 1) := by decide +kernel
theorem dX0_isBridge_71 : decode cX0_isBridge 71 = .ok (.ifCond .ne 6, 3) := by decide +kernel
theorem dX0_isBridge_74 : decode cX0_isBridge 74 = .ok (.goto 42, 3) := by decide +kernel
theorem dX0_isBridge_77 : decode cX0_isBridge 77 = .ok (.iconst 0, 1) := by decide +kernel
theorem dX0_isBridge_78 : decode cX0_isBridge 78 = .ok (.istore 7, 2) := by decide +kernel
theorem dX0_isBridge_80 : decode cX0_isBridge 80 = .ok (.iload 7, 2) := by decide +kernel
theorem dX0_isBridge_82 : decode cX0_isBridge 82 = .ok (.iconst 3, 1) := by decide +kernel
theorem dX0_isBridge_83 : decode cX0_isBridge 83 = .ok (.if_icmp .gt 33, 3) := by decide +kernel
theorem dX0_isBridge_86 : decode cX0_isBridge 86 = .ok (.aload_n 0, 1) := by decide +kernel
theorem dX0_isBridge_87 : decode cX0_isBridge 87 = .ok (.getfield 21, 3) := by decide +kernel
theorem dX0_isBridge_90 : decode cX0_isBridge 90 = .ok (.bipush 12, 2) := by decide +kernel
theorem dX0_isBridge_92 : decode cX0_isBridge 92 = .ok (.iload 7, 2) := by decide +kernel
theorem dX0_isBridge_94 : decode cX0_isBridge 94 = .ok (.imul, 1) := by decide +kernel
theorem dX0_isBridge_95 : decode cX0_isBridge 95 = .ok (.iload 6, 2) := by decide +kernel
theorem dX0_isBridge_97 : decode cX0_isBridge 97 = .ok (.iadd, 1) := by decide +kernel
theorem dX0_isBridge_98 : decode cX0_isBridge 98 = .ok (.saload, 1) := by decide +kernel
theorem dX0_isBridge_99 : decode cX0_isBridge 99 = .ok (.iload 4, 2) := by decide +kernel
theorem dX0_isBridge_101 : decode cX0_isBridge 101 = .ok (.iconst (-1), 1) := by decide +kernel
theorem dX0_isBridge_102 : decode cX0_isBridge 102 = .ok (.ixor, 1) := by decide +kernel
theorem dX0_isBridge_103 : decode cX0_isBridge 103 = .ok (.iand, 1) := by decide +kernel
theorem dX0_isBridge_104 : decode cX0_isBridge 104 = .ok (.ifCond .eq 6, 3) := by decide +kernel
theorem dX0_isBridge_107 : decode cX0_isBridge 107 = .ok (.iconst 1, 1) := by decide +kernel
theorem dX0_isBridge_108 : decode cX0_isBridge 108 = .ok (.istore 5, 2) := by decide +kernel
theorem dX0_isBridge_110 : decode cX0_isBridge 110 = .ok (.iinc 7 1, 3) := by decide +kernel
theorem dX0_isBridge_113 : decode cX0_isBridge 113 = .ok (.goto (-33), 3) := by decide +kernel
theorem dX0_isBridge_116 : decode cX0_isBridge 116 = .ok (.iinc 6 1, 3) := by decide +kernel
theorem dX0_isBridge_119 : decode cX0_isBridge 119 = .ok (.goto (-62), 3) := by decide +kernel
theorem dX0_isBridge_122 : decode cX0_isBridge 122 = .ok (.aload_n 0, 1) := by decide +kernel
theorem dX0_isBridge_123 : decode cX0_isBridge 123 = .ok (.iload_n 1, 1) := by decide +kernel
theorem dX0_isBridge_124 : decode cX0_isBridge 124 = .ok (.iload_n 2, 1) := by decide +kernel
theorem dX0_isBridge_125 : decode cX0_isBridge 125 = .ok (.iload_n 3, 1) := by decide +kernel
theorem dX0_isBridge_126 : decode cX0_isBridge 126 = .ok (.iconst 1, 1) := by decide +kernel
theorem dX0_isBridge_127 : decode cX0_isBridge 127 = .ok (.invokevirtual 41, 3) := by decide +kernel
theorem dX0_isBridge_130 : decode cX0_isBridge 130 = .ok (.iload 5, 2) := by decide +kernel
theorem dX0_isBridge_132 : decode cX0_isBridge 132 = .ok (.ifCond .ne 7, 3) := by decide +kernel
theorem dX0_isBridge_135 : decode cX0_isBridge 135 = .ok (.iconst 1, 1) := by decide +kernel
theorem dX0_isBridge_136 : decode cX0_isBridge 136 = .ok (.goto 4, 3) := by decide +kernel
theorem dX0_isBridge_139 : decode cX0_isBridge 139 = .ok (.iconst 0, 1) := by decide +kernel
theorem dX0_isBridge_140 : decode cX0_isBridge 140 = .ok (.ireturn, 1) := by decide +kernel
abbrev cX0_edges : ByteArray := prog_1_method_9_code
def yX0_edges : MethodName := ⟨RX0, "edges", "()I"⟩
theorem dX0_edges_0 : decode cX0_edges 0 = .ok (.aload_n 0, 1) := by decide +kernel
theorem dX0_edges_1 : decode cX0_edges 1 = .ok (.getfield 35, 3) := by decide +kernel
theorem dX0_edges_4 : decode cX0_edges 4 = .ok (.ireturn, 1) := by decide +kernel
abbrev cX0_spare : ByteArray := prog_1_method_10_code
def yX0_spare : MethodName := ⟨RX0, "spare", "()I"⟩
theorem dX0_spare_0 : decode cX0_spare 0 = .ok (.aload_n 0, 1) := by decide +kernel
theorem dX0_spare_1 : decode cX0_spare 1 = .ok (.getfield 35, 3) := by decide +kernel
theorem dX0_spare_4 : decode cX0_spare 4 = .ok (.bipush 12, 2) := by decide +kernel
theorem dX0_spare_6 : decode cX0_spare 6 = .ok (.aload_n 0, 1) := by decide +kernel
theorem dX0_spare_7 : decode cX0_spare 7 = .ok (.getfield 24, 3) := by decide +kernel
theorem dX0_spare_10 : decode cX0_spare 10 = .ok (.isub, 1) := by decide +kernel
theorem dX0_spare_11 : decode cX0_spare 11 = .ok (.isub, 1) := by decide +kernel
theorem dX0_spare_12 : decode cX0_spare 12 = .ok (.ireturn, 1) := by decide +kernel
abbrev cX0_isolate : ByteArray := prog_1_method_11_code
def yX0_isolate : MethodName := ⟨RX0, "isolate", "(I)I"⟩
theorem dX0_isolate_0 : decode cX0_isolate 0 = .ok (.aload_n 0, 1) := by decide +kernel
theorem dX0_isolate_1 : decode cX0_isolate 1 = .ok (.iload_n 1, 1) := by decide +kernel
theorem dX0_isolate_2 : decode cX0_isolate 2 = .ok (.invokevirtual 53, 3) := by decide +kernel
theorem dX0_isolate_5 : decode cX0_isolate 5 = .ok (.ifCond .ne 5, 3) := by decide +kernel
theorem dX0_isolate_8 : decode cX0_isolate 8 = .ok (.iconst (-1), 1) := by decide +kernel
theorem dX0_isolate_9 : decode cX0_isolate 9 = .ok (.ireturn, 1) := by decide +kernel
theorem dX0_isolate_10 : decode cX0_isolate 10 = .ok (.aload_n 0, 1) := by decide +kernel
theorem dX0_isolate_11 : decode cX0_isolate 11 = .ok (.getfield 24, 3) := by decide +kernel
theorem dX0_isolate_14 : decode cX0_isolate 14 = .ok (.istore_n 2, 1) := by decide +kernel
theorem dX0_isolate_15 : decode cX0_isolate 15 = .ok (.iconst 0, 1) := by decide +kernel
theorem dX0_isolate_16 : decode cX0_isolate 16 = .ok (.istore_n 3, 1) := by decide +kernel
theorem dX0_isolate_17 : decode cX0_isolate 17 = .ok (.iload_n 3, 1) := by decide +kernel
theorem dX0_isolate_18 : decode cX0_isolate 18 = .ok (.bipush 12, 2) := by decide +kernel
theorem dX0_isolate_20 : decode cX0_isolate 20 = .ok (.if_icmp .ge 25, 3) := by decide +kernel
theorem dX0_isolate_23 : decode cX0_isolate 23 = .ok (.aload_n 0, 1) := by decide +kernel
theorem dX0_isolate_24 : decode cX0_isolate 24 = .ok (.iload_n 1, 1) := by decide +kernel
theorem dX0_isolate_25 : decode cX0_isolate 25 = .ok (.iload_n 3, 1) := by decide +kernel
theorem dX0_isolate_26 : decode cX0_isolate 26 = .ok (.invokevirtual 32, 3) := by decide +kernel
theorem dX0_isolate_29 : decode cX0_isolate 29 = .ok (.ifCond .eq 10, 3) := by decide +kernel
theorem dX0_isolate_32 : decode cX0_isolate 32 = .ok (.aload_n 0, 1) := by decide +kernel
theorem dX0_isolate_33 : decode cX0_isolate 33 = .ok (.iload_n 1, 1) := by decide +kernel
theorem dX0_isolate_34 : decode cX0_isolate 34 = .ok (.iload_n 3, 1) := by decide +kernel
theorem dX0_isolate_35 : decode cX0_isolate 35 = .ok (.invokevirtual 61, 3) := by decide +kernel
theorem dX0_isolate_38 : decode cX0_isolate 38 = .ok (.pop, 1) := by decide +kernel
theorem dX0_isolate_39 : decode cX0_isolate 39 = .ok (.iinc 3 1, 3) := by decide +kernel
theorem dX0_isolate_42 : decode cX0_isolate 42 = .ok (.goto (-25), 3) := by decide +kernel
theorem dX0_isolate_45 : decode cX0_isolate 45 = .ok (.aload_n 0, 1) := by decide +kernel
theorem dX0_isolate_46 : decode cX0_isolate 46 = .ok (.getfield 24, 3) := by decide +kernel
theorem dX0_isolate_49 : decode cX0_isolate 49 = .ok (.iload_n 2, 1) := by decide +kernel
theorem dX0_isolate_50 : decode cX0_isolate 50 = .ok (.isub, 1) := by decide +kernel
theorem dX0_isolate_51 : decode cX0_isolate 51 = .ok (.ireturn, 1) := by decide +kernel
abbrev cX0_greatest : ByteArray := prog_1_method_12_code
def yX0_greatest : MethodName := ⟨RX0, "greatest", "()I"⟩
theorem dX0_greatest_0 : decode cX0_greatest 0 = .ok (.iconst 0, 1) := by decide +kernel
theorem dX0_greatest_1 : decode cX0_greatest 1 = .ok (.istore_n 1, 1) := by decide +kernel
theorem dX0_greatest_2 : decode cX0_greatest 2 = .ok (.iconst 0, 1) := by decide +kernel
theorem dX0_greatest_3 : decode cX0_greatest 3 = .ok (.istore_n 2, 1) := by decide +kernel
theorem dX0_greatest_4 : decode cX0_greatest 4 = .ok (.iconst 0, 1) := by decide +kernel
theorem dX0_greatest_5 : decode cX0_greatest 5 = .ok (.istore_n 3, 1) := by decide +kernel
theorem dX0_greatest_6 : decode cX0_greatest 6 = .ok (.iload_n 3, 1) := by decide +kernel
theorem dX0_greatest_7 : decode cX0_greatest 7 = .ok (.bipush 12, 2) := by decide +kernel
theorem dX0_greatest_9 : decode cX0_greatest 9 = .ok (.if_icmp .ge 50, 3) := by decide +kernel
theorem dX0_greatest_12 : decode cX0_greatest 12 = .ok (.iload_n 2, 1) := by decide +kernel
theorem dX0_greatest_13 : decode cX0_greatest 13 = .ok (.iload_n 3, 1) := by decide +kernel
theorem dX0_greatest_14 : decode cX0_greatest 14 = .ok (.ishr, 1) := by decide +kernel
theorem dX0_greatest_15 : decode cX0_greatest 15 = .ok (.iconst 1, 1) := by decide +kernel
theorem dX0_greatest_16 : decode cX0_greatest 16 = .ok (.iand, 1) := by decide +kernel
theorem dX0_greatest_17 : decode cX0_greatest 17 = .ok (.ifCond .eq 6, 3) := by decide +kernel
theorem dX0_greatest_20 : decode cX0_greatest 20 = .ok (.goto 33, 3) := by decide +kernel
theorem dX0_greatest_23 : decode cX0_greatest 23 = .ok (.aload_n 0, 1) := by decide +kernel
theorem dX0_greatest_24 : decode cX0_greatest 24 = .ok (.iload_n 3, 1) := by decide +kernel
theorem dX0_greatest_25 : decode cX0_greatest 25 = .ok (.iconst 0, 1) := by decide +kernel
theorem dX0_greatest_26 : decode cX0_greatest 26 = .ok (.invokevirtual 57, 3) := by decide +kernel
theorem dX0_greatest_29 : decode cX0_greatest 29 = .ok (.istore 4, 2) := by decide +kernel
theorem dX0_greatest_31 : decode cX0_greatest 31 = .ok (.aload_n 0, 1) := by decide +kernel
theorem dX0_greatest_32 : decode cX0_greatest 32 = .ok (.iload 4, 2) := by decide +kernel
theorem dX0_greatest_34 : decode cX0_greatest 34 = .ok (.invokevirtual 64, 3) := by decide +kernel
theorem dX0_greatest_37 : decode cX0_greatest 37 = .ok (.istore 5, 2) := by decide +kernel
theorem dX0_greatest_39 : decode cX0_greatest 39 = .ok (.iload_n 2, 1) := by decide +kernel
theorem dX0_greatest_40 : decode cX0_greatest 40 = .ok (.iload 4, 2) := by decide +kernel
theorem dX0_greatest_42 : decode cX0_greatest 42 = .ok (.ior, 1) := by decide +kernel
theorem dX0_greatest_43 : decode cX0_greatest 43 = .ok (.istore_n 2, 1) := by decide +kernel
theorem dX0_greatest_44 : decode cX0_greatest 44 = .ok (.iload 5, 2) := by decide +kernel
theorem dX0_greatest_46 : decode cX0_greatest 46 = .ok (.iload_n 1, 1) := by decide +kernel
theorem dX0_greatest_47 : decode cX0_greatest 47 = .ok (.if_icmp .le 6, 3) := by decide +kernel
theorem dX0_greatest_50 : decode cX0_greatest 50 = .ok (.iload 5, 2) := by decide +kernel
theorem dX0_greatest_52 : decode cX0_greatest 52 = .ok (.istore_n 1, 1) := by decide +kernel
theorem dX0_greatest_53 : decode cX0_greatest 53 = .ok (.iinc 3 1, 3) := by decide +kernel
theorem dX0_greatest_56 : decode cX0_greatest 56 = .ok (.goto (-50), 3) := by decide +kernel
theorem dX0_greatest_59 : decode cX0_greatest 59 = .ok (.iload_n 1, 1) := by decide +kernel
theorem dX0_greatest_60 : decode cX0_greatest 60 = .ok (.ireturn, 1) := by decide +kernel
theorem q17 : (Jvm.Cond.initialized "LevelForests") ∈ lw_all := lw_g (lw_at lw_m0 1 rfl) rfl
theorem q20 : (Jvm.Cond.instantiable "LevelForests" (6 : Nat)) ∈ lw_all := lw_g (lw_at lw_m0 4 rfl) rfl
theorem q22 : (Jvm.Cond.instanceMethod ({ cls := "LevelForests", name := "<init>", desc := "()V" } : Jvm.MethodName)) ∈ lw_all := lw_g (lw_at lw_m0 6 rfl) rfl
theorem q23 : (Jvm.Cond.code ({ cls := "LevelForests", name := "<init>", desc := "()V" } : Jvm.MethodName) prog_1_method_1_code (2 : Nat) (Option.none : Option Jvm.ClassFile.FieldType)) ∈ lw_all := lw_g (lw_at lw_m0 7 rfl) rfl
theorem q24 : (Jvm.Cond.methodLink "LevelForests" (1 : Nat) ({ cls := "java/lang/Object", name := "<init>", desc := "()V" } : Jvm.MethodName)) ∈ lw_all := lw_g (lw_at lw_m0 8 rfl) rfl
theorem q27 : (Jvm.Cond.fieldLink "LevelForests" (35 : Nat) "LevelForests" "edgeCount" "I") ∈ lw_all := lw_g (lw_at lw_m0 11 rfl) rfl
theorem q28 : (Jvm.Cond.fieldLink "LevelForests" (24 : Nat) "LevelForests" "partCount" "I") ∈ lw_all := lw_g (lw_at lw_m0 12 rfl) rfl
theorem q29 : (Jvm.Cond.fieldLink "LevelForests" (7 : Nat) "LevelForests" "level" "[B") ∈ lw_all := lw_g (lw_at lw_m0 13 rfl) rfl
theorem q30 : (Jvm.Cond.fieldLink "LevelForests" (13 : Nat) "LevelForests" "inTree" "[Z") ∈ lw_all := lw_g (lw_at lw_m0 14 rfl) rfl
theorem q31 : (Jvm.Cond.fieldLink "LevelForests" (17 : Nat) "LevelForests" "treeNeighbours" "[S") ∈ lw_all := lw_g (lw_at lw_m0 15 rfl) rfl
theorem q32 : (Jvm.Cond.fieldLink "LevelForests" (21 : Nat) "LevelForests" "otherNeighbours" "[S") ∈ lw_all := lw_g (lw_at lw_m0 16 rfl) rfl
theorem q33 : (Jvm.Cond.lays "LevelForests" "LevelForests" "edgeCount" "I") ∈ lw_all := lw_g (lw_at lw_m0 17 rfl) rfl
theorem q34 : (Jvm.Cond.soleField "LevelForests" "edgeCount") ∈ lw_all := lw_g (lw_at lw_m0 18 rfl) rfl
theorem q35 : (Jvm.Cond.lays "LevelForests" "LevelForests" "partCount" "I") ∈ lw_all := lw_g (lw_at lw_m0 19 rfl) rfl
theorem q36 : (Jvm.Cond.soleField "LevelForests" "partCount") ∈ lw_all := lw_g (lw_at lw_m0 20 rfl) rfl
theorem q37 : (Jvm.Cond.laysFinal "LevelForests" "LevelForests" "level" "[B") ∈ lw_all := lw_g (lw_at lw_m0 21 rfl) rfl
theorem q38 : (Jvm.Cond.soleField "LevelForests" "level") ∈ lw_all := lw_g (lw_at lw_m0 22 rfl) rfl
theorem q39 : (Jvm.Cond.laysFinal "LevelForests" "LevelForests" "inTree" "[Z") ∈ lw_all := lw_g (lw_at lw_m0 23 rfl) rfl
theorem q40 : (Jvm.Cond.soleField "LevelForests" "inTree") ∈ lw_all := lw_g (lw_at lw_m0 24 rfl) rfl
theorem q41 : (Jvm.Cond.laysFinal "LevelForests" "LevelForests" "treeNeighbours" "[S") ∈ lw_all := lw_g (lw_at lw_m0 25 rfl) rfl
theorem q42 : (Jvm.Cond.soleField "LevelForests" "treeNeighbours") ∈ lw_all := lw_g (lw_at lw_m0 26 rfl) rfl
theorem q43 : (Jvm.Cond.laysFinal "LevelForests" "LevelForests" "otherNeighbours" "[S") ∈ lw_all := lw_g (lw_at lw_m0 27 rfl) rfl
theorem q44 : (Jvm.Cond.soleField "LevelForests" "otherNeighbours") ∈ lw_all := lw_g (lw_at lw_m0 28 rfl) rfl
theorem q45 : (Jvm.Cond.superclass "LevelForests" "java/lang/Object") ∈ lw_all := lw_g (lw_at lw_m0 29 rfl) rfl
theorem q50 : (Jvm.Cond.instanceMethod ({ cls := "LevelForests", name := "link", desc := "(II)I" } : Jvm.MethodName)) ∈ lw_all := lw_g (lw_at lw_m0 34 rfl) rfl
theorem q51 : (Jvm.Cond.selects "LevelForests" ({ cls := "LevelForests", name := "link", desc := "(II)I" } : Jvm.MethodName) ({ cls := "LevelForests", name := "link", desc := "(II)I" } : Jvm.MethodName)) ∈ lw_all := lw_g (lw_at lw_m0 35 rfl) rfl
theorem q52 : (Jvm.Cond.code ({ cls := "LevelForests", name := "link", desc := "(II)I" } : Jvm.MethodName) prog_1_method_2_code (4 : Nat) (Option.some Jvm.ClassFile.FieldType.int)) ∈ lw_all := lw_g (lw_at lw_m0 36 rfl) rfl
theorem q53 : (Jvm.Cond.methodLink "LevelForests" (28 : Nat) ({ cls := "LevelForests", name := "isCouple", desc := "(II)Z" } : Jvm.MethodName)) ∈ lw_all := lw_g (lw_at lw_m0 37 rfl) rfl
theorem q54 : (Jvm.Cond.privateMethod ({ cls := "LevelForests", name := "isCouple", desc := "(II)Z" } : Jvm.MethodName)) ∈ lw_tbl := lw_at lw_m0 38 rfl
theorem q55 : (Jvm.Cond.instanceMethod ({ cls := "LevelForests", name := "isCouple", desc := "(II)Z" } : Jvm.MethodName)) ∈ lw_all := lw_g (lw_at lw_m0 39 rfl) rfl
theorem q56 : (Jvm.Cond.code ({ cls := "LevelForests", name := "isCouple", desc := "(II)Z" } : Jvm.MethodName) prog_1_method_14_code (3 : Nat) (Option.some Jvm.ClassFile.FieldType.boolean)) ∈ lw_all := lw_g (lw_at lw_m0 40 rfl) rfl
theorem q57 : (Jvm.Cond.methodLink "LevelForests" (53 : Nat) ({ cls := "LevelForests", name := "isPoint", desc := "(I)Z" } : Jvm.MethodName)) ∈ lw_all := lw_g (lw_at lw_m0 41 rfl) rfl
theorem q58 : (Jvm.Cond.privateMethod ({ cls := "LevelForests", name := "isPoint", desc := "(I)Z" } : Jvm.MethodName)) ∈ lw_tbl := lw_at lw_m0 42 rfl
theorem q59 : (Jvm.Cond.instanceMethod ({ cls := "LevelForests", name := "isPoint", desc := "(I)Z" } : Jvm.MethodName)) ∈ lw_all := lw_g (lw_at lw_m0 43 rfl) rfl
theorem q60 : (Jvm.Cond.code ({ cls := "LevelForests", name := "isPoint", desc := "(I)Z" } : Jvm.MethodName) prog_1_method_13_code (2 : Nat) (Option.some Jvm.ClassFile.FieldType.boolean)) ∈ lw_all := lw_g (lw_at lw_m0 44 rfl) rfl
theorem q61 : (Jvm.Cond.methodLink "LevelForests" (32 : Nat) ({ cls := "LevelForests", name := "isEdge", desc := "(II)Z" } : Jvm.MethodName)) ∈ lw_all := lw_g (lw_at lw_m0 45 rfl) rfl
theorem q62 : (Jvm.Cond.instanceMethod ({ cls := "LevelForests", name := "isEdge", desc := "(II)Z" } : Jvm.MethodName)) ∈ lw_all := lw_g (lw_at lw_m0 46 rfl) rfl
theorem q63 : (Jvm.Cond.selects "LevelForests" ({ cls := "LevelForests", name := "isEdge", desc := "(II)Z" } : Jvm.MethodName) ({ cls := "LevelForests", name := "isEdge", desc := "(II)Z" } : Jvm.MethodName)) ∈ lw_all := lw_g (lw_at lw_m0 47 rfl) rfl
theorem q64 : (Jvm.Cond.code ({ cls := "LevelForests", name := "isEdge", desc := "(II)Z" } : Jvm.MethodName) prog_1_method_7_code (3 : Nat) (Option.some Jvm.ClassFile.FieldType.boolean)) ∈ lw_all := lw_g (lw_at lw_m0 48 rfl) rfl
theorem q65 : (Jvm.Cond.methodLink "LevelForests" (38 : Nat) ({ cls := "LevelForests", name := "connected", desc := "(II)Z" } : Jvm.MethodName)) ∈ lw_all := lw_g (lw_at lw_m0 49 rfl) rfl
theorem q66 : (Jvm.Cond.instanceMethod ({ cls := "LevelForests", name := "connected", desc := "(II)Z" } : Jvm.MethodName)) ∈ lw_all := lw_g (lw_at lw_m0 50 rfl) rfl
theorem q67 : (Jvm.Cond.selects "LevelForests" ({ cls := "LevelForests", name := "connected", desc := "(II)Z" } : Jvm.MethodName) ({ cls := "LevelForests", name := "connected", desc := "(II)Z" } : Jvm.MethodName)) ∈ lw_all := lw_g (lw_at lw_m0 51 rfl) rfl
theorem q68 : (Jvm.Cond.code ({ cls := "LevelForests", name := "connected", desc := "(II)Z" } : Jvm.MethodName) prog_1_method_4_code (4 : Nat) (Option.some Jvm.ClassFile.FieldType.boolean)) ∈ lw_all := lw_g (lw_at lw_m0 52 rfl) rfl
theorem q69 : (Jvm.Cond.methodLink "LevelForests" (57 : Nat) ({ cls := "LevelForests", name := "pieceOf", desc := "(II)I" } : Jvm.MethodName)) ∈ lw_all := lw_g (lw_at lw_m0 53 rfl) rfl
theorem q70 : (Jvm.Cond.privateMethod ({ cls := "LevelForests", name := "pieceOf", desc := "(II)I" } : Jvm.MethodName)) ∈ lw_tbl := lw_at lw_m0 54 rfl
theorem q71 : (Jvm.Cond.instanceMethod ({ cls := "LevelForests", name := "pieceOf", desc := "(II)I" } : Jvm.MethodName)) ∈ lw_all := lw_g (lw_at lw_m0 55 rfl) rfl
theorem q72 : (Jvm.Cond.code ({ cls := "LevelForests", name := "pieceOf", desc := "(II)I" } : Jvm.MethodName) prog_1_method_18_code (9 : Nat) (Option.some Jvm.ClassFile.FieldType.int)) ∈ lw_all := lw_g (lw_at lw_m0 56 rfl) rfl
theorem q73 : (Jvm.Cond.methodLink "LevelForests" (41 : Nat) ({ cls := "LevelForests", name := "place", desc := "(IIIZ)V" } : Jvm.MethodName)) ∈ lw_all := lw_g (lw_at lw_m0 57 rfl) rfl
theorem q74 : (Jvm.Cond.privateMethod ({ cls := "LevelForests", name := "place", desc := "(IIIZ)V" } : Jvm.MethodName)) ∈ lw_tbl := lw_at lw_m0 58 rfl
theorem q75 : (Jvm.Cond.instanceMethod ({ cls := "LevelForests", name := "place", desc := "(IIIZ)V" } : Jvm.MethodName)) ∈ lw_all := lw_g (lw_at lw_m0 59 rfl) rfl
theorem q76 : (Jvm.Cond.code ({ cls := "LevelForests", name := "place", desc := "(IIIZ)V" } : Jvm.MethodName) prog_1_method_16_code (5 : Nat) (Option.none : Option Jvm.ClassFile.FieldType)) ∈ lw_all := lw_g (lw_at lw_m0 60 rfl) rfl
theorem q78 : (Jvm.Cond.instanceMethod ({ cls := "LevelForests", name := "cut", desc := "(II)I" } : Jvm.MethodName)) ∈ lw_all := lw_g (lw_at lw_m0 62 rfl) rfl
theorem q79 : (Jvm.Cond.selects "LevelForests" ({ cls := "LevelForests", name := "cut", desc := "(II)I" } : Jvm.MethodName) ({ cls := "LevelForests", name := "cut", desc := "(II)I" } : Jvm.MethodName)) ∈ lw_all := lw_g (lw_at lw_m0 63 rfl) rfl
theorem q80 : (Jvm.Cond.code ({ cls := "LevelForests", name := "cut", desc := "(II)I" } : Jvm.MethodName) prog_1_method_3_code (5 : Nat) (Option.some Jvm.ClassFile.FieldType.int)) ∈ lw_all := lw_g (lw_at lw_m0 64 rfl) rfl
theorem q81 : (Jvm.Cond.methodLink "LevelForests" (45 : Nat) ({ cls := "LevelForests", name := "unplace", desc := "(II)V" } : Jvm.MethodName)) ∈ lw_all := lw_g (lw_at lw_m0 65 rfl) rfl
theorem q82 : (Jvm.Cond.privateMethod ({ cls := "LevelForests", name := "unplace", desc := "(II)V" } : Jvm.MethodName)) ∈ lw_tbl := lw_at lw_m0 66 rfl
theorem q83 : (Jvm.Cond.instanceMethod ({ cls := "LevelForests", name := "unplace", desc := "(II)V" } : Jvm.MethodName)) ∈ lw_all := lw_g (lw_at lw_m0 67 rfl) rfl
theorem q84 : (Jvm.Cond.code ({ cls := "LevelForests", name := "unplace", desc := "(II)V" } : Jvm.MethodName) prog_1_method_17_code (4 : Nat) (Option.none : Option Jvm.ClassFile.FieldType)) ∈ lw_all := lw_g (lw_at lw_m0 68 rfl) rfl
theorem q85 : (Jvm.Cond.methodLink "LevelForests" (49 : Nat) ({ cls := "LevelForests", name := "replace", desc := "(III)Z" } : Jvm.MethodName)) ∈ lw_all := lw_g (lw_at lw_m0 69 rfl) rfl
theorem q86 : (Jvm.Cond.privateMethod ({ cls := "LevelForests", name := "replace", desc := "(III)Z" } : Jvm.MethodName)) ∈ lw_tbl := lw_at lw_m0 70 rfl
theorem q87 : (Jvm.Cond.instanceMethod ({ cls := "LevelForests", name := "replace", desc := "(III)Z" } : Jvm.MethodName)) ∈ lw_all := lw_g (lw_at lw_m0 71 rfl) rfl
theorem q88 : (Jvm.Cond.code ({ cls := "LevelForests", name := "replace", desc := "(III)Z" } : Jvm.MethodName) prog_1_method_19_code (10 : Nat) (Option.some Jvm.ClassFile.FieldType.boolean)) ∈ lw_all := lw_g (lw_at lw_m0 72 rfl) rfl
theorem q89 : (Jvm.Cond.methodLink "LevelForests" (64 : Nat) ({ cls := "LevelForests", name := "bitsIn", desc := "(I)I" } : Jvm.MethodName)) ∈ lw_all := lw_g (lw_at lw_m0 73 rfl) rfl
theorem q90 : (Jvm.Cond.privateMethod ({ cls := "LevelForests", name := "bitsIn", desc := "(I)I" } : Jvm.MethodName)) ∈ lw_tbl := lw_at lw_m0 74 rfl
theorem q91 : (Jvm.Cond.instanceMethod ({ cls := "LevelForests", name := "bitsIn", desc := "(I)I" } : Jvm.MethodName)) ∈ lw_all := lw_g (lw_at lw_m0 75 rfl) rfl
theorem q92 : (Jvm.Cond.code ({ cls := "LevelForests", name := "bitsIn", desc := "(I)I" } : Jvm.MethodName) prog_1_method_15_code (4 : Nat) (Option.some Jvm.ClassFile.FieldType.int)) ∈ lw_all := lw_g (lw_at lw_m0 76 rfl) rfl
theorem q93 : (Jvm.Cond.methodLink "LevelForests" (68 : Nat) ({ cls := "LevelForests", name := "raiseTree", desc := "(II)V" } : Jvm.MethodName)) ∈ lw_all := lw_g (lw_at lw_m0 77 rfl) rfl
theorem q94 : (Jvm.Cond.privateMethod ({ cls := "LevelForests", name := "raiseTree", desc := "(II)V" } : Jvm.MethodName)) ∈ lw_tbl := lw_at lw_m0 78 rfl
theorem q95 : (Jvm.Cond.instanceMethod ({ cls := "LevelForests", name := "raiseTree", desc := "(II)V" } : Jvm.MethodName)) ∈ lw_all := lw_g (lw_at lw_m0 79 rfl) rfl
theorem q96 : (Jvm.Cond.code ({ cls := "LevelForests", name := "raiseTree", desc := "(II)V" } : Jvm.MethodName) prog_1_method_20_code (5 : Nat) (Option.none : Option Jvm.ClassFile.FieldType)) ∈ lw_all := lw_g (lw_at lw_m0 80 rfl) rfl
theorem q97 : (Jvm.Cond.methodLink "LevelForests" (74 : Nat) ({ cls := "LevelForests", name := "lift", desc := "(IIZ)V" } : Jvm.MethodName)) ∈ lw_all := lw_g (lw_at lw_m0 81 rfl) rfl
theorem q98 : (Jvm.Cond.privateMethod ({ cls := "LevelForests", name := "lift", desc := "(IIZ)V" } : Jvm.MethodName)) ∈ lw_tbl := lw_at lw_m0 82 rfl
theorem q99 : (Jvm.Cond.instanceMethod ({ cls := "LevelForests", name := "lift", desc := "(IIZ)V" } : Jvm.MethodName)) ∈ lw_all := lw_g (lw_at lw_m0 83 rfl) rfl
theorem q100 : (Jvm.Cond.code ({ cls := "LevelForests", name := "lift", desc := "(IIZ)V" } : Jvm.MethodName) prog_1_method_21_code (5 : Nat) (Option.none : Option Jvm.ClassFile.FieldType)) ∈ lw_all := lw_g (lw_at lw_m0 84 rfl) rfl
theorem q101 : (Jvm.Cond.methodLink "LevelForests" (71 : Nat) ({ cls := "LevelForests", name := "searchOut", desc := "(II)Z" } : Jvm.MethodName)) ∈ lw_all := lw_g (lw_at lw_m0 85 rfl) rfl
theorem q102 : (Jvm.Cond.privateMethod ({ cls := "LevelForests", name := "searchOut", desc := "(II)Z" } : Jvm.MethodName)) ∈ lw_tbl := lw_at lw_m0 86 rfl
theorem q103 : (Jvm.Cond.instanceMethod ({ cls := "LevelForests", name := "searchOut", desc := "(II)Z" } : Jvm.MethodName)) ∈ lw_all := lw_g (lw_at lw_m0 87 rfl) rfl
theorem q104 : (Jvm.Cond.code ({ cls := "LevelForests", name := "searchOut", desc := "(II)Z" } : Jvm.MethodName) prog_1_method_22_code (5 : Nat) (Option.some Jvm.ClassFile.FieldType.boolean)) ∈ lw_all := lw_g (lw_at lw_m0 88 rfl) rfl
theorem q107 : (Jvm.Cond.instanceMethod ({ cls := "LevelForests", name := "part", desc := "(I)I" } : Jvm.MethodName)) ∈ lw_all := lw_g (lw_at lw_m0 91 rfl) rfl
theorem q108 : (Jvm.Cond.selects "LevelForests" ({ cls := "LevelForests", name := "part", desc := "(I)I" } : Jvm.MethodName) ({ cls := "LevelForests", name := "part", desc := "(I)I" } : Jvm.MethodName)) ∈ lw_all := lw_g (lw_at lw_m0 92 rfl) rfl
theorem q109 : (Jvm.Cond.code ({ cls := "LevelForests", name := "part", desc := "(I)I" } : Jvm.MethodName) prog_1_method_5_code (2 : Nat) (Option.some Jvm.ClassFile.FieldType.int)) ∈ lw_all := lw_g (lw_at lw_m0 93 rfl) rfl
theorem q111 : (Jvm.Cond.instanceMethod ({ cls := "LevelForests", name := "parts", desc := "()I" } : Jvm.MethodName)) ∈ lw_all := lw_g (lw_at lw_m0 95 rfl) rfl
theorem q112 : (Jvm.Cond.selects "LevelForests" ({ cls := "LevelForests", name := "parts", desc := "()I" } : Jvm.MethodName) ({ cls := "LevelForests", name := "parts", desc := "()I" } : Jvm.MethodName)) ∈ lw_all := lw_g (lw_at lw_m0 96 rfl) rfl
theorem q113 : (Jvm.Cond.code ({ cls := "LevelForests", name := "parts", desc := "()I" } : Jvm.MethodName) prog_1_method_6_code (1 : Nat) (Option.some Jvm.ClassFile.FieldType.int)) ∈ lw_all := lw_g (lw_at lw_m0 97 rfl) rfl
theorem q116 : (Jvm.Cond.instanceMethod ({ cls := "LevelForests", name := "isBridge", desc := "(II)Z" } : Jvm.MethodName)) ∈ lw_all := lw_g (lw_at lw_m0 100 rfl) rfl
theorem q117 : (Jvm.Cond.selects "LevelForests" ({ cls := "LevelForests", name := "isBridge", desc := "(II)Z" } : Jvm.MethodName) ({ cls := "LevelForests", name := "isBridge", desc := "(II)Z" } : Jvm.MethodName)) ∈ lw_all := lw_g (lw_at lw_m0 101 rfl) rfl
theorem q118 : (Jvm.Cond.code ({ cls := "LevelForests", name := "isBridge", desc := "(II)Z" } : Jvm.MethodName) prog_1_method_8_code (8 : Nat) (Option.some Jvm.ClassFile.FieldType.boolean)) ∈ lw_all := lw_g (lw_at lw_m0 102 rfl) rfl
theorem q120 : (Jvm.Cond.instanceMethod ({ cls := "LevelForests", name := "edges", desc := "()I" } : Jvm.MethodName)) ∈ lw_all := lw_g (lw_at lw_m0 104 rfl) rfl
theorem q121 : (Jvm.Cond.selects "LevelForests" ({ cls := "LevelForests", name := "edges", desc := "()I" } : Jvm.MethodName) ({ cls := "LevelForests", name := "edges", desc := "()I" } : Jvm.MethodName)) ∈ lw_all := lw_g (lw_at lw_m0 105 rfl) rfl
theorem q122 : (Jvm.Cond.code ({ cls := "LevelForests", name := "edges", desc := "()I" } : Jvm.MethodName) prog_1_method_9_code (1 : Nat) (Option.some Jvm.ClassFile.FieldType.int)) ∈ lw_all := lw_g (lw_at lw_m0 106 rfl) rfl
theorem q124 : (Jvm.Cond.instanceMethod ({ cls := "LevelForests", name := "spare", desc := "()I" } : Jvm.MethodName)) ∈ lw_all := lw_g (lw_at lw_m0 108 rfl) rfl
theorem q125 : (Jvm.Cond.selects "LevelForests" ({ cls := "LevelForests", name := "spare", desc := "()I" } : Jvm.MethodName) ({ cls := "LevelForests", name := "spare", desc := "()I" } : Jvm.MethodName)) ∈ lw_all := lw_g (lw_at lw_m0 109 rfl) rfl
theorem q126 : (Jvm.Cond.code ({ cls := "LevelForests", name := "spare", desc := "()I" } : Jvm.MethodName) prog_1_method_10_code (1 : Nat) (Option.some Jvm.ClassFile.FieldType.int)) ∈ lw_all := lw_g (lw_at lw_m0 110 rfl) rfl
theorem q128 : (Jvm.Cond.instanceMethod ({ cls := "LevelForests", name := "isolate", desc := "(I)I" } : Jvm.MethodName)) ∈ lw_all := lw_g (lw_at lw_m0 112 rfl) rfl
theorem q129 : (Jvm.Cond.selects "LevelForests" ({ cls := "LevelForests", name := "isolate", desc := "(I)I" } : Jvm.MethodName) ({ cls := "LevelForests", name := "isolate", desc := "(I)I" } : Jvm.MethodName)) ∈ lw_all := lw_g (lw_at lw_m0 113 rfl) rfl
theorem q130 : (Jvm.Cond.code ({ cls := "LevelForests", name := "isolate", desc := "(I)I" } : Jvm.MethodName) prog_1_method_11_code (4 : Nat) (Option.some Jvm.ClassFile.FieldType.int)) ∈ lw_all := lw_g (lw_at lw_m0 114 rfl) rfl
theorem q131 : (Jvm.Cond.methodLink "LevelForests" (61 : Nat) ({ cls := "LevelForests", name := "cut", desc := "(II)I" } : Jvm.MethodName)) ∈ lw_all := lw_g (lw_at lw_m0 115 rfl) rfl
theorem q133 : (Jvm.Cond.instanceMethod ({ cls := "LevelForests", name := "greatest", desc := "()I" } : Jvm.MethodName)) ∈ lw_all := lw_g (lw_at lw_m0 117 rfl) rfl
theorem q134 : (Jvm.Cond.selects "LevelForests" ({ cls := "LevelForests", name := "greatest", desc := "()I" } : Jvm.MethodName) ({ cls := "LevelForests", name := "greatest", desc := "()I" } : Jvm.MethodName)) ∈ lw_all := lw_g (lw_at lw_m0 118 rfl) rfl
theorem q135 : (Jvm.Cond.code ({ cls := "LevelForests", name := "greatest", desc := "()I" } : Jvm.MethodName) prog_1_method_12_code (6 : Nat) (Option.some Jvm.ClassFile.FieldType.int)) ∈ lw_all := lw_g (lw_at lw_m0 119 rfl) rfl
theorem in_X0 : ∀ w ∈ wsX00, w ∈ lw_all := lw_in wsX00 [33, 35, 37, 39, 41, 43] (by decide +kernel) (by decide +kernel)
end
section
/-! LevelForestsModel -/
set_option maxRecDepth 100000
def RX1 : String := "LevelForestsModel"
def TX1 : u_T := fun k => match k with
  | 0 => ("LevelForestsModel", "next", "[I", false)
  | _ => ("LevelForestsModel", "kept", "[I", false)
def tyX1 : Nat → FieldType := fun k => match k with
  | 0 => .array .int
  | _ => .array .int
abbrev wsX10 : List Cond := u_ws RX1 TX1 2
theorem nmX1 : ∀ a, a < 2 → ∀ b, b < 2 → a ≠ b → (TX1 a).2.1 ≠ (TX1 b).2.1 := by decide +kernel
theorem tyX1_ok : ∀ k, k < 2 → parseFieldDescriptor (TX1 k).2.2.1 = some (tyX1 k) := by decide +kernel
abbrev cX1_init : ByteArray := prog_3_method_1_code
def yX1_init : MethodName := ⟨RX1, "<init>", "()V"⟩
theorem dX1_init_0 : decode cX1_init 0 = .ok (.aload_n 0, 1) := by decide +kernel
theorem dX1_init_1 : decode cX1_init 1 = .ok (.invokespecial 1, 3) := by decide +kernel
theorem dX1_init_4 : decode cX1_init 4 = .ok (.aload_n 0, 1) := by decide +kernel
theorem dX1_init_5 : decode cX1_init 5 = .ok (.bipush 12, 2) := by decide +kernel
theorem dX1_init_7 : decode cX1_init 7 = .ok (.newarray .int, 2) := by decide +kernel
theorem dX1_init_9 : decode cX1_init 9 = .ok (.putfield 7, 3) := by decide +kernel
theorem dX1_init_12 : decode cX1_init 12 = .ok (.aload_n 0, 1) := by decide +kernel
theorem dX1_init_13 : decode cX1_init 13 = .ok (.bipush 12, 2) := by decide +kernel
theorem dX1_init_15 : decode cX1_init 15 = .ok (.newarray .int, 2) := by decide +kernel
theorem dX1_init_17 : decode cX1_init 17 = .ok (.putfield 13, 3) := by decide +kernel
theorem dX1_init_20 : decode cX1_init 20 = .ok (.return_, 1) := by decide +kernel
abbrev cX1_link : ByteArray := prog_3_method_8_code
def yX1_link : MethodName := ⟨RX1, "link", "(II)I"⟩
theorem dX1_link_0 : decode cX1_link 0 = .ok (.aload_n 0, 1) := by decide +kernel
theorem dX1_link_1 : decode cX1_link 1 = .ok (.iload_n 1, 1) := by decide +kernel
theorem dX1_link_2 : decode cX1_link 2 = .ok (.invokevirtual 20, 3) := by decide +kernel
theorem dX1_link_5 : decode cX1_link 5 = .ok (.ifCond .eq 16, 3) := by decide +kernel
theorem dX1_link_8 : decode cX1_link 8 = .ok (.aload_n 0, 1) := by decide +kernel
theorem dX1_link_9 : decode cX1_link 9 = .ok (.iload_n 2, 1) := by decide +kernel
theorem dX1_link_10 : decode cX1_link 10 = .ok (.invokevirtual 20, 3) := by decide +kernel
theorem dX1_link_13 : decode cX1_link 13 = .ok (.ifCond .eq 8, 3) := by decide +kernel
theorem dX1_link_16 : decode cX1_link 16 = .ok (.iload_n 1, 1) := by decide +kernel
theorem dX1_link_17 : decode cX1_link 17 = .ok (.iload_n 2, 1) := by decide +kernel
theorem dX1_link_18 : decode cX1_link 18 = .ok (.if_icmp .ne 5, 3) := by decide +kernel
theorem dX1_link_21 : decode cX1_link 21 = .ok (.iconst (-1), 1) := by decide +kernel
theorem dX1_link_22 : decode cX1_link 22 = .ok (.ireturn, 1) := by decide +kernel
theorem dX1_link_23 : decode cX1_link 23 = .ok (.aload_n 0, 1) := by decide +kernel
theorem dX1_link_24 : decode cX1_link 24 = .ok (.aload_n 0, 1) := by decide +kernel
theorem dX1_link_25 : decode cX1_link 25 = .ok (.getfield 7, 3) := by decide +kernel
theorem dX1_link_28 : decode cX1_link 28 = .ok (.iload_n 1, 1) := by decide +kernel
theorem dX1_link_29 : decode cX1_link 29 = .ok (.iaload, 1) := by decide +kernel
theorem dX1_link_30 : decode cX1_link 30 = .ok (.iload_n 2, 1) := by decide +kernel
theorem dX1_link_31 : decode cX1_link 31 = .ok (.invokevirtual 16, 3) := by decide +kernel
theorem dX1_link_34 : decode cX1_link 34 = .ok (.ifCond .eq 5, 3) := by decide +kernel
theorem dX1_link_37 : decode cX1_link 37 = .ok (.iconst 0, 1) := by decide +kernel
theorem dX1_link_38 : decode cX1_link 38 = .ok (.ireturn, 1) := by decide +kernel
theorem dX1_link_39 : decode cX1_link 39 = .ok (.aload_n 0, 1) := by decide +kernel
theorem dX1_link_40 : decode cX1_link 40 = .ok (.invokevirtual 24, 3) := by decide +kernel
theorem dX1_link_43 : decode cX1_link 43 = .ok (.bipush 30, 2) := by decide +kernel
theorem dX1_link_45 : decode cX1_link 45 = .ok (.if_icmp .ne 6, 3) := by decide +kernel
theorem dX1_link_48 : decode cX1_link 48 = .ok (.bipush (-2), 2) := by decide +kernel
theorem dX1_link_50 : decode cX1_link 50 = .ok (.ireturn, 1) := by decide +kernel
theorem dX1_link_51 : decode cX1_link 51 = .ok (.aload_n 0, 1) := by decide +kernel
theorem dX1_link_52 : decode cX1_link 52 = .ok (.iload_n 1, 1) := by decide +kernel
theorem dX1_link_53 : decode cX1_link 53 = .ok (.iload_n 2, 1) := by decide +kernel
theorem dX1_link_54 : decode cX1_link 54 = .ok (.invokevirtual 28, 3) := by decide +kernel
theorem dX1_link_57 : decode cX1_link 57 = .ok (.istore_n 3, 1) := by decide +kernel
theorem dX1_link_58 : decode cX1_link 58 = .ok (.aload_n 0, 1) := by decide +kernel
theorem dX1_link_59 : decode cX1_link 59 = .ok (.iload_n 1, 1) := by decide +kernel
theorem dX1_link_60 : decode cX1_link 60 = .ok (.iload_n 2, 1) := by decide +kernel
theorem dX1_link_61 : decode cX1_link 61 = .ok (.invokevirtual 31, 3) := by decide +kernel
theorem dX1_link_64 : decode cX1_link 64 = .ok (.iload_n 3, 1) := by decide +kernel
theorem dX1_link_65 : decode cX1_link 65 = .ok (.ifCond .eq 7, 3) := by decide +kernel
theorem dX1_link_68 : decode cX1_link 68 = .ok (.iconst 1, 1) := by decide +kernel
theorem dX1_link_69 : decode cX1_link 69 = .ok (.goto 4, 3) := by decide +kernel
theorem dX1_link_72 : decode cX1_link 72 = .ok (.iconst 2, 1) := by decide +kernel
theorem dX1_link_73 : decode cX1_link 73 = .ok (.ireturn, 1) := by decide +kernel
abbrev cX1_isPoint : ByteArray := prog_3_method_2_code
def yX1_isPoint : MethodName := ⟨RX1, "isPoint", "(I)Z"⟩
theorem dX1_isPoint_0 : decode cX1_isPoint 0 = .ok (.iload_n 1, 1) := by decide +kernel
theorem dX1_isPoint_1 : decode cX1_isPoint 1 = .ok (.ifCond .lt 13, 3) := by decide +kernel
theorem dX1_isPoint_4 : decode cX1_isPoint 4 = .ok (.iload_n 1, 1) := by decide +kernel
theorem dX1_isPoint_5 : decode cX1_isPoint 5 = .ok (.bipush 11, 2) := by decide +kernel
theorem dX1_isPoint_7 : decode cX1_isPoint 7 = .ok (.if_icmp .gt 7, 3) := by decide +kernel
theorem dX1_isPoint_10 : decode cX1_isPoint 10 = .ok (.iconst 1, 1) := by decide +kernel
theorem dX1_isPoint_11 : decode cX1_isPoint 11 = .ok (.goto 4, 3) := by decide +kernel
theorem dX1_isPoint_14 : decode cX1_isPoint 14 = .ok (.iconst 0, 1) := by decide +kernel
theorem dX1_isPoint_15 : decode cX1_isPoint 15 = .ok (.ireturn, 1) := by decide +kernel
abbrev cX1_in : ByteArray := prog_3_method_3_code
def yX1_in : MethodName := ⟨RX1, "in", "(II)Z"⟩
theorem dX1_in_0 : decode cX1_in 0 = .ok (.iload_n 1, 1) := by decide +kernel
theorem dX1_in_1 : decode cX1_in 1 = .ok (.iload_n 2, 1) := by decide +kernel
theorem dX1_in_2 : decode cX1_in 2 = .ok (.ishr, 1) := by decide +kernel
theorem dX1_in_3 : decode cX1_in 3 = .ok (.iconst 1, 1) := by decide +kernel
theorem dX1_in_4 : decode cX1_in 4 = .ok (.iand, 1) := by decide +kernel
theorem dX1_in_5 : decode cX1_in 5 = .ok (.iconst 1, 1) := by decide +kernel
theorem dX1_in_6 : decode cX1_in 6 = .ok (.if_icmp .ne 7, 3) := by decide +kernel
theorem dX1_in_9 : decode cX1_in 9 = .ok (.iconst 1, 1) := by decide +kernel
theorem dX1_in_10 : decode cX1_in 10 = .ok (.goto 4, 3) := by decide +kernel
theorem dX1_in_13 : decode cX1_in 13 = .ok (.iconst 0, 1) := by decide +kernel
theorem dX1_in_14 : decode cX1_in 14 = .ok (.ireturn, 1) := by decide +kernel
abbrev cX1_edges : ByteArray := prog_3_method_15_code
def yX1_edges : MethodName := ⟨RX1, "edges", "()I"⟩
theorem dX1_edges_0 : decode cX1_edges 0 = .ok (.iconst 0, 1) := by decide +kernel
theorem dX1_edges_1 : decode cX1_edges 1 = .ok (.istore_n 1, 1) := by decide +kernel
theorem dX1_edges_2 : decode cX1_edges 2 = .ok (.iconst 0, 1) := by decide +kernel
theorem dX1_edges_3 : decode cX1_edges 3 = .ok (.istore_n 2, 1) := by decide +kernel
theorem dX1_edges_4 : decode cX1_edges 4 = .ok (.iload_n 2, 1) := by decide +kernel
theorem dX1_edges_5 : decode cX1_edges 5 = .ok (.bipush 12, 2) := by decide +kernel
theorem dX1_edges_7 : decode cX1_edges 7 = .ok (.if_icmp .ge 22, 3) := by decide +kernel
theorem dX1_edges_10 : decode cX1_edges 10 = .ok (.iload_n 1, 1) := by decide +kernel
theorem dX1_edges_11 : decode cX1_edges 11 = .ok (.aload_n 0, 1) := by decide +kernel
theorem dX1_edges_12 : decode cX1_edges 12 = .ok (.aload_n 0, 1) := by decide +kernel
theorem dX1_edges_13 : decode cX1_edges 13 = .ok (.getfield 7, 3) := by decide +kernel
theorem dX1_edges_16 : decode cX1_edges 16 = .ok (.iload_n 2, 1) := by decide +kernel
theorem dX1_edges_17 : decode cX1_edges 17 = .ok (.iaload, 1) := by decide +kernel
theorem dX1_edges_18 : decode cX1_edges 18 = .ok (.invokevirtual 45, 3) := by decide +kernel
theorem dX1_edges_21 : decode cX1_edges 21 = .ok (.iadd, 1) := by decide +kernel
theorem dX1_edges_22 : decode cX1_edges 22 = .ok (.istore_n 1, 1) := by decide +kernel
theorem dX1_edges_23 : decode cX1_edges 23 = .ok (.iinc 2 1, 3) := by decide +kernel
theorem dX1_edges_26 : decode cX1_edges 26 = .ok (.goto (-22), 3) := by decide +kernel
theorem dX1_edges_29 : decode cX1_edges 29 = .ok (.iload_n 1, 1) := by decide +kernel
theorem dX1_edges_30 : decode cX1_edges 30 = .ok (.iconst 2, 1) := by decide +kernel
theorem dX1_edges_31 : decode cX1_edges 31 = .ok (.idiv, 1) := by decide +kernel
theorem dX1_edges_32 : decode cX1_edges 32 = .ok (.ireturn, 1) := by decide +kernel
abbrev cX1_sizeOf : ByteArray := prog_3_method_4_code
def yX1_sizeOf : MethodName := ⟨RX1, "sizeOf", "(I)I"⟩
theorem dX1_sizeOf_0 : decode cX1_sizeOf 0 = .ok (.iconst 0, 1) := by decide +kernel
theorem dX1_sizeOf_1 : decode cX1_sizeOf 1 = .ok (.istore_n 2, 1) := by decide +kernel
theorem dX1_sizeOf_2 : decode cX1_sizeOf 2 = .ok (.iconst 0, 1) := by decide +kernel
theorem dX1_sizeOf_3 : decode cX1_sizeOf 3 = .ok (.istore_n 3, 1) := by decide +kernel
theorem dX1_sizeOf_4 : decode cX1_sizeOf 4 = .ok (.iload_n 3, 1) := by decide +kernel
theorem dX1_sizeOf_5 : decode cX1_sizeOf 5 = .ok (.bipush 12, 2) := by decide +kernel
theorem dX1_sizeOf_7 : decode cX1_sizeOf 7 = .ok (.if_icmp .ge 21, 3) := by decide +kernel
theorem dX1_sizeOf_10 : decode cX1_sizeOf 10 = .ok (.aload_n 0, 1) := by decide +kernel
theorem dX1_sizeOf_11 : decode cX1_sizeOf 11 = .ok (.iload_n 1, 1) := by decide +kernel
theorem dX1_sizeOf_12 : decode cX1_sizeOf 12 = .ok (.iload_n 3, 1) := by decide +kernel
theorem dX1_sizeOf_13 : decode cX1_sizeOf 13 = .ok (.invokevirtual 16, 3) := by decide +kernel
theorem dX1_sizeOf_16 : decode cX1_sizeOf 16 = .ok (.ifCond .eq 6, 3) := by decide +kernel
theorem dX1_sizeOf_19 : decode cX1_sizeOf 19 = .ok (.iinc 2 1, 3) := by decide +kernel
theorem dX1_sizeOf_22 : decode cX1_sizeOf 22 = .ok (.iinc 3 1, 3) := by decide +kernel
theorem dX1_sizeOf_25 : decode cX1_sizeOf 25 = .ok (.goto (-21), 3) := by decide +kernel
theorem dX1_sizeOf_28 : decode cX1_sizeOf 28 = .ok (.iload_n 2, 1) := by decide +kernel
theorem dX1_sizeOf_29 : decode cX1_sizeOf 29 = .ok (.ireturn, 1) := by decide +kernel
abbrev cX1_connected : ByteArray := prog_3_method_10_code
def yX1_connected : MethodName := ⟨RX1, "connected", "(II)Z"⟩
theorem dX1_connected_0 : decode cX1_connected 0 = .ok (.aload_n 0, 1) := by decide +kernel
theorem dX1_connected_1 : decode cX1_connected 1 = .ok (.iload_n 1, 1) := by decide +kernel
theorem dX1_connected_2 : decode cX1_connected 2 = .ok (.invokevirtual 20, 3) := by decide +kernel
theorem dX1_connected_5 : decode cX1_connected 5 = .ok (.ifCond .eq 11, 3) := by decide +kernel
theorem dX1_connected_8 : decode cX1_connected 8 = .ok (.aload_n 0, 1) := by decide +kernel
theorem dX1_connected_9 : decode cX1_connected 9 = .ok (.iload_n 2, 1) := by decide +kernel
theorem dX1_connected_10 : decode cX1_connected 10 = .ok (.invokevirtual 20, 3) := by decide +kernel
theorem dX1_connected_13 : decode cX1_connected 13 = .ok (.ifCond .ne 5, 3) := by decide +kernel
theorem dX1_connected_16 : decode cX1_connected 16 = .ok (.iconst 0, 1) := by decide +kernel
theorem dX1_connected_17 : decode cX1_connected 17 = .ok (.ireturn, 1) := by decide +kernel
theorem dX1_connected_18 : decode cX1_connected 18 = .ok (.aload_n 0, 1) := by decide +kernel
theorem dX1_connected_19 : decode cX1_connected 19 = .ok (.iload_n 1, 1) := by decide +kernel
theorem dX1_connected_20 : decode cX1_connected 20 = .ok (.invokevirtual 38, 3) := by decide +kernel
theorem dX1_connected_23 : decode cX1_connected 23 = .ok (.istore_n 3, 1) := by decide +kernel
theorem dX1_connected_24 : decode cX1_connected 24 = .ok (.aload_n 0, 1) := by decide +kernel
theorem dX1_connected_25 : decode cX1_connected 25 = .ok (.iload_n 3, 1) := by decide +kernel
theorem dX1_connected_26 : decode cX1_connected 26 = .ok (.iload_n 2, 1) := by decide +kernel
theorem dX1_connected_27 : decode cX1_connected 27 = .ok (.invokevirtual 16, 3) := by decide +kernel
theorem dX1_connected_30 : decode cX1_connected 30 = .ok (.ireturn, 1) := by decide +kernel
abbrev cX1_walk : ByteArray := prog_3_method_5_code
def yX1_walk : MethodName := ⟨RX1, "walk", "(I)I"⟩
theorem dX1_walk_0 : decode cX1_walk 0 = .ok (.iconst 1, 1) := by decide +kernel
theorem dX1_walk_1 : decode cX1_walk 1 = .ok (.iload_n 1, 1) := by decide +kernel
theorem dX1_walk_2 : decode cX1_walk 2 = .ok (.ishl, 1) := by decide +kernel
theorem dX1_walk_3 : decode cX1_walk 3 = .ok (.istore_n 2, 1) := by decide +kernel
theorem dX1_walk_4 : decode cX1_walk 4 = .ok (.iconst 0, 1) := by decide +kernel
theorem dX1_walk_5 : decode cX1_walk 5 = .ok (.istore_n 3, 1) := by decide +kernel
theorem dX1_walk_6 : decode cX1_walk 6 = .ok (.iload_n 3, 1) := by decide +kernel
theorem dX1_walk_7 : decode cX1_walk 7 = .ok (.bipush 12, 2) := by decide +kernel
theorem dX1_walk_9 : decode cX1_walk 9 = .ok (.if_icmp .ge 45, 3) := by decide +kernel
theorem dX1_walk_12 : decode cX1_walk 12 = .ok (.iconst 0, 1) := by decide +kernel
theorem dX1_walk_13 : decode cX1_walk 13 = .ok (.istore 4, 2) := by decide +kernel
theorem dX1_walk_15 : decode cX1_walk 15 = .ok (.iload 4, 2) := by decide +kernel
theorem dX1_walk_17 : decode cX1_walk 17 = .ok (.bipush 12, 2) := by decide +kernel
theorem dX1_walk_19 : decode cX1_walk 19 = .ok (.if_icmp .ge 29, 3) := by decide +kernel
theorem dX1_walk_22 : decode cX1_walk 22 = .ok (.aload_n 0, 1) := by decide +kernel
theorem dX1_walk_23 : decode cX1_walk 23 = .ok (.iload_n 2, 1) := by decide +kernel
theorem dX1_walk_24 : decode cX1_walk 24 = .ok (.iload 4, 2) := by decide +kernel
theorem dX1_walk_26 : decode cX1_walk 26 = .ok (.invokevirtual 16, 3) := by decide +kernel
theorem dX1_walk_29 : decode cX1_walk 29 = .ok (.ifCond .eq 13, 3) := by decide +kernel
theorem dX1_walk_32 : decode cX1_walk 32 = .ok (.iload_n 2, 1) := by decide +kernel
theorem dX1_walk_33 : decode cX1_walk 33 = .ok (.aload_n 0, 1) := by decide +kernel
theorem dX1_walk_34 : decode cX1_walk 34 = .ok (.getfield 7, 3) := by decide +kernel
theorem dX1_walk_37 : decode cX1_walk 37 = .ok (.iload 4, 2) := by decide +kernel
theorem dX1_walk_39 : decode cX1_walk 39 = .ok (.iaload, 1) := by decide +kernel
theorem dX1_walk_40 : decode cX1_walk 40 = .ok (.ior, 1) := by decide +kernel
theorem dX1_walk_41 : decode cX1_walk 41 = .ok (.istore_n 2, 1) := by decide +kernel
theorem dX1_walk_42 : decode cX1_walk 42 = .ok (.iinc 4 1, 3) := by decide +kernel
theorem dX1_walk_45 : decode cX1_walk 45 = .ok (.goto (-30), 3) := by decide +kernel
theorem dX1_walk_48 : decode cX1_walk 48 = .ok (.iinc 3 1, 3) := by decide +kernel
theorem dX1_walk_51 : decode cX1_walk 51 = .ok (.goto (-45), 3) := by decide +kernel
theorem dX1_walk_54 : decode cX1_walk 54 = .ok (.iload_n 2, 1) := by decide +kernel
theorem dX1_walk_55 : decode cX1_walk 55 = .ok (.ireturn, 1) := by decide +kernel
abbrev cX1_put : ByteArray := prog_3_method_6_code
def yX1_put : MethodName := ⟨RX1, "put", "(II)V"⟩
theorem dX1_put_0 : decode cX1_put 0 = .ok (.aload_n 0, 1) := by decide +kernel
theorem dX1_put_1 : decode cX1_put 1 = .ok (.getfield 7, 3) := by decide +kernel
theorem dX1_put_4 : decode cX1_put 4 = .ok (.iload_n 1, 1) := by decide +kernel
theorem dX1_put_5 : decode cX1_put 5 = .ok (.aload_n 0, 1) := by decide +kernel
theorem dX1_put_6 : decode cX1_put 6 = .ok (.getfield 7, 3) := by decide +kernel
theorem dX1_put_9 : decode cX1_put 9 = .ok (.iload_n 1, 1) := by decide +kernel
theorem dX1_put_10 : decode cX1_put 10 = .ok (.iaload, 1) := by decide +kernel
theorem dX1_put_11 : decode cX1_put 11 = .ok (.iconst 1, 1) := by decide +kernel
theorem dX1_put_12 : decode cX1_put 12 = .ok (.iload_n 2, 1) := by decide +kernel
theorem dX1_put_13 : decode cX1_put 13 = .ok (.ishl, 1) := by decide +kernel
theorem dX1_put_14 : decode cX1_put 14 = .ok (.ior, 1) := by decide +kernel
theorem dX1_put_15 : decode cX1_put 15 = .ok (.iastore, 1) := by decide +kernel
theorem dX1_put_16 : decode cX1_put 16 = .ok (.aload_n 0, 1) := by decide +kernel
theorem dX1_put_17 : decode cX1_put 17 = .ok (.getfield 7, 3) := by decide +kernel
theorem dX1_put_20 : decode cX1_put 20 = .ok (.iload_n 2, 1) := by decide +kernel
theorem dX1_put_21 : decode cX1_put 21 = .ok (.aload_n 0, 1) := by decide +kernel
theorem dX1_put_22 : decode cX1_put 22 = .ok (.getfield 7, 3) := by decide +kernel
theorem dX1_put_25 : decode cX1_put 25 = .ok (.iload_n 2, 1) := by decide +kernel
theorem dX1_put_26 : decode cX1_put 26 = .ok (.iaload, 1) := by decide +kernel
theorem dX1_put_27 : decode cX1_put 27 = .ok (.iconst 1, 1) := by decide +kernel
theorem dX1_put_28 : decode cX1_put 28 = .ok (.iload_n 1, 1) := by decide +kernel
theorem dX1_put_29 : decode cX1_put 29 = .ok (.ishl, 1) := by decide +kernel
theorem dX1_put_30 : decode cX1_put 30 = .ok (.ior, 1) := by decide +kernel
theorem dX1_put_31 : decode cX1_put 31 = .ok (.iastore, 1) := by decide +kernel
theorem dX1_put_32 : decode cX1_put 32 = .ok (.return_, 1) := by decide +kernel
abbrev cX1_cut : ByteArray := prog_3_method_9_code
def yX1_cut : MethodName := ⟨RX1, "cut", "(II)I"⟩
theorem dX1_cut_0 : decode cX1_cut 0 = .ok (.aload_n 0, 1) := by decide +kernel
theorem dX1_cut_1 : decode cX1_cut 1 = .ok (.iload_n 1, 1) := by decide +kernel
theorem dX1_cut_2 : decode cX1_cut 2 = .ok (.invokevirtual 20, 3) := by decide +kernel
theorem dX1_cut_5 : decode cX1_cut 5 = .ok (.ifCond .eq 16, 3) := by decide +kernel
theorem dX1_cut_8 : decode cX1_cut 8 = .ok (.aload_n 0, 1) := by decide +kernel
theorem dX1_cut_9 : decode cX1_cut 9 = .ok (.iload_n 2, 1) := by decide +kernel
theorem dX1_cut_10 : decode cX1_cut 10 = .ok (.invokevirtual 20, 3) := by decide +kernel
theorem dX1_cut_13 : decode cX1_cut 13 = .ok (.ifCond .eq 8, 3) := by decide +kernel
theorem dX1_cut_16 : decode cX1_cut 16 = .ok (.iload_n 1, 1) := by decide +kernel
theorem dX1_cut_17 : decode cX1_cut 17 = .ok (.iload_n 2, 1) := by decide +kernel
theorem dX1_cut_18 : decode cX1_cut 18 = .ok (.if_icmp .ne 5, 3) := by decide +kernel
theorem dX1_cut_21 : decode cX1_cut 21 = .ok (.iconst (-1), 1) := by decide +kernel
theorem dX1_cut_22 : decode cX1_cut 22 = .ok (.ireturn, 1) := by decide +kernel
theorem dX1_cut_23 : decode cX1_cut 23 = .ok (.aload_n 0, 1) := by decide +kernel
theorem dX1_cut_24 : decode cX1_cut 24 = .ok (.aload_n 0, 1) := by decide +kernel
theorem dX1_cut_25 : decode cX1_cut 25 = .ok (.getfield 7, 3) := by decide +kernel
theorem dX1_cut_28 : decode cX1_cut 28 = .ok (.iload_n 1, 1) := by decide +kernel
theorem dX1_cut_29 : decode cX1_cut 29 = .ok (.iaload, 1) := by decide +kernel
theorem dX1_cut_30 : decode cX1_cut 30 = .ok (.iload_n 2, 1) := by decide +kernel
theorem dX1_cut_31 : decode cX1_cut 31 = .ok (.invokevirtual 16, 3) := by decide +kernel
theorem dX1_cut_34 : decode cX1_cut 34 = .ok (.ifCond .ne 5, 3) := by decide +kernel
theorem dX1_cut_37 : decode cX1_cut 37 = .ok (.iconst 0, 1) := by decide +kernel
theorem dX1_cut_38 : decode cX1_cut 38 = .ok (.ireturn, 1) := by decide +kernel
theorem dX1_cut_39 : decode cX1_cut 39 = .ok (.aload_n 0, 1) := by decide +kernel
theorem dX1_cut_40 : decode cX1_cut 40 = .ok (.iload_n 1, 1) := by decide +kernel
theorem dX1_cut_41 : decode cX1_cut 41 = .ok (.iload_n 2, 1) := by decide +kernel
theorem dX1_cut_42 : decode cX1_cut 42 = .ok (.invokevirtual 35, 3) := by decide +kernel
theorem dX1_cut_45 : decode cX1_cut 45 = .ok (.aload_n 0, 1) := by decide +kernel
theorem dX1_cut_46 : decode cX1_cut 46 = .ok (.iload_n 1, 1) := by decide +kernel
theorem dX1_cut_47 : decode cX1_cut 47 = .ok (.iload_n 2, 1) := by decide +kernel
theorem dX1_cut_48 : decode cX1_cut 48 = .ok (.invokevirtual 28, 3) := by decide +kernel
theorem dX1_cut_51 : decode cX1_cut 51 = .ok (.ifCond .eq 7, 3) := by decide +kernel
theorem dX1_cut_54 : decode cX1_cut 54 = .ok (.iconst 1, 1) := by decide +kernel
theorem dX1_cut_55 : decode cX1_cut 55 = .ok (.goto 4, 3) := by decide +kernel
theorem dX1_cut_58 : decode cX1_cut 58 = .ok (.iconst 2, 1) := by decide +kernel
theorem dX1_cut_59 : decode cX1_cut 59 = .ok (.ireturn, 1) := by decide +kernel
abbrev cX1_take : ByteArray := prog_3_method_7_code
def yX1_take : MethodName := ⟨RX1, "take", "(II)V"⟩
theorem dX1_take_0 : decode cX1_take 0 = .ok (.aload_n 0, 1) := by decide +kernel
theorem dX1_take_1 : decode cX1_take 1 = .ok (.getfield 7, 3) := by decide +kernel
theorem dX1_take_4 : decode cX1_take 4 = .ok (.iload_n 1, 1) := by decide +kernel
theorem dX1_take_5 : decode cX1_take 5 = .ok (.aload_n 0, 1) := by decide +kernel
theorem dX1_take_6 : decode cX1_take 6 = .ok (.getfield 7, 3) := by decide +kernel
theorem dX1_take_9 : decode cX1_take 9 = .ok (.iload_n 1, 1) := by decide +kernel
theorem dX1_take_10 : decode cX1_take 10 = .ok (.iaload, 1) := by decide +kernel
theorem dX1_take_11 : decode cX1_take 11 = .ok (.iconst 1, 1) := by decide +kernel
theorem dX1_take_12 : decode cX1_take 12 = .ok (.iload_n 2, 1) := by decide +kernel
theorem dX1_take_13 : decode cX1_take 13 = .ok (.ishl, 1) := by decide +kernel
theorem dX1_take_14 : decode cX1_take 14 = .ok (.iconst (-1), 1) := by decide +kernel
theorem dX1_take_15 : decode cX1_take 15 = .ok (.ixor, 1) := by decide +kernel
theorem dX1_take_16 : decode cX1_take 16 = .ok (.iand, 1) := by decide +kernel
theorem dX1_take_17 : decode cX1_take 17 = .ok (.iastore, 1) := by decide +kernel
theorem dX1_take_18 : decode cX1_take 18 = .ok (.aload_n 0, 1) := by decide +kernel
theorem dX1_take_19 : decode cX1_take 19 = .ok (.getfield 7, 3) := by decide +kernel
theorem dX1_take_22 : decode cX1_take 22 = .ok (.iload_n 2, 1) := by decide +kernel
theorem dX1_take_23 : decode cX1_take 23 = .ok (.aload_n 0, 1) := by decide +kernel
theorem dX1_take_24 : decode cX1_take 24 = .ok (.getfield 7, 3) := by decide +kernel
theorem dX1_take_27 : decode cX1_take 27 = .ok (.iload_n 2, 1) := by decide +kernel
theorem dX1_take_28 : decode cX1_take 28 = .ok (.iaload, 1) := by decide +kernel
theorem dX1_take_29 : decode cX1_take 29 = .ok (.iconst 1, 1) := by decide +kernel
theorem dX1_take_30 : decode cX1_take 30 = .ok (.iload_n 1, 1) := by decide +kernel
theorem dX1_take_31 : decode cX1_take 31 = .ok (.ishl, 1) := by decide +kernel
theorem dX1_take_32 : decode cX1_take 32 = .ok (.iconst (-1), 1) := by decide +kernel
theorem dX1_take_33 : decode cX1_take 33 = .ok (.ixor, 1) := by decide +kernel
theorem dX1_take_34 : decode cX1_take 34 = .ok (.iand, 1) := by decide +kernel
theorem dX1_take_35 : decode cX1_take 35 = .ok (.iastore, 1) := by decide +kernel
theorem dX1_take_36 : decode cX1_take 36 = .ok (.return_, 1) := by decide +kernel
abbrev cX1_part : ByteArray := prog_3_method_11_code
def yX1_part : MethodName := ⟨RX1, "part", "(I)I"⟩
theorem dX1_part_0 : decode cX1_part 0 = .ok (.aload_n 0, 1) := by decide +kernel
theorem dX1_part_1 : decode cX1_part 1 = .ok (.iload_n 1, 1) := by decide +kernel
theorem dX1_part_2 : decode cX1_part 2 = .ok (.invokevirtual 20, 3) := by decide +kernel
theorem dX1_part_5 : decode cX1_part 5 = .ok (.ifCond .eq 11, 3) := by decide +kernel
theorem dX1_part_8 : decode cX1_part 8 = .ok (.aload_n 0, 1) := by decide +kernel
theorem dX1_part_9 : decode cX1_part 9 = .ok (.iload_n 1, 1) := by decide +kernel
theorem dX1_part_10 : decode cX1_part 10 = .ok (.invokevirtual 38, 3) := by decide +kernel
theorem dX1_part_13 : decode cX1_part 13 = .ok (.goto 4, 3) := by decide +kernel
theorem dX1_part_16 : decode cX1_part 16 = .ok (.iconst (-1), 1) := by decide +kernel
theorem dX1_part_17 : decode cX1_part 17 = .ok (.ireturn, 1) := by decide +kernel
abbrev cX1_parts : ByteArray := prog_3_method_12_code
def yX1_parts : MethodName := ⟨RX1, "parts", "()I"⟩
theorem dX1_parts_0 : decode cX1_parts 0 = .ok (.iconst 0, 1) := by decide +kernel
theorem dX1_parts_1 : decode cX1_parts 1 = .ok (.istore_n 1, 1) := by decide +kernel
theorem dX1_parts_2 : decode cX1_parts 2 = .ok (.iconst 0, 1) := by decide +kernel
theorem dX1_parts_3 : decode cX1_parts 3 = .ok (.istore_n 2, 1) := by decide +kernel
theorem dX1_parts_4 : decode cX1_parts 4 = .ok (.iload_n 2, 1) := by decide +kernel
theorem dX1_parts_5 : decode cX1_parts 5 = .ok (.bipush 12, 2) := by decide +kernel
theorem dX1_parts_7 : decode cX1_parts 7 = .ok (.if_icmp .ge 28, 3) := by decide +kernel
theorem dX1_parts_10 : decode cX1_parts 10 = .ok (.aload_n 0, 1) := by decide +kernel
theorem dX1_parts_11 : decode cX1_parts 11 = .ok (.iload_n 2, 1) := by decide +kernel
theorem dX1_parts_12 : decode cX1_parts 12 = .ok (.invokevirtual 38, 3) := by decide +kernel
theorem dX1_parts_15 : decode cX1_parts 15 = .ok (.istore_n 3, 1) := by decide +kernel
theorem dX1_parts_16 : decode cX1_parts 16 = .ok (.iload_n 3, 1) := by decide +kernel
theorem dX1_parts_17 : decode cX1_parts 17 = .ok (.iconst 1, 1) := by decide +kernel
theorem dX1_parts_18 : decode cX1_parts 18 = .ok (.iload_n 2, 1) := by decide +kernel
theorem dX1_parts_19 : decode cX1_parts 19 = .ok (.ishl, 1) := by decide +kernel
theorem dX1_parts_20 : decode cX1_parts 20 = .ok (.iconst 1, 1) := by decide +kernel
theorem dX1_parts_21 : decode cX1_parts 21 = .ok (.isub, 1) := by decide +kernel
theorem dX1_parts_22 : decode cX1_parts 22 = .ok (.iand, 1) := by decide +kernel
theorem dX1_parts_23 : decode cX1_parts 23 = .ok (.ifCond .ne 6, 3) := by decide +kernel
theorem dX1_parts_26 : decode cX1_parts 26 = .ok (.iinc 1 1, 3) := by decide +kernel
theorem dX1_parts_29 : decode cX1_parts 29 = .ok (.iinc 2 1, 3) := by decide +kernel
theorem dX1_parts_32 : decode cX1_parts 32 = .ok (.goto (-28), 3) := by decide +kernel
theorem dX1_parts_35 : decode cX1_parts 35 = .ok (.iload_n 1, 1) := by decide +kernel
theorem dX1_parts_36 : decode cX1_parts 36 = .ok (.ireturn, 1) := by decide +kernel
abbrev cX1_isEdge : ByteArray := prog_3_method_13_code
def yX1_isEdge : MethodName := ⟨RX1, "isEdge", "(II)Z"⟩
theorem dX1_isEdge_0 : decode cX1_isEdge 0 = .ok (.aload_n 0, 1) := by decide +kernel
theorem dX1_isEdge_1 : decode cX1_isEdge 1 = .ok (.iload_n 1, 1) := by decide +kernel
theorem dX1_isEdge_2 : decode cX1_isEdge 2 = .ok (.invokevirtual 20, 3) := by decide +kernel
theorem dX1_isEdge_5 : decode cX1_isEdge 5 = .ok (.ifCond .eq 29, 3) := by decide +kernel
theorem dX1_isEdge_8 : decode cX1_isEdge 8 = .ok (.aload_n 0, 1) := by decide +kernel
theorem dX1_isEdge_9 : decode cX1_isEdge 9 = .ok (.iload_n 2, 1) := by decide +kernel
theorem dX1_isEdge_10 : decode cX1_isEdge 10 = .ok (.invokevirtual 20, 3) := by decide +kernel
theorem dX1_isEdge_13 : decode cX1_isEdge 13 = .ok (.ifCond .eq 21, 3) := by decide +kernel
theorem dX1_isEdge_16 : decode cX1_isEdge 16 = .ok (.aload_n 0, 1) := by decide +kernel
theorem dX1_isEdge_17 : decode cX1_isEdge 17 = .ok (.aload_n 0, 1) := by decide +kernel
theorem dX1_isEdge_18 : decode cX1_isEdge 18 = .ok (.getfield 7, 3) := by decide +kernel
theorem dX1_isEdge_21 : decode cX1_isEdge 21 = .ok (.iload_n 1, 1) := by decide +kernel
theorem dX1_isEdge_22 : decode cX1_isEdge 22 = .ok (.iaload, 1) := by decide +kernel
theorem dX1_isEdge_23 : decode cX1_isEdge 23 = .ok (.iload_n 2, 1) := by decide +kernel
theorem dX1_isEdge_24 : decode cX1_isEdge 24 = .ok (.invokevirtual 16, 3) := by decide +kernel
theorem dX1_isEdge_27 : decode cX1_isEdge 27 = .ok (.ifCond .eq 7, 3) := by decide +kernel
theorem dX1_isEdge_30 : decode cX1_isEdge 30 = .ok (.iconst 1, 1) := by decide +kernel
theorem dX1_isEdge_31 : decode cX1_isEdge 31 = .ok (.goto 4, 3) := by decide +kernel
theorem dX1_isEdge_34 : decode cX1_isEdge 34 = .ok (.iconst 0, 1) := by decide +kernel
theorem dX1_isEdge_35 : decode cX1_isEdge 35 = .ok (.ireturn, 1) := by decide +kernel
abbrev cX1_isBridge : ByteArray := prog_3_method_14_code
def yX1_isBridge : MethodName := ⟨RX1, "isBridge", "(II)Z"⟩
theorem dX1_isBridge_0 : decode cX1_isBridge 0 = .ok (.aload_n 0, 1) := by decide +kernel
theorem dX1_isBridge_1 : decode cX1_isBridge 1 = .ok (.iload_n 1, 1) := by decide +kernel
theorem dX1_isBridge_2 : decode cX1_isBridge 2 = .ok (.iload_n 2, 1) := by decide +kernel
theorem dX1_isBridge_3 : decode cX1_isBridge 3 = .ok (.invokevirtual 42, 3) := by decide +kernel
theorem dX1_isBridge_6 : decode cX1_isBridge 6 = .ok (.ifCond .ne 5, 3) := by decide +kernel
theorem dX1_isBridge_9 : decode cX1_isBridge 9 = .ok (.iconst 0, 1) := by decide +kernel
theorem dX1_isBridge_10 : decode cX1_isBridge 10 = .ok (.ireturn, 1) := by decide +kernel
theorem dX1_isBridge_11 : decode cX1_isBridge 11 = .ok (.aload_n 0, 1) := by decide +kernel
theorem dX1_isBridge_12 : decode cX1_isBridge 12 = .ok (.iload_n 1, 1) := by decide +kernel
theorem dX1_isBridge_13 : decode cX1_isBridge 13 = .ok (.iload_n 2, 1) := by decide +kernel
theorem dX1_isBridge_14 : decode cX1_isBridge 14 = .ok (.invokevirtual 35, 3) := by decide +kernel
theorem dX1_isBridge_17 : decode cX1_isBridge 17 = .ok (.aload_n 0, 1) := by decide +kernel
theorem dX1_isBridge_18 : decode cX1_isBridge 18 = .ok (.iload_n 1, 1) := by decide +kernel
theorem dX1_isBridge_19 : decode cX1_isBridge 19 = .ok (.iload_n 2, 1) := by decide +kernel
theorem dX1_isBridge_20 : decode cX1_isBridge 20 = .ok (.invokevirtual 28, 3) := by decide +kernel
theorem dX1_isBridge_23 : decode cX1_isBridge 23 = .ok (.ifCond .ne 7, 3) := by decide +kernel
theorem dX1_isBridge_26 : decode cX1_isBridge 26 = .ok (.iconst 1, 1) := by decide +kernel
theorem dX1_isBridge_27 : decode cX1_isBridge 27 = .ok (.goto 4, 3) := by decide +kernel
theorem dX1_isBridge_30 : decode cX1_isBridge 30 = .ok (.iconst 0, 1) := by decide +kernel
theorem dX1_isBridge_31 : decode cX1_isBridge 31 = .ok (.istore_n 3, 1) := by decide +kernel
theorem dX1_isBridge_32 : decode cX1_isBridge 32 = .ok (.aload_n 0, 1) := by decide +kernel
theorem dX1_isBridge_33 : decode cX1_isBridge 33 = .ok (.iload_n 1, 1) := by decide +kernel
theorem dX1_isBridge_34 : decode cX1_isBridge 34 = .ok (.iload_n 2, 1) := by decide +kernel
theorem dX1_isBridge_35 : decode cX1_isBridge 35 = .ok (.invokevirtual 31, 3) := by decide +kernel
theorem dX1_isBridge_38 : decode cX1_isBridge 38 = .ok (.iload_n 3, 1) := by decide +kernel
theorem dX1_isBridge_39 : decode cX1_isBridge 39 = .ok (.ireturn, 1) := by decide +kernel
abbrev cX1_spare : ByteArray := prog_3_method_16_code
def yX1_spare : MethodName := ⟨RX1, "spare", "()I"⟩
theorem dX1_spare_0 : decode cX1_spare 0 = .ok (.iconst 0, 1) := by decide +kernel
theorem dX1_spare_1 : decode cX1_spare 1 = .ok (.istore_n 1, 1) := by decide +kernel
theorem dX1_spare_2 : decode cX1_spare 2 = .ok (.iconst 0, 1) := by decide +kernel
theorem dX1_spare_3 : decode cX1_spare 3 = .ok (.istore_n 2, 1) := by decide +kernel
theorem dX1_spare_4 : decode cX1_spare 4 = .ok (.iload_n 2, 1) := by decide +kernel
theorem dX1_spare_5 : decode cX1_spare 5 = .ok (.bipush 12, 2) := by decide +kernel
theorem dX1_spare_7 : decode cX1_spare 7 = .ok (.if_icmp .ge 21, 3) := by decide +kernel
theorem dX1_spare_10 : decode cX1_spare 10 = .ok (.aload_n 0, 1) := by decide +kernel
theorem dX1_spare_11 : decode cX1_spare 11 = .ok (.getfield 13, 3) := by decide +kernel
theorem dX1_spare_14 : decode cX1_spare 14 = .ok (.iload_n 2, 1) := by decide +kernel
theorem dX1_spare_15 : decode cX1_spare 15 = .ok (.aload_n 0, 1) := by decide +kernel
theorem dX1_spare_16 : decode cX1_spare 16 = .ok (.getfield 7, 3) := by decide +kernel
theorem dX1_spare_19 : decode cX1_spare 19 = .ok (.iload_n 2, 1) := by decide +kernel
theorem dX1_spare_20 : decode cX1_spare 20 = .ok (.iaload, 1) := by decide +kernel
theorem dX1_spare_21 : decode cX1_spare 21 = .ok (.iastore, 1) := by decide +kernel
theorem dX1_spare_22 : decode cX1_spare 22 = .ok (.iinc 2 1, 3) := by decide +kernel
theorem dX1_spare_25 : decode cX1_spare 25 = .ok (.goto (-21), 3) := by decide +kernel
theorem dX1_spare_28 : decode cX1_spare 28 = .ok (.iconst 0, 1) := by decide +kernel
theorem dX1_spare_29 : decode cX1_spare 29 = .ok (.istore_n 2, 1) := by decide +kernel
theorem dX1_spare_30 : decode cX1_spare 30 = .ok (.iload_n 2, 1) := by decide +kernel
theorem dX1_spare_31 : decode cX1_spare 31 = .ok (.sipush 144, 3) := by decide +kernel
theorem dX1_spare_34 : decode cX1_spare 34 = .ok (.if_icmp .ge 54, 3) := by decide +kernel
theorem dX1_spare_37 : decode cX1_spare 37 = .ok (.aload_n 0, 1) := by decide +kernel
theorem dX1_spare_38 : decode cX1_spare 38 = .ok (.iload_n 2, 1) := by decide +kernel
theorem dX1_spare_39 : decode cX1_spare 39 = .ok (.bipush 12, 2) := by decide +kernel
theorem dX1_spare_41 : decode cX1_spare 41 = .ok (.idiv, 1) := by decide +kernel
theorem dX1_spare_42 : decode cX1_spare 42 = .ok (.iload_n 2, 1) := by decide +kernel
theorem dX1_spare_43 : decode cX1_spare 43 = .ok (.bipush 12, 2) := by decide +kernel
theorem dX1_spare_45 : decode cX1_spare 45 = .ok (.irem, 1) := by decide +kernel
theorem dX1_spare_46 : decode cX1_spare 46 = .ok (.invokevirtual 42, 3) := by decide +kernel
theorem dX1_spare_49 : decode cX1_spare 49 = .ok (.ifCond .eq 33, 3) := by decide +kernel
theorem dX1_spare_52 : decode cX1_spare 52 = .ok (.aload_n 0, 1) := by decide +kernel
theorem dX1_spare_53 : decode cX1_spare 53 = .ok (.iload_n 2, 1) := by decide +kernel
theorem dX1_spare_54 : decode cX1_spare 54 = .ok (.bipush 12, 2) := by decide +kernel
theorem dX1_spare_56 : decode cX1_spare 56 = .ok (.idiv, 1) := by decide +kernel
theorem dX1_spare_57 : decode cX1_spare 57 = .ok (.iload_n 2, 1) := by decide +kernel
theorem dX1_spare_58 : decode cX1_spare 58 = .ok (.bipush 12, 2) := by decide +kernel
theorem dX1_spare_60 : decode cX1_spare 60 = .ok (.irem, 1) := by decide +kernel
theorem dX1_spare_61 : decode cX1_spare 61 = .ok (.invokevirtual 48, 3) := by decide +kernel
theorem dX1_spare_64 : decode cX1_spare 64 = .ok (.ifCond .ne 18, 3) := by decide +kernel
theorem dX1_spare_67 : decode cX1_spare 67 = .ok (.aload_n 0, 1) := by decide +kernel
theorem dX1_spare_68 : decode cX1_spare 68 = .ok (.iload_n 2, 1) := by decide +kernel
theorem dX1_spare_69 : decode cX1_spare 69 = .ok (.bipush 12, 2) := by decide +kernel
theorem dX1_spare_71 : decode cX1_spare 71 = .ok (.idiv, 1) := by decide +kernel
theorem dX1_spare_72 : decode cX1_spare 72 = .ok (.iload_n 2, 1) := by decide +kernel
theorem dX1_spare_73 : decode cX1_spare 73 = .ok (.bipush 12, 2) := by decide +kernel
theorem dX1_spare_75 : decode cX1_spare 75 = .ok (.irem, 1) := by decide +kernel
theorem dX1_spare_76 : decode cX1_spare 76 = .ok (.invokevirtual 35, 3) := by decide +kernel
theorem dX1_spare_79 : decode cX1_spare 79 = .ok (.iinc 1 1, 3) := by decide +kernel
theorem dX1_spare_82 : decode cX1_spare 82 = .ok (.iinc 2 1, 3) := by decide +kernel
theorem dX1_spare_85 : decode cX1_spare 85 = .ok (.goto (-55), 3) := by decide +kernel
theorem dX1_spare_88 : decode cX1_spare 88 = .ok (.iconst 0, 1) := by decide +kernel
theorem dX1_spare_89 : decode cX1_spare 89 = .ok (.istore_n 2, 1) := by decide +kernel
theorem dX1_spare_90 : decode cX1_spare 90 = .ok (.iload_n 2, 1) := by decide +kernel
theorem dX1_spare_91 : decode cX1_spare 91 = .ok (.bipush 12, 2) := by decide +kernel
theorem dX1_spare_93 : decode cX1_spare 93 = .ok (.if_icmp .ge 21, 3) := by decide +kernel
theorem dX1_spare_96 : decode cX1_spare 96 = .ok (.aload_n 0, 1) := by decide +kernel
theorem dX1_spare_97 : decode cX1_spare 97 = .ok (.getfield 7, 3) := by decide +kernel
theorem dX1_spare_100 : decode cX1_spare 100 = .ok (.iload_n 2, 1) := by decide +kernel
theorem dX1_spare_101 : decode cX1_spare 101 = .ok (.aload_n 0, 1) := by decide +kernel
theorem dX1_spare_102 : decode cX1_spare 102 = .ok (.getfield 13, 3) := by decide +kernel
theorem dX1_spare_105 : decode cX1_spare 105 = .ok (.iload_n 2, 1) := by decide +kernel
theorem dX1_spare_106 : decode cX1_spare 106 = .ok (.iaload, 1) := by decide +kernel
theorem dX1_spare_107 : decode cX1_spare 107 = .ok (.iastore, 1) := by decide +kernel
theorem dX1_spare_108 : decode cX1_spare 108 = .ok (.iinc 2 1, 3) := by decide +kernel
theorem dX1_spare_111 : decode cX1_spare 111 = .ok (.goto (-21), 3) := by decide +kernel
theorem dX1_spare_114 : decode cX1_spare 114 = .ok (.iload_n 1, 1) := by decide +kernel
theorem dX1_spare_115 : decode cX1_spare 115 = .ok (.ireturn, 1) := by decide +kernel
abbrev cX1_isolate : ByteArray := prog_3_method_17_code
def yX1_isolate : MethodName := ⟨RX1, "isolate", "(I)I"⟩
theorem dX1_isolate_0 : decode cX1_isolate 0 = .ok (.aload_n 0, 1) := by decide +kernel
theorem dX1_isolate_1 : decode cX1_isolate 1 = .ok (.iload_n 1, 1) := by decide +kernel
theorem dX1_isolate_2 : decode cX1_isolate 2 = .ok (.invokevirtual 20, 3) := by decide +kernel
theorem dX1_isolate_5 : decode cX1_isolate 5 = .ok (.ifCond .ne 5, 3) := by decide +kernel
theorem dX1_isolate_8 : decode cX1_isolate 8 = .ok (.iconst (-1), 1) := by decide +kernel
theorem dX1_isolate_9 : decode cX1_isolate 9 = .ok (.ireturn, 1) := by decide +kernel
theorem dX1_isolate_10 : decode cX1_isolate 10 = .ok (.aload_n 0, 1) := by decide +kernel
theorem dX1_isolate_11 : decode cX1_isolate 11 = .ok (.invokevirtual 51, 3) := by decide +kernel
theorem dX1_isolate_14 : decode cX1_isolate 14 = .ok (.istore_n 2, 1) := by decide +kernel
theorem dX1_isolate_15 : decode cX1_isolate 15 = .ok (.iconst 0, 1) := by decide +kernel
theorem dX1_isolate_16 : decode cX1_isolate 16 = .ok (.istore_n 3, 1) := by decide +kernel
theorem dX1_isolate_17 : decode cX1_isolate 17 = .ok (.iload_n 3, 1) := by decide +kernel
theorem dX1_isolate_18 : decode cX1_isolate 18 = .ok (.bipush 12, 2) := by decide +kernel
theorem dX1_isolate_20 : decode cX1_isolate 20 = .ok (.if_icmp .ge 29, 3) := by decide +kernel
theorem dX1_isolate_23 : decode cX1_isolate 23 = .ok (.aload_n 0, 1) := by decide +kernel
theorem dX1_isolate_24 : decode cX1_isolate 24 = .ok (.aload_n 0, 1) := by decide +kernel
theorem dX1_isolate_25 : decode cX1_isolate 25 = .ok (.getfield 7, 3) := by decide +kernel
theorem dX1_isolate_28 : decode cX1_isolate 28 = .ok (.iload_n 1, 1) := by decide +kernel
theorem dX1_isolate_29 : decode cX1_isolate 29 = .ok (.iaload, 1) := by decide +kernel
theorem dX1_isolate_30 : decode cX1_isolate 30 = .ok (.iload_n 3, 1) := by decide +kernel
theorem dX1_isolate_31 : decode cX1_isolate 31 = .ok (.invokevirtual 16, 3) := by decide +kernel
theorem dX1_isolate_34 : decode cX1_isolate 34 = .ok (.ifCond .eq 9, 3) := by decide +kernel
theorem dX1_isolate_37 : decode cX1_isolate 37 = .ok (.aload_n 0, 1) := by decide +kernel
theorem dX1_isolate_38 : decode cX1_isolate 38 = .ok (.iload_n 1, 1) := by decide +kernel
theorem dX1_isolate_39 : decode cX1_isolate 39 = .ok (.iload_n 3, 1) := by decide +kernel
theorem dX1_isolate_40 : decode cX1_isolate 40 = .ok (.invokevirtual 35, 3) := by decide +kernel
theorem dX1_isolate_43 : decode cX1_isolate 43 = .ok (.iinc 3 1, 3) := by decide +kernel
theorem dX1_isolate_46 : decode cX1_isolate 46 = .ok (.goto (-29), 3) := by decide +kernel
theorem dX1_isolate_49 : decode cX1_isolate 49 = .ok (.aload_n 0, 1) := by decide +kernel
theorem dX1_isolate_50 : decode cX1_isolate 50 = .ok (.invokevirtual 51, 3) := by decide +kernel
theorem dX1_isolate_53 : decode cX1_isolate 53 = .ok (.iload_n 2, 1) := by decide +kernel
theorem dX1_isolate_54 : decode cX1_isolate 54 = .ok (.isub, 1) := by decide +kernel
theorem dX1_isolate_55 : decode cX1_isolate 55 = .ok (.ireturn, 1) := by decide +kernel
abbrev cX1_greatest : ByteArray := prog_3_method_18_code
def yX1_greatest : MethodName := ⟨RX1, "greatest", "()I"⟩
theorem dX1_greatest_0 : decode cX1_greatest 0 = .ok (.iconst 0, 1) := by decide +kernel
theorem dX1_greatest_1 : decode cX1_greatest 1 = .ok (.istore_n 1, 1) := by decide +kernel
theorem dX1_greatest_2 : decode cX1_greatest 2 = .ok (.iconst 0, 1) := by decide +kernel
theorem dX1_greatest_3 : decode cX1_greatest 3 = .ok (.istore_n 2, 1) := by decide +kernel
theorem dX1_greatest_4 : decode cX1_greatest 4 = .ok (.iload_n 2, 1) := by decide +kernel
theorem dX1_greatest_5 : decode cX1_greatest 5 = .ok (.bipush 12, 2) := by decide +kernel
theorem dX1_greatest_7 : decode cX1_greatest 7 = .ok (.if_icmp .ge 31, 3) := by decide +kernel
theorem dX1_greatest_10 : decode cX1_greatest 10 = .ok (.aload_n 0, 1) := by decide +kernel
theorem dX1_greatest_11 : decode cX1_greatest 11 = .ok (.iload_n 2, 1) := by decide +kernel
theorem dX1_greatest_12 : decode cX1_greatest 12 = .ok (.invokevirtual 38, 3) := by decide +kernel
theorem dX1_greatest_15 : decode cX1_greatest 15 = .ok (.istore_n 3, 1) := by decide +kernel
theorem dX1_greatest_16 : decode cX1_greatest 16 = .ok (.aload_n 0, 1) := by decide +kernel
theorem dX1_greatest_17 : decode cX1_greatest 17 = .ok (.iload_n 3, 1) := by decide +kernel
theorem dX1_greatest_18 : decode cX1_greatest 18 = .ok (.invokevirtual 45, 3) := by decide +kernel
theorem dX1_greatest_21 : decode cX1_greatest 21 = .ok (.istore 4, 2) := by decide +kernel
theorem dX1_greatest_23 : decode cX1_greatest 23 = .ok (.iload 4, 2) := by decide +kernel
theorem dX1_greatest_25 : decode cX1_greatest 25 = .ok (.iload_n 1, 1) := by decide +kernel
theorem dX1_greatest_26 : decode cX1_greatest 26 = .ok (.if_icmp .le 6, 3) := by decide +kernel
theorem dX1_greatest_29 : decode cX1_greatest 29 = .ok (.iload 4, 2) := by decide +kernel
theorem dX1_greatest_31 : decode cX1_greatest 31 = .ok (.istore_n 1, 1) := by decide +kernel
theorem dX1_greatest_32 : decode cX1_greatest 32 = .ok (.iinc 2 1, 3) := by decide +kernel
theorem dX1_greatest_35 : decode cX1_greatest 35 = .ok (.goto (-31), 3) := by decide +kernel
theorem dX1_greatest_38 : decode cX1_greatest 38 = .ok (.iload_n 1, 1) := by decide +kernel
theorem dX1_greatest_39 : decode cX1_greatest 39 = .ok (.ireturn, 1) := by decide +kernel
theorem q18 : (Jvm.Cond.initialized "LevelForestsModel") ∈ lw_all := lw_g (lw_at lw_m0 2 rfl) rfl
theorem q137 : (Jvm.Cond.instantiable "LevelForestsModel" (2 : Nat)) ∈ lw_all := lw_g (lw_at lw_m0 121 rfl) rfl
theorem q139 : (Jvm.Cond.instanceMethod ({ cls := "LevelForestsModel", name := "<init>", desc := "()V" } : Jvm.MethodName)) ∈ lw_all := lw_g (lw_at lw_m0 123 rfl) rfl
theorem q140 : (Jvm.Cond.code ({ cls := "LevelForestsModel", name := "<init>", desc := "()V" } : Jvm.MethodName) prog_3_method_1_code (1 : Nat) (Option.none : Option Jvm.ClassFile.FieldType)) ∈ lw_all := lw_g (lw_at lw_m0 124 rfl) rfl
theorem q141 : (Jvm.Cond.methodLink "LevelForestsModel" (1 : Nat) ({ cls := "java/lang/Object", name := "<init>", desc := "()V" } : Jvm.MethodName)) ∈ lw_all := lw_g (lw_at lw_m0 125 rfl) rfl
theorem q142 : (Jvm.Cond.fieldLink "LevelForestsModel" (7 : Nat) "LevelForestsModel" "next" "[I") ∈ lw_all := lw_g (lw_at lw_m0 126 rfl) rfl
theorem q143 : (Jvm.Cond.fieldLink "LevelForestsModel" (13 : Nat) "LevelForestsModel" "kept" "[I") ∈ lw_all := lw_g (lw_at lw_m0 127 rfl) rfl
theorem q144 : (Jvm.Cond.lays "LevelForestsModel" "LevelForestsModel" "next" "[I") ∈ lw_all := lw_g (lw_at lw_m0 128 rfl) rfl
theorem q145 : (Jvm.Cond.soleField "LevelForestsModel" "next") ∈ lw_all := lw_g (lw_at lw_m0 129 rfl) rfl
theorem q146 : (Jvm.Cond.lays "LevelForestsModel" "LevelForestsModel" "kept" "[I") ∈ lw_all := lw_g (lw_at lw_m0 130 rfl) rfl
theorem q147 : (Jvm.Cond.soleField "LevelForestsModel" "kept") ∈ lw_all := lw_g (lw_at lw_m0 131 rfl) rfl
theorem q148 : (Jvm.Cond.superclass "LevelForestsModel" "java/lang/Object") ∈ lw_all := lw_g (lw_at lw_m0 132 rfl) rfl
theorem q151 : (Jvm.Cond.instanceMethod ({ cls := "LevelForestsModel", name := "link", desc := "(II)I" } : Jvm.MethodName)) ∈ lw_all := lw_g (lw_at lw_m0 135 rfl) rfl
theorem q152 : (Jvm.Cond.selects "LevelForestsModel" ({ cls := "LevelForestsModel", name := "link", desc := "(II)I" } : Jvm.MethodName) ({ cls := "LevelForestsModel", name := "link", desc := "(II)I" } : Jvm.MethodName)) ∈ lw_all := lw_g (lw_at lw_m0 136 rfl) rfl
theorem q153 : (Jvm.Cond.code ({ cls := "LevelForestsModel", name := "link", desc := "(II)I" } : Jvm.MethodName) prog_3_method_8_code (4 : Nat) (Option.some Jvm.ClassFile.FieldType.int)) ∈ lw_all := lw_g (lw_at lw_m0 137 rfl) rfl
theorem q154 : (Jvm.Cond.methodLink "LevelForestsModel" (20 : Nat) ({ cls := "LevelForestsModel", name := "isPoint", desc := "(I)Z" } : Jvm.MethodName)) ∈ lw_all := lw_g (lw_at lw_m0 138 rfl) rfl
theorem q155 : (Jvm.Cond.privateMethod ({ cls := "LevelForestsModel", name := "isPoint", desc := "(I)Z" } : Jvm.MethodName)) ∈ lw_tbl := lw_at lw_m0 139 rfl
theorem q156 : (Jvm.Cond.instanceMethod ({ cls := "LevelForestsModel", name := "isPoint", desc := "(I)Z" } : Jvm.MethodName)) ∈ lw_all := lw_g (lw_at lw_m0 140 rfl) rfl
theorem q157 : (Jvm.Cond.code ({ cls := "LevelForestsModel", name := "isPoint", desc := "(I)Z" } : Jvm.MethodName) prog_3_method_2_code (2 : Nat) (Option.some Jvm.ClassFile.FieldType.boolean)) ∈ lw_all := lw_g (lw_at lw_m0 141 rfl) rfl
theorem q158 : (Jvm.Cond.methodLink "LevelForestsModel" (16 : Nat) ({ cls := "LevelForestsModel", name := "in", desc := "(II)Z" } : Jvm.MethodName)) ∈ lw_all := lw_g (lw_at lw_m0 142 rfl) rfl
theorem q159 : (Jvm.Cond.privateMethod ({ cls := "LevelForestsModel", name := "in", desc := "(II)Z" } : Jvm.MethodName)) ∈ lw_tbl := lw_at lw_m0 143 rfl
theorem q160 : (Jvm.Cond.instanceMethod ({ cls := "LevelForestsModel", name := "in", desc := "(II)Z" } : Jvm.MethodName)) ∈ lw_all := lw_g (lw_at lw_m0 144 rfl) rfl
theorem q161 : (Jvm.Cond.code ({ cls := "LevelForestsModel", name := "in", desc := "(II)Z" } : Jvm.MethodName) prog_3_method_3_code (3 : Nat) (Option.some Jvm.ClassFile.FieldType.boolean)) ∈ lw_all := lw_g (lw_at lw_m0 145 rfl) rfl
theorem q162 : (Jvm.Cond.methodLink "LevelForestsModel" (24 : Nat) ({ cls := "LevelForestsModel", name := "edges", desc := "()I" } : Jvm.MethodName)) ∈ lw_all := lw_g (lw_at lw_m0 146 rfl) rfl
theorem q163 : (Jvm.Cond.instanceMethod ({ cls := "LevelForestsModel", name := "edges", desc := "()I" } : Jvm.MethodName)) ∈ lw_all := lw_g (lw_at lw_m0 147 rfl) rfl
theorem q164 : (Jvm.Cond.selects "LevelForestsModel" ({ cls := "LevelForestsModel", name := "edges", desc := "()I" } : Jvm.MethodName) ({ cls := "LevelForestsModel", name := "edges", desc := "()I" } : Jvm.MethodName)) ∈ lw_all := lw_g (lw_at lw_m0 148 rfl) rfl
theorem q165 : (Jvm.Cond.code ({ cls := "LevelForestsModel", name := "edges", desc := "()I" } : Jvm.MethodName) prog_3_method_15_code (3 : Nat) (Option.some Jvm.ClassFile.FieldType.int)) ∈ lw_all := lw_g (lw_at lw_m0 149 rfl) rfl
theorem q166 : (Jvm.Cond.methodLink "LevelForestsModel" (45 : Nat) ({ cls := "LevelForestsModel", name := "sizeOf", desc := "(I)I" } : Jvm.MethodName)) ∈ lw_all := lw_g (lw_at lw_m0 150 rfl) rfl
theorem q167 : (Jvm.Cond.privateMethod ({ cls := "LevelForestsModel", name := "sizeOf", desc := "(I)I" } : Jvm.MethodName)) ∈ lw_tbl := lw_at lw_m0 151 rfl
theorem q168 : (Jvm.Cond.instanceMethod ({ cls := "LevelForestsModel", name := "sizeOf", desc := "(I)I" } : Jvm.MethodName)) ∈ lw_all := lw_g (lw_at lw_m0 152 rfl) rfl
theorem q169 : (Jvm.Cond.code ({ cls := "LevelForestsModel", name := "sizeOf", desc := "(I)I" } : Jvm.MethodName) prog_3_method_4_code (4 : Nat) (Option.some Jvm.ClassFile.FieldType.int)) ∈ lw_all := lw_g (lw_at lw_m0 153 rfl) rfl
theorem q170 : (Jvm.Cond.methodLink "LevelForestsModel" (28 : Nat) ({ cls := "LevelForestsModel", name := "connected", desc := "(II)Z" } : Jvm.MethodName)) ∈ lw_all := lw_g (lw_at lw_m0 154 rfl) rfl
theorem q171 : (Jvm.Cond.instanceMethod ({ cls := "LevelForestsModel", name := "connected", desc := "(II)Z" } : Jvm.MethodName)) ∈ lw_all := lw_g (lw_at lw_m0 155 rfl) rfl
theorem q172 : (Jvm.Cond.selects "LevelForestsModel" ({ cls := "LevelForestsModel", name := "connected", desc := "(II)Z" } : Jvm.MethodName) ({ cls := "LevelForestsModel", name := "connected", desc := "(II)Z" } : Jvm.MethodName)) ∈ lw_all := lw_g (lw_at lw_m0 156 rfl) rfl
theorem q173 : (Jvm.Cond.code ({ cls := "LevelForestsModel", name := "connected", desc := "(II)Z" } : Jvm.MethodName) prog_3_method_10_code (4 : Nat) (Option.some Jvm.ClassFile.FieldType.boolean)) ∈ lw_all := lw_g (lw_at lw_m0 157 rfl) rfl
theorem q174 : (Jvm.Cond.methodLink "LevelForestsModel" (38 : Nat) ({ cls := "LevelForestsModel", name := "walk", desc := "(I)I" } : Jvm.MethodName)) ∈ lw_all := lw_g (lw_at lw_m0 158 rfl) rfl
theorem q175 : (Jvm.Cond.privateMethod ({ cls := "LevelForestsModel", name := "walk", desc := "(I)I" } : Jvm.MethodName)) ∈ lw_tbl := lw_at lw_m0 159 rfl
theorem q176 : (Jvm.Cond.instanceMethod ({ cls := "LevelForestsModel", name := "walk", desc := "(I)I" } : Jvm.MethodName)) ∈ lw_all := lw_g (lw_at lw_m0 160 rfl) rfl
theorem q177 : (Jvm.Cond.code ({ cls := "LevelForestsModel", name := "walk", desc := "(I)I" } : Jvm.MethodName) prog_3_method_5_code (5 : Nat) (Option.some Jvm.ClassFile.FieldType.int)) ∈ lw_all := lw_g (lw_at lw_m0 161 rfl) rfl
theorem q178 : (Jvm.Cond.methodLink "LevelForestsModel" (31 : Nat) ({ cls := "LevelForestsModel", name := "put", desc := "(II)V" } : Jvm.MethodName)) ∈ lw_all := lw_g (lw_at lw_m0 162 rfl) rfl
theorem q179 : (Jvm.Cond.privateMethod ({ cls := "LevelForestsModel", name := "put", desc := "(II)V" } : Jvm.MethodName)) ∈ lw_tbl := lw_at lw_m0 163 rfl
theorem q180 : (Jvm.Cond.instanceMethod ({ cls := "LevelForestsModel", name := "put", desc := "(II)V" } : Jvm.MethodName)) ∈ lw_all := lw_g (lw_at lw_m0 164 rfl) rfl
theorem q181 : (Jvm.Cond.code ({ cls := "LevelForestsModel", name := "put", desc := "(II)V" } : Jvm.MethodName) prog_3_method_6_code (3 : Nat) (Option.none : Option Jvm.ClassFile.FieldType)) ∈ lw_all := lw_g (lw_at lw_m0 165 rfl) rfl
theorem q183 : (Jvm.Cond.instanceMethod ({ cls := "LevelForestsModel", name := "cut", desc := "(II)I" } : Jvm.MethodName)) ∈ lw_all := lw_g (lw_at lw_m0 167 rfl) rfl
theorem q184 : (Jvm.Cond.selects "LevelForestsModel" ({ cls := "LevelForestsModel", name := "cut", desc := "(II)I" } : Jvm.MethodName) ({ cls := "LevelForestsModel", name := "cut", desc := "(II)I" } : Jvm.MethodName)) ∈ lw_all := lw_g (lw_at lw_m0 168 rfl) rfl
theorem q185 : (Jvm.Cond.code ({ cls := "LevelForestsModel", name := "cut", desc := "(II)I" } : Jvm.MethodName) prog_3_method_9_code (3 : Nat) (Option.some Jvm.ClassFile.FieldType.int)) ∈ lw_all := lw_g (lw_at lw_m0 169 rfl) rfl
theorem q186 : (Jvm.Cond.methodLink "LevelForestsModel" (35 : Nat) ({ cls := "LevelForestsModel", name := "take", desc := "(II)V" } : Jvm.MethodName)) ∈ lw_all := lw_g (lw_at lw_m0 170 rfl) rfl
theorem q187 : (Jvm.Cond.privateMethod ({ cls := "LevelForestsModel", name := "take", desc := "(II)V" } : Jvm.MethodName)) ∈ lw_tbl := lw_at lw_m0 171 rfl
theorem q188 : (Jvm.Cond.instanceMethod ({ cls := "LevelForestsModel", name := "take", desc := "(II)V" } : Jvm.MethodName)) ∈ lw_all := lw_g (lw_at lw_m0 172 rfl) rfl
theorem q189 : (Jvm.Cond.code ({ cls := "LevelForestsModel", name := "take", desc := "(II)V" } : Jvm.MethodName) prog_3_method_7_code (3 : Nat) (Option.none : Option Jvm.ClassFile.FieldType)) ∈ lw_all := lw_g (lw_at lw_m0 173 rfl) rfl
theorem q192 : (Jvm.Cond.instanceMethod ({ cls := "LevelForestsModel", name := "part", desc := "(I)I" } : Jvm.MethodName)) ∈ lw_all := lw_g (lw_at lw_m0 176 rfl) rfl
theorem q193 : (Jvm.Cond.selects "LevelForestsModel" ({ cls := "LevelForestsModel", name := "part", desc := "(I)I" } : Jvm.MethodName) ({ cls := "LevelForestsModel", name := "part", desc := "(I)I" } : Jvm.MethodName)) ∈ lw_all := lw_g (lw_at lw_m0 177 rfl) rfl
theorem q194 : (Jvm.Cond.code ({ cls := "LevelForestsModel", name := "part", desc := "(I)I" } : Jvm.MethodName) prog_3_method_11_code (2 : Nat) (Option.some Jvm.ClassFile.FieldType.int)) ∈ lw_all := lw_g (lw_at lw_m0 178 rfl) rfl
theorem q196 : (Jvm.Cond.instanceMethod ({ cls := "LevelForestsModel", name := "parts", desc := "()I" } : Jvm.MethodName)) ∈ lw_all := lw_g (lw_at lw_m0 180 rfl) rfl
theorem q197 : (Jvm.Cond.selects "LevelForestsModel" ({ cls := "LevelForestsModel", name := "parts", desc := "()I" } : Jvm.MethodName) ({ cls := "LevelForestsModel", name := "parts", desc := "()I" } : Jvm.MethodName)) ∈ lw_all := lw_g (lw_at lw_m0 181 rfl) rfl
theorem q198 : (Jvm.Cond.code ({ cls := "LevelForestsModel", name := "parts", desc := "()I" } : Jvm.MethodName) prog_3_method_12_code (4 : Nat) (Option.some Jvm.ClassFile.FieldType.int)) ∈ lw_all := lw_g (lw_at lw_m0 182 rfl) rfl
theorem q200 : (Jvm.Cond.instanceMethod ({ cls := "LevelForestsModel", name := "isEdge", desc := "(II)Z" } : Jvm.MethodName)) ∈ lw_all := lw_g (lw_at lw_m0 184 rfl) rfl
theorem q201 : (Jvm.Cond.selects "LevelForestsModel" ({ cls := "LevelForestsModel", name := "isEdge", desc := "(II)Z" } : Jvm.MethodName) ({ cls := "LevelForestsModel", name := "isEdge", desc := "(II)Z" } : Jvm.MethodName)) ∈ lw_all := lw_g (lw_at lw_m0 185 rfl) rfl
theorem q202 : (Jvm.Cond.code ({ cls := "LevelForestsModel", name := "isEdge", desc := "(II)Z" } : Jvm.MethodName) prog_3_method_13_code (3 : Nat) (Option.some Jvm.ClassFile.FieldType.boolean)) ∈ lw_all := lw_g (lw_at lw_m0 186 rfl) rfl
theorem q204 : (Jvm.Cond.instanceMethod ({ cls := "LevelForestsModel", name := "isBridge", desc := "(II)Z" } : Jvm.MethodName)) ∈ lw_all := lw_g (lw_at lw_m0 188 rfl) rfl
theorem q205 : (Jvm.Cond.selects "LevelForestsModel" ({ cls := "LevelForestsModel", name := "isBridge", desc := "(II)Z" } : Jvm.MethodName) ({ cls := "LevelForestsModel", name := "isBridge", desc := "(II)Z" } : Jvm.MethodName)) ∈ lw_all := lw_g (lw_at lw_m0 189 rfl) rfl
theorem q206 : (Jvm.Cond.code ({ cls := "LevelForestsModel", name := "isBridge", desc := "(II)Z" } : Jvm.MethodName) prog_3_method_14_code (4 : Nat) (Option.some Jvm.ClassFile.FieldType.boolean)) ∈ lw_all := lw_g (lw_at lw_m0 190 rfl) rfl
theorem q207 : (Jvm.Cond.methodLink "LevelForestsModel" (42 : Nat) ({ cls := "LevelForestsModel", name := "isEdge", desc := "(II)Z" } : Jvm.MethodName)) ∈ lw_all := lw_g (lw_at lw_m0 191 rfl) rfl
theorem q210 : (Jvm.Cond.instanceMethod ({ cls := "LevelForestsModel", name := "spare", desc := "()I" } : Jvm.MethodName)) ∈ lw_all := lw_g (lw_at lw_m0 194 rfl) rfl
theorem q211 : (Jvm.Cond.selects "LevelForestsModel" ({ cls := "LevelForestsModel", name := "spare", desc := "()I" } : Jvm.MethodName) ({ cls := "LevelForestsModel", name := "spare", desc := "()I" } : Jvm.MethodName)) ∈ lw_all := lw_g (lw_at lw_m0 195 rfl) rfl
theorem q212 : (Jvm.Cond.code ({ cls := "LevelForestsModel", name := "spare", desc := "()I" } : Jvm.MethodName) prog_3_method_16_code (3 : Nat) (Option.some Jvm.ClassFile.FieldType.int)) ∈ lw_all := lw_g (lw_at lw_m0 196 rfl) rfl
theorem q213 : (Jvm.Cond.methodLink "LevelForestsModel" (48 : Nat) ({ cls := "LevelForestsModel", name := "isBridge", desc := "(II)Z" } : Jvm.MethodName)) ∈ lw_all := lw_g (lw_at lw_m0 197 rfl) rfl
theorem q215 : (Jvm.Cond.instanceMethod ({ cls := "LevelForestsModel", name := "isolate", desc := "(I)I" } : Jvm.MethodName)) ∈ lw_all := lw_g (lw_at lw_m0 199 rfl) rfl
theorem q216 : (Jvm.Cond.selects "LevelForestsModel" ({ cls := "LevelForestsModel", name := "isolate", desc := "(I)I" } : Jvm.MethodName) ({ cls := "LevelForestsModel", name := "isolate", desc := "(I)I" } : Jvm.MethodName)) ∈ lw_all := lw_g (lw_at lw_m0 200 rfl) rfl
theorem q217 : (Jvm.Cond.code ({ cls := "LevelForestsModel", name := "isolate", desc := "(I)I" } : Jvm.MethodName) prog_3_method_17_code (4 : Nat) (Option.some Jvm.ClassFile.FieldType.int)) ∈ lw_all := lw_g (lw_at lw_m0 201 rfl) rfl
theorem q218 : (Jvm.Cond.methodLink "LevelForestsModel" (51 : Nat) ({ cls := "LevelForestsModel", name := "parts", desc := "()I" } : Jvm.MethodName)) ∈ lw_all := lw_g (lw_at lw_m0 202 rfl) rfl
theorem q220 : (Jvm.Cond.instanceMethod ({ cls := "LevelForestsModel", name := "greatest", desc := "()I" } : Jvm.MethodName)) ∈ lw_all := lw_g (lw_at lw_m0 204 rfl) rfl
theorem q221 : (Jvm.Cond.selects "LevelForestsModel" ({ cls := "LevelForestsModel", name := "greatest", desc := "()I" } : Jvm.MethodName) ({ cls := "LevelForestsModel", name := "greatest", desc := "()I" } : Jvm.MethodName)) ∈ lw_all := lw_g (lw_at lw_m0 205 rfl) rfl
theorem q222 : (Jvm.Cond.code ({ cls := "LevelForestsModel", name := "greatest", desc := "()I" } : Jvm.MethodName) prog_3_method_18_code (5 : Nat) (Option.some Jvm.ClassFile.FieldType.int)) ∈ lw_all := lw_g (lw_at lw_m0 206 rfl) rfl
theorem in_X1 : ∀ w ∈ wsX10, w ∈ lw_all := lw_in wsX10 [144, 146] (by decide +kernel) (by decide +kernel)
end
section
/-! java/lang/Object -/
set_option maxRecDepth 100000
def RJ0 : String := "java/lang/Object"
abbrev cJ0_init : ByteArray := object_method_1_code
def yJ0_init : MethodName := ⟨RJ0, "<init>", "()V"⟩
theorem dJ0_init_0 : decode cJ0_init 0 = .ok (.return_, 1) := by decide +kernel
theorem q25 : (Jvm.Cond.instanceMethod ({ cls := "java/lang/Object", name := "<init>", desc := "()V" } : Jvm.MethodName)) ∈ lw_all := lw_g (lw_at lw_m0 9 rfl) rfl
theorem q26 : (Jvm.Cond.code ({ cls := "java/lang/Object", name := "<init>", desc := "()V" } : Jvm.MethodName) object_method_1_code (1 : Nat) (Option.none : Option Jvm.ClassFile.FieldType)) ∈ lw_all := lw_g (lw_at lw_m0 10 rfl) rfl

theorem q46 : (Jvm.Cond.arrayClass Jvm.ClassFile.FieldType.byte) ∈ lw_all := lw_g (lw_at lw_m0 30 rfl) rfl
set_option maxRecDepth 100000
theorem q47 : (Jvm.Cond.arrayClass Jvm.ClassFile.FieldType.boolean) ∈ lw_all := lw_g (lw_at lw_m0 31 rfl) rfl
theorem q48 : (Jvm.Cond.arrayClass Jvm.ClassFile.FieldType.short) ∈ lw_all := lw_g (lw_at lw_m0 32 rfl) rfl
theorem q149 : (Jvm.Cond.arrayClass Jvm.ClassFile.FieldType.int) ∈ lw_all := lw_g (lw_at lw_m0 133 rfl) rfl

theorem q16 : (Jvm.Cond.initialized "LevelForestsLaw") ∈ lw_all := lw_g (lw_at lw_m0 0 rfl) rfl
set_option maxRecDepth 100000
theorem q19 : (Jvm.Cond.classLink "LevelForestsLaw" (7 : Nat) "LevelForests") ∈ lw_all := lw_g (lw_at lw_m0 3 rfl) rfl
theorem q21 : (Jvm.Cond.methodLink "LevelForestsLaw" (9 : Nat) ({ cls := "LevelForests", name := "<init>", desc := "()V" } : Jvm.MethodName)) ∈ lw_all := lw_g (lw_at lw_m0 5 rfl) rfl
theorem q49 : (Jvm.Cond.methodLink "LevelForestsLaw" (13 : Nat) ({ cls := "LevelForests", name := "link", desc := "(II)I" } : Jvm.MethodName)) ∈ lw_all := lw_g (lw_at lw_m0 33 rfl) rfl
theorem q77 : (Jvm.Cond.methodLink "LevelForestsLaw" (18 : Nat) ({ cls := "LevelForests", name := "cut", desc := "(II)I" } : Jvm.MethodName)) ∈ lw_all := lw_g (lw_at lw_m0 61 rfl) rfl
theorem q105 : (Jvm.Cond.methodLink "LevelForestsLaw" (22 : Nat) ({ cls := "LevelForests", name := "connected", desc := "(II)Z" } : Jvm.MethodName)) ∈ lw_all := lw_g (lw_at lw_m0 89 rfl) rfl
theorem q106 : (Jvm.Cond.methodLink "LevelForestsLaw" (27 : Nat) ({ cls := "LevelForests", name := "part", desc := "(I)I" } : Jvm.MethodName)) ∈ lw_all := lw_g (lw_at lw_m0 90 rfl) rfl
theorem q110 : (Jvm.Cond.methodLink "LevelForestsLaw" (32 : Nat) ({ cls := "LevelForests", name := "parts", desc := "()I" } : Jvm.MethodName)) ∈ lw_all := lw_g (lw_at lw_m0 94 rfl) rfl
theorem q114 : (Jvm.Cond.methodLink "LevelForestsLaw" (37 : Nat) ({ cls := "LevelForests", name := "isEdge", desc := "(II)Z" } : Jvm.MethodName)) ∈ lw_all := lw_g (lw_at lw_m0 98 rfl) rfl
theorem q115 : (Jvm.Cond.methodLink "LevelForestsLaw" (41 : Nat) ({ cls := "LevelForests", name := "isBridge", desc := "(II)Z" } : Jvm.MethodName)) ∈ lw_all := lw_g (lw_at lw_m0 99 rfl) rfl
theorem q119 : (Jvm.Cond.methodLink "LevelForestsLaw" (45 : Nat) ({ cls := "LevelForests", name := "edges", desc := "()I" } : Jvm.MethodName)) ∈ lw_all := lw_g (lw_at lw_m0 103 rfl) rfl
theorem q123 : (Jvm.Cond.methodLink "LevelForestsLaw" (49 : Nat) ({ cls := "LevelForests", name := "spare", desc := "()I" } : Jvm.MethodName)) ∈ lw_all := lw_g (lw_at lw_m0 107 rfl) rfl
theorem q127 : (Jvm.Cond.methodLink "LevelForestsLaw" (53 : Nat) ({ cls := "LevelForests", name := "isolate", desc := "(I)I" } : Jvm.MethodName)) ∈ lw_all := lw_g (lw_at lw_m0 111 rfl) rfl
theorem q132 : (Jvm.Cond.methodLink "LevelForestsLaw" (57 : Nat) ({ cls := "LevelForests", name := "greatest", desc := "()I" } : Jvm.MethodName)) ∈ lw_all := lw_g (lw_at lw_m0 116 rfl) rfl
theorem q136 : (Jvm.Cond.classLink "LevelForestsLaw" (10 : Nat) "LevelForestsModel") ∈ lw_all := lw_g (lw_at lw_m0 120 rfl) rfl
theorem q138 : (Jvm.Cond.methodLink "LevelForestsLaw" (12 : Nat) ({ cls := "LevelForestsModel", name := "<init>", desc := "()V" } : Jvm.MethodName)) ∈ lw_all := lw_g (lw_at lw_m0 122 rfl) rfl
theorem q150 : (Jvm.Cond.methodLink "LevelForestsLaw" (17 : Nat) ({ cls := "LevelForestsModel", name := "link", desc := "(II)I" } : Jvm.MethodName)) ∈ lw_all := lw_g (lw_at lw_m0 134 rfl) rfl
theorem q182 : (Jvm.Cond.methodLink "LevelForestsLaw" (21 : Nat) ({ cls := "LevelForestsModel", name := "cut", desc := "(II)I" } : Jvm.MethodName)) ∈ lw_all := lw_g (lw_at lw_m0 166 rfl) rfl
theorem q190 : (Jvm.Cond.methodLink "LevelForestsLaw" (26 : Nat) ({ cls := "LevelForestsModel", name := "connected", desc := "(II)Z" } : Jvm.MethodName)) ∈ lw_all := lw_g (lw_at lw_m0 174 rfl) rfl
theorem q191 : (Jvm.Cond.methodLink "LevelForestsLaw" (31 : Nat) ({ cls := "LevelForestsModel", name := "part", desc := "(I)I" } : Jvm.MethodName)) ∈ lw_all := lw_g (lw_at lw_m0 175 rfl) rfl
theorem q195 : (Jvm.Cond.methodLink "LevelForestsLaw" (36 : Nat) ({ cls := "LevelForestsModel", name := "parts", desc := "()I" } : Jvm.MethodName)) ∈ lw_all := lw_g (lw_at lw_m0 179 rfl) rfl
theorem q199 : (Jvm.Cond.methodLink "LevelForestsLaw" (40 : Nat) ({ cls := "LevelForestsModel", name := "isEdge", desc := "(II)Z" } : Jvm.MethodName)) ∈ lw_all := lw_g (lw_at lw_m0 183 rfl) rfl
theorem q203 : (Jvm.Cond.methodLink "LevelForestsLaw" (44 : Nat) ({ cls := "LevelForestsModel", name := "isBridge", desc := "(II)Z" } : Jvm.MethodName)) ∈ lw_all := lw_g (lw_at lw_m0 187 rfl) rfl
theorem q208 : (Jvm.Cond.methodLink "LevelForestsLaw" (48 : Nat) ({ cls := "LevelForestsModel", name := "edges", desc := "()I" } : Jvm.MethodName)) ∈ lw_all := lw_g (lw_at lw_m0 192 rfl) rfl
theorem q209 : (Jvm.Cond.methodLink "LevelForestsLaw" (52 : Nat) ({ cls := "LevelForestsModel", name := "spare", desc := "()I" } : Jvm.MethodName)) ∈ lw_all := lw_g (lw_at lw_m0 193 rfl) rfl
theorem q214 : (Jvm.Cond.methodLink "LevelForestsLaw" (56 : Nat) ({ cls := "LevelForestsModel", name := "isolate", desc := "(I)I" } : Jvm.MethodName)) ∈ lw_all := lw_g (lw_at lw_m0 198 rfl) rfl
theorem q219 : (Jvm.Cond.methodLink "LevelForestsLaw" (60 : Nat) ({ cls := "LevelForestsModel", name := "greatest", desc := "()I" } : Jvm.MethodName)) ∈ lw_all := lw_g (lw_at lw_m0 203 rfl) rfl

/-! the law's own entry -/
set_option maxRecDepth 100000
abbrev cL_law : ByteArray := code
theorem dL_law_0 : decode cL_law 0 = .ok (.new 7, 3) := by decide +kernel
theorem dL_law_3 : decode cL_law 3 = .ok (.dup, 1) := by decide +kernel
theorem dL_law_4 : decode cL_law 4 = .ok (.invokespecial 9, 3) := by decide +kernel
theorem dL_law_7 : decode cL_law 7 = .ok (.astore_n 1, 1) := by decide +kernel
theorem dL_law_8 : decode cL_law 8 = .ok (.new 10, 3) := by decide +kernel
theorem dL_law_11 : decode cL_law 11 = .ok (.dup, 1) := by decide +kernel
theorem dL_law_12 : decode cL_law 12 = .ok (.invokespecial 12, 3) := by decide +kernel
theorem dL_law_15 : decode cL_law 15 = .ok (.astore_n 2, 1) := by decide +kernel
theorem dL_law_16 : decode cL_law 16 = .ok (.iconst 0, 1) := by decide +kernel
theorem dL_law_17 : decode cL_law 17 = .ok (.istore_n 3, 1) := by decide +kernel
theorem dL_law_18 : decode cL_law 18 = .ok (.iload_n 3, 1) := by decide +kernel
theorem dL_law_19 : decode cL_law 19 = .ok (.aload_n 0, 1) := by decide +kernel
theorem dL_law_20 : decode cL_law 20 = .ok (.arraylength, 1) := by decide +kernel
theorem dL_law_21 : decode cL_law 21 = .ok (.iconst 3, 1) := by decide +kernel
theorem dL_law_22 : decode cL_law 22 = .ok (.isub, 1) := by decide +kernel
theorem dL_law_23 : decode cL_law 23 = .ok (.if_icmp .gt 338, 3) := by decide +kernel
theorem dL_law_26 : decode cL_law 26 = .ok (.aload_n 0, 1) := by decide +kernel
theorem dL_law_27 : decode cL_law 27 = .ok (.iload_n 3, 1) := by decide +kernel
theorem dL_law_28 : decode cL_law 28 = .ok (.iaload, 1) := by decide +kernel
theorem dL_law_29 : decode cL_law 29 = .ok (.bipush 15, 2) := by decide +kernel
theorem dL_law_31 : decode cL_law 31 = .ok (.iand, 1) := by decide +kernel
theorem dL_law_32 : decode cL_law 32 = .ok (.tableswitch 323 0 10 #[60, 93, 126, 159, 182, 195, 228, 261, 274, 287, 310], 60) := by decide +kernel
theorem dL_law_92 : decode cL_law 92 = .ok (.aload_n 1, 1) := by decide +kernel
theorem dL_law_93 : decode cL_law 93 = .ok (.aload_n 0, 1) := by decide +kernel
theorem dL_law_94 : decode cL_law 94 = .ok (.iload_n 3, 1) := by decide +kernel
theorem dL_law_95 : decode cL_law 95 = .ok (.iconst 1, 1) := by decide +kernel
theorem dL_law_96 : decode cL_law 96 = .ok (.iadd, 1) := by decide +kernel
theorem dL_law_97 : decode cL_law 97 = .ok (.iaload, 1) := by decide +kernel
theorem dL_law_98 : decode cL_law 98 = .ok (.aload_n 0, 1) := by decide +kernel
theorem dL_law_99 : decode cL_law 99 = .ok (.iload_n 3, 1) := by decide +kernel
theorem dL_law_100 : decode cL_law 100 = .ok (.iconst 2, 1) := by decide +kernel
theorem dL_law_101 : decode cL_law 101 = .ok (.iadd, 1) := by decide +kernel
theorem dL_law_102 : decode cL_law 102 = .ok (.iaload, 1) := by decide +kernel
theorem dL_law_103 : decode cL_law 103 = .ok (.invokevirtual 13, 3) := by decide +kernel
theorem dL_law_106 : decode cL_law 106 = .ok (.aload_n 2, 1) := by decide +kernel
theorem dL_law_107 : decode cL_law 107 = .ok (.aload_n 0, 1) := by decide +kernel
theorem dL_law_108 : decode cL_law 108 = .ok (.iload_n 3, 1) := by decide +kernel
theorem dL_law_109 : decode cL_law 109 = .ok (.iconst 1, 1) := by decide +kernel
theorem dL_law_110 : decode cL_law 110 = .ok (.iadd, 1) := by decide +kernel
theorem dL_law_111 : decode cL_law 111 = .ok (.iaload, 1) := by decide +kernel
theorem dL_law_112 : decode cL_law 112 = .ok (.aload_n 0, 1) := by decide +kernel
theorem dL_law_113 : decode cL_law 113 = .ok (.iload_n 3, 1) := by decide +kernel
theorem dL_law_114 : decode cL_law 114 = .ok (.iconst 2, 1) := by decide +kernel
theorem dL_law_115 : decode cL_law 115 = .ok (.iadd, 1) := by decide +kernel
theorem dL_law_116 : decode cL_law 116 = .ok (.iaload, 1) := by decide +kernel
theorem dL_law_117 : decode cL_law 117 = .ok (.invokevirtual 17, 3) := by decide +kernel
theorem dL_law_120 : decode cL_law 120 = .ok (.if_icmp .eq 235, 3) := by decide +kernel
theorem dL_law_123 : decode cL_law 123 = .ok (.iconst 0, 1) := by decide +kernel
theorem dL_law_124 : decode cL_law 124 = .ok (.ireturn, 1) := by decide +kernel
theorem dL_law_125 : decode cL_law 125 = .ok (.aload_n 1, 1) := by decide +kernel
theorem dL_law_126 : decode cL_law 126 = .ok (.aload_n 0, 1) := by decide +kernel
theorem dL_law_127 : decode cL_law 127 = .ok (.iload_n 3, 1) := by decide +kernel
theorem dL_law_128 : decode cL_law 128 = .ok (.iconst 1, 1) := by decide +kernel
theorem dL_law_129 : decode cL_law 129 = .ok (.iadd, 1) := by decide +kernel
theorem dL_law_130 : decode cL_law 130 = .ok (.iaload, 1) := by decide +kernel
theorem dL_law_131 : decode cL_law 131 = .ok (.aload_n 0, 1) := by decide +kernel
theorem dL_law_132 : decode cL_law 132 = .ok (.iload_n 3, 1) := by decide +kernel
theorem dL_law_133 : decode cL_law 133 = .ok (.iconst 2, 1) := by decide +kernel
theorem dL_law_134 : decode cL_law 134 = .ok (.iadd, 1) := by decide +kernel
theorem dL_law_135 : decode cL_law 135 = .ok (.iaload, 1) := by decide +kernel
theorem dL_law_136 : decode cL_law 136 = .ok (.invokevirtual 18, 3) := by decide +kernel
theorem dL_law_139 : decode cL_law 139 = .ok (.aload_n 2, 1) := by decide +kernel
theorem dL_law_140 : decode cL_law 140 = .ok (.aload_n 0, 1) := by decide +kernel
theorem dL_law_141 : decode cL_law 141 = .ok (.iload_n 3, 1) := by decide +kernel
theorem dL_law_142 : decode cL_law 142 = .ok (.iconst 1, 1) := by decide +kernel
theorem dL_law_143 : decode cL_law 143 = .ok (.iadd, 1) := by decide +kernel
theorem dL_law_144 : decode cL_law 144 = .ok (.iaload, 1) := by decide +kernel
theorem dL_law_145 : decode cL_law 145 = .ok (.aload_n 0, 1) := by decide +kernel
theorem dL_law_146 : decode cL_law 146 = .ok (.iload_n 3, 1) := by decide +kernel
theorem dL_law_147 : decode cL_law 147 = .ok (.iconst 2, 1) := by decide +kernel
theorem dL_law_148 : decode cL_law 148 = .ok (.iadd, 1) := by decide +kernel
theorem dL_law_149 : decode cL_law 149 = .ok (.iaload, 1) := by decide +kernel
theorem dL_law_150 : decode cL_law 150 = .ok (.invokevirtual 21, 3) := by decide +kernel
theorem dL_law_153 : decode cL_law 153 = .ok (.if_icmp .eq 202, 3) := by decide +kernel
theorem dL_law_156 : decode cL_law 156 = .ok (.iconst 0, 1) := by decide +kernel
theorem dL_law_157 : decode cL_law 157 = .ok (.ireturn, 1) := by decide +kernel
theorem dL_law_158 : decode cL_law 158 = .ok (.aload_n 1, 1) := by decide +kernel
theorem dL_law_159 : decode cL_law 159 = .ok (.aload_n 0, 1) := by decide +kernel
theorem dL_law_160 : decode cL_law 160 = .ok (.iload_n 3, 1) := by decide +kernel
theorem dL_law_161 : decode cL_law 161 = .ok (.iconst 1, 1) := by decide +kernel
theorem dL_law_162 : decode cL_law 162 = .ok (.iadd, 1) := by decide +kernel
theorem dL_law_163 : decode cL_law 163 = .ok (.iaload, 1) := by decide +kernel
theorem dL_law_164 : decode cL_law 164 = .ok (.aload_n 0, 1) := by decide +kernel
theorem dL_law_165 : decode cL_law 165 = .ok (.iload_n 3, 1) := by decide +kernel
theorem dL_law_166 : decode cL_law 166 = .ok (.iconst 2, 1) := by decide +kernel
theorem dL_law_167 : decode cL_law 167 = .ok (.iadd, 1) := by decide +kernel
theorem dL_law_168 : decode cL_law 168 = .ok (.iaload, 1) := by decide +kernel
theorem dL_law_169 : decode cL_law 169 = .ok (.invokevirtual 22, 3) := by decide +kernel
theorem dL_law_172 : decode cL_law 172 = .ok (.aload_n 2, 1) := by decide +kernel
theorem dL_law_173 : decode cL_law 173 = .ok (.aload_n 0, 1) := by decide +kernel
theorem dL_law_174 : decode cL_law 174 = .ok (.iload_n 3, 1) := by decide +kernel
theorem dL_law_175 : decode cL_law 175 = .ok (.iconst 1, 1) := by decide +kernel
theorem dL_law_176 : decode cL_law 176 = .ok (.iadd, 1) := by decide +kernel
theorem dL_law_177 : decode cL_law 177 = .ok (.iaload, 1) := by decide +kernel
theorem dL_law_178 : decode cL_law 178 = .ok (.aload_n 0, 1) := by decide +kernel
theorem dL_law_179 : decode cL_law 179 = .ok (.iload_n 3, 1) := by decide +kernel
theorem dL_law_180 : decode cL_law 180 = .ok (.iconst 2, 1) := by decide +kernel
theorem dL_law_181 : decode cL_law 181 = .ok (.iadd, 1) := by decide +kernel
theorem dL_law_182 : decode cL_law 182 = .ok (.iaload, 1) := by decide +kernel
theorem dL_law_183 : decode cL_law 183 = .ok (.invokevirtual 26, 3) := by decide +kernel
theorem dL_law_186 : decode cL_law 186 = .ok (.if_icmp .eq 169, 3) := by decide +kernel
theorem dL_law_189 : decode cL_law 189 = .ok (.iconst 0, 1) := by decide +kernel
theorem dL_law_190 : decode cL_law 190 = .ok (.ireturn, 1) := by decide +kernel
theorem dL_law_191 : decode cL_law 191 = .ok (.aload_n 1, 1) := by decide +kernel
theorem dL_law_192 : decode cL_law 192 = .ok (.aload_n 0, 1) := by decide +kernel
theorem dL_law_193 : decode cL_law 193 = .ok (.iload_n 3, 1) := by decide +kernel
theorem dL_law_194 : decode cL_law 194 = .ok (.iconst 1, 1) := by decide +kernel
theorem dL_law_195 : decode cL_law 195 = .ok (.iadd, 1) := by decide +kernel
theorem dL_law_196 : decode cL_law 196 = .ok (.iaload, 1) := by decide +kernel
theorem dL_law_197 : decode cL_law 197 = .ok (.invokevirtual 27, 3) := by decide +kernel
theorem dL_law_200 : decode cL_law 200 = .ok (.aload_n 2, 1) := by decide +kernel
theorem dL_law_201 : decode cL_law 201 = .ok (.aload_n 0, 1) := by decide +kernel
theorem dL_law_202 : decode cL_law 202 = .ok (.iload_n 3, 1) := by decide +kernel
theorem dL_law_203 : decode cL_law 203 = .ok (.iconst 1, 1) := by decide +kernel
theorem dL_law_204 : decode cL_law 204 = .ok (.iadd, 1) := by decide +kernel
theorem dL_law_205 : decode cL_law 205 = .ok (.iaload, 1) := by decide +kernel
theorem dL_law_206 : decode cL_law 206 = .ok (.invokevirtual 31, 3) := by decide +kernel
theorem dL_law_209 : decode cL_law 209 = .ok (.if_icmp .eq 146, 3) := by decide +kernel
theorem dL_law_212 : decode cL_law 212 = .ok (.iconst 0, 1) := by decide +kernel
theorem dL_law_213 : decode cL_law 213 = .ok (.ireturn, 1) := by decide +kernel
theorem dL_law_214 : decode cL_law 214 = .ok (.aload_n 1, 1) := by decide +kernel
theorem dL_law_215 : decode cL_law 215 = .ok (.invokevirtual 32, 3) := by decide +kernel
theorem dL_law_218 : decode cL_law 218 = .ok (.aload_n 2, 1) := by decide +kernel
theorem dL_law_219 : decode cL_law 219 = .ok (.invokevirtual 36, 3) := by decide +kernel
theorem dL_law_222 : decode cL_law 222 = .ok (.if_icmp .eq 133, 3) := by decide +kernel
theorem dL_law_225 : decode cL_law 225 = .ok (.iconst 0, 1) := by decide +kernel
theorem dL_law_226 : decode cL_law 226 = .ok (.ireturn, 1) := by decide +kernel
theorem dL_law_227 : decode cL_law 227 = .ok (.aload_n 1, 1) := by decide +kernel
theorem dL_law_228 : decode cL_law 228 = .ok (.aload_n 0, 1) := by decide +kernel
theorem dL_law_229 : decode cL_law 229 = .ok (.iload_n 3, 1) := by decide +kernel
theorem dL_law_230 : decode cL_law 230 = .ok (.iconst 1, 1) := by decide +kernel
theorem dL_law_231 : decode cL_law 231 = .ok (.iadd, 1) := by decide +kernel
theorem dL_law_232 : decode cL_law 232 = .ok (.iaload, 1) := by decide +kernel
theorem dL_law_233 : decode cL_law 233 = .ok (.aload_n 0, 1) := by decide +kernel
theorem dL_law_234 : decode cL_law 234 = .ok (.iload_n 3, 1) := by decide +kernel
theorem dL_law_235 : decode cL_law 235 = .ok (.iconst 2, 1) := by decide +kernel
theorem dL_law_236 : decode cL_law 236 = .ok (.iadd, 1) := by decide +kernel
theorem dL_law_237 : decode cL_law 237 = .ok (.iaload, 1) := by decide +kernel
theorem dL_law_238 : decode cL_law 238 = .ok (.invokevirtual 37, 3) := by decide +kernel
theorem dL_law_241 : decode cL_law 241 = .ok (.aload_n 2, 1) := by decide +kernel
theorem dL_law_242 : decode cL_law 242 = .ok (.aload_n 0, 1) := by decide +kernel
theorem dL_law_243 : decode cL_law 243 = .ok (.iload_n 3, 1) := by decide +kernel
theorem dL_law_244 : decode cL_law 244 = .ok (.iconst 1, 1) := by decide +kernel
theorem dL_law_245 : decode cL_law 245 = .ok (.iadd, 1) := by decide +kernel
theorem dL_law_246 : decode cL_law 246 = .ok (.iaload, 1) := by decide +kernel
theorem dL_law_247 : decode cL_law 247 = .ok (.aload_n 0, 1) := by decide +kernel
theorem dL_law_248 : decode cL_law 248 = .ok (.iload_n 3, 1) := by decide +kernel
theorem dL_law_249 : decode cL_law 249 = .ok (.iconst 2, 1) := by decide +kernel
theorem dL_law_250 : decode cL_law 250 = .ok (.iadd, 1) := by decide +kernel
theorem dL_law_251 : decode cL_law 251 = .ok (.iaload, 1) := by decide +kernel
theorem dL_law_252 : decode cL_law 252 = .ok (.invokevirtual 40, 3) := by decide +kernel
theorem dL_law_255 : decode cL_law 255 = .ok (.if_icmp .eq 100, 3) := by decide +kernel
theorem dL_law_258 : decode cL_law 258 = .ok (.iconst 0, 1) := by decide +kernel
theorem dL_law_259 : decode cL_law 259 = .ok (.ireturn, 1) := by decide +kernel
theorem dL_law_260 : decode cL_law 260 = .ok (.aload_n 1, 1) := by decide +kernel
theorem dL_law_261 : decode cL_law 261 = .ok (.aload_n 0, 1) := by decide +kernel
theorem dL_law_262 : decode cL_law 262 = .ok (.iload_n 3, 1) := by decide +kernel
theorem dL_law_263 : decode cL_law 263 = .ok (.iconst 1, 1) := by decide +kernel
theorem dL_law_264 : decode cL_law 264 = .ok (.iadd, 1) := by decide +kernel
theorem dL_law_265 : decode cL_law 265 = .ok (.iaload, 1) := by decide +kernel
theorem dL_law_266 : decode cL_law 266 = .ok (.aload_n 0, 1) := by decide +kernel
theorem dL_law_267 : decode cL_law 267 = .ok (.iload_n 3, 1) := by decide +kernel
theorem dL_law_268 : decode cL_law 268 = .ok (.iconst 2, 1) := by decide +kernel
theorem dL_law_269 : decode cL_law 269 = .ok (.iadd, 1) := by decide +kernel
theorem dL_law_270 : decode cL_law 270 = .ok (.iaload, 1) := by decide +kernel
theorem dL_law_271 : decode cL_law 271 = .ok (.invokevirtual 41, 3) := by decide +kernel
theorem dL_law_274 : decode cL_law 274 = .ok (.aload_n 2, 1) := by decide +kernel
theorem dL_law_275 : decode cL_law 275 = .ok (.aload_n 0, 1) := by decide +kernel
theorem dL_law_276 : decode cL_law 276 = .ok (.iload_n 3, 1) := by decide +kernel
theorem dL_law_277 : decode cL_law 277 = .ok (.iconst 1, 1) := by decide +kernel
theorem dL_law_278 : decode cL_law 278 = .ok (.iadd, 1) := by decide +kernel
theorem dL_law_279 : decode cL_law 279 = .ok (.iaload, 1) := by decide +kernel
theorem dL_law_280 : decode cL_law 280 = .ok (.aload_n 0, 1) := by decide +kernel
theorem dL_law_281 : decode cL_law 281 = .ok (.iload_n 3, 1) := by decide +kernel
theorem dL_law_282 : decode cL_law 282 = .ok (.iconst 2, 1) := by decide +kernel
theorem dL_law_283 : decode cL_law 283 = .ok (.iadd, 1) := by decide +kernel
theorem dL_law_284 : decode cL_law 284 = .ok (.iaload, 1) := by decide +kernel
theorem dL_law_285 : decode cL_law 285 = .ok (.invokevirtual 44, 3) := by decide +kernel
theorem dL_law_288 : decode cL_law 288 = .ok (.if_icmp .eq 67, 3) := by decide +kernel
theorem dL_law_291 : decode cL_law 291 = .ok (.iconst 0, 1) := by decide +kernel
theorem dL_law_292 : decode cL_law 292 = .ok (.ireturn, 1) := by decide +kernel
theorem dL_law_293 : decode cL_law 293 = .ok (.aload_n 1, 1) := by decide +kernel
theorem dL_law_294 : decode cL_law 294 = .ok (.invokevirtual 45, 3) := by decide +kernel
theorem dL_law_297 : decode cL_law 297 = .ok (.aload_n 2, 1) := by decide +kernel
theorem dL_law_298 : decode cL_law 298 = .ok (.invokevirtual 48, 3) := by decide +kernel
theorem dL_law_301 : decode cL_law 301 = .ok (.if_icmp .eq 54, 3) := by decide +kernel
theorem dL_law_304 : decode cL_law 304 = .ok (.iconst 0, 1) := by decide +kernel
theorem dL_law_305 : decode cL_law 305 = .ok (.ireturn, 1) := by decide +kernel
theorem dL_law_306 : decode cL_law 306 = .ok (.aload_n 1, 1) := by decide +kernel
theorem dL_law_307 : decode cL_law 307 = .ok (.invokevirtual 49, 3) := by decide +kernel
theorem dL_law_310 : decode cL_law 310 = .ok (.aload_n 2, 1) := by decide +kernel
theorem dL_law_311 : decode cL_law 311 = .ok (.invokevirtual 52, 3) := by decide +kernel
theorem dL_law_314 : decode cL_law 314 = .ok (.if_icmp .eq 41, 3) := by decide +kernel
theorem dL_law_317 : decode cL_law 317 = .ok (.iconst 0, 1) := by decide +kernel
theorem dL_law_318 : decode cL_law 318 = .ok (.ireturn, 1) := by decide +kernel
theorem dL_law_319 : decode cL_law 319 = .ok (.aload_n 1, 1) := by decide +kernel
theorem dL_law_320 : decode cL_law 320 = .ok (.aload_n 0, 1) := by decide +kernel
theorem dL_law_321 : decode cL_law 321 = .ok (.iload_n 3, 1) := by decide +kernel
theorem dL_law_322 : decode cL_law 322 = .ok (.iconst 1, 1) := by decide +kernel
theorem dL_law_323 : decode cL_law 323 = .ok (.iadd, 1) := by decide +kernel
theorem dL_law_324 : decode cL_law 324 = .ok (.iaload, 1) := by decide +kernel
theorem dL_law_325 : decode cL_law 325 = .ok (.invokevirtual 53, 3) := by decide +kernel
theorem dL_law_328 : decode cL_law 328 = .ok (.aload_n 2, 1) := by decide +kernel
theorem dL_law_329 : decode cL_law 329 = .ok (.aload_n 0, 1) := by decide +kernel
theorem dL_law_330 : decode cL_law 330 = .ok (.iload_n 3, 1) := by decide +kernel
theorem dL_law_331 : decode cL_law 331 = .ok (.iconst 1, 1) := by decide +kernel
theorem dL_law_332 : decode cL_law 332 = .ok (.iadd, 1) := by decide +kernel
theorem dL_law_333 : decode cL_law 333 = .ok (.iaload, 1) := by decide +kernel
theorem dL_law_334 : decode cL_law 334 = .ok (.invokevirtual 56, 3) := by decide +kernel
theorem dL_law_337 : decode cL_law 337 = .ok (.if_icmp .eq 18, 3) := by decide +kernel
theorem dL_law_340 : decode cL_law 340 = .ok (.iconst 0, 1) := by decide +kernel
theorem dL_law_341 : decode cL_law 341 = .ok (.ireturn, 1) := by decide +kernel
theorem dL_law_342 : decode cL_law 342 = .ok (.aload_n 1, 1) := by decide +kernel
theorem dL_law_343 : decode cL_law 343 = .ok (.invokevirtual 57, 3) := by decide +kernel
theorem dL_law_346 : decode cL_law 346 = .ok (.aload_n 2, 1) := by decide +kernel
theorem dL_law_347 : decode cL_law 347 = .ok (.invokevirtual 60, 3) := by decide +kernel
theorem dL_law_350 : decode cL_law 350 = .ok (.if_icmp .eq 5, 3) := by decide +kernel
theorem dL_law_353 : decode cL_law 353 = .ok (.iconst 0, 1) := by decide +kernel
theorem dL_law_354 : decode cL_law 354 = .ok (.ireturn, 1) := by decide +kernel
theorem dL_law_355 : decode cL_law 355 = .ok (.iinc 3 3, 3) := by decide +kernel
theorem dL_law_358 : decode cL_law 358 = .ok (.goto (-340), 3) := by decide +kernel
theorem dL_law_361 : decode cL_law 361 = .ok (.iconst 1, 1) := by decide +kernel
theorem dL_law_362 : decode cL_law 362 = .ok (.ireturn, 1) := by decide +kernel
end
section
/-! truth values and sets of points below 12 as ints; counting -/
/-- a choice by a proposition -/
noncomputable def cif {α : Type} (P : Prop) (a b : α) : α := @ite _ P (Classical.propDecidable P) a b
theorem cif_t {α : Type} {P : Prop} {a b : α} (h : P) : cif P a b = a := by unfold cif; exact if_pos h
theorem cif_f {α : Type} {P : Prop} {a b : α} (h : ¬ P) : cif P a b = b := by unfold cif; exact if_neg h
theorem cif_cong {α : Type} {P Q : Prop} {a b : α} (h : P ↔ Q) : cif P a b = cif Q a b := by
  by_cases hP : P
  · rw [cif_t hP, cif_t (h.mp hP)]
  · rw [cif_f hP, cif_f (fun q => hP (h.mpr q))]
noncomputable def b01 (P : Prop) : Int32 := cif P 1 0
theorem b01_t {P : Prop} (h : P) : b01 P = 1 := cif_t h
theorem b01_f {P : Prop} (h : ¬ P) : b01 P = 0 := cif_f h
theorem b01_cong {P Q : Prop} (h : P ↔ Q) : b01 P = b01 Q := cif_cong h
theorem b01_0 {P : Prop} : b01 P = 0 ↔ ¬ P := by
  by_cases h : P
  · rw [b01_t h]; exact ⟨fun q => absurd q (by decide), fun q => absurd h q⟩
  · rw [b01_f h]; exact ⟨fun _ => h, fun _ => rfl⟩
theorem b01_n {P : Prop} (h : ¬ b01 P = 0) : P := Classical.byContradiction fun q => h (b01_0.mpr q)
theorem b01_e {P : Prop} (h : b01 P = 0) : ¬ P := b01_0.mp h
theorem b01_nar (P : Prop) : narrow .boolean (.int (b01 P)) = .int (b01 P) := by
  by_cases h : P
  · rw [b01_t h]; rfl
  · rw [b01_f h]; rfl
theorem b01_vp (P : Prop) : vp_nar .boolean (b01 P) = b01 P := by unfold vp_nar; rw [b01_nar]
theorem b01_1 {P : Prop} : b01 P = 1 ↔ P := by
  by_cases h : P
  · rw [b01_t h]; exact ⟨fun _ => h, fun _ => rfl⟩
  · rw [b01_f h]; exact ⟨fun q => absurd q (by decide), fun q => absurd q h⟩
theorem b01_cases (P : Prop) : (P ∧ b01 P = 1) ∨ (¬ P ∧ b01 P = 0) := by
  by_cases h : P
  · exact Or.inl ⟨h, b01_t h⟩
  · exact Or.inr ⟨h, b01_f h⟩
/-! ===== Int32 by its bits: bt x i ===== -/
def bt (x : Int32) (i : Nat) : Bool := x.toBitVec.getLsbD i
theorem b_ext {x y : Int32} (h : ∀ i, i < 32 → bt x i = bt y i) : x = y := Int32.toBitVec_inj.mp (BitVec.eq_of_getLsbD_eq (fun i hi => h i hi))
theorem b_or (x y : Int32) (i : Nat) : bt (x ||| y) i = (bt x i || bt y i) := by unfold bt; rw [Int32.toBitVec_or, BitVec.getLsbD_or]
theorem b_and (x y : Int32) (i : Nat) : bt (x &&& y) i = (bt x i && bt y i) := by unfold bt; rw [Int32.toBitVec_and, BitVec.getLsbD_and]
theorem b_xor (x y : Int32) (i : Nat) : bt (x ^^^ y) i = (bt x i ^^ bt y i) := by unfold bt; rw [Int32.toBitVec_xor, BitVec.getLsbD_xor]
theorem b_m1 : ∀ i, i < 32 → bt (-1) i = true := by decide +kernel
theorem b_0 (i : Nat) : bt 0 i = false := BitVec.getLsbD_zero
theorem s_l : ∀ n, n < 32 → ((nI n &&& 31).toBitVec.smod 32).toNat = n := by decide +kernel
theorem b_shl (n : Nat) (hn : n < 32) (x : Int32) {i : Nat} (hi : i < 32) : bt (x <<< (nI n &&& 31)) i = (decide (n ≤ i) && bt x (i - n)) := by
  unfold bt
  rw [Int32.toBitVec_shiftLeft]
  show (x.toBitVec <<< ((nI n &&& 31).toBitVec.smod 32).toNat).getLsbD i = _
  rw [s_l n hn, BitVec.getLsbD_shiftLeft]
  rcases Nat.lt_or_ge i n with h | h
  · simp [h, Nat.not_le.mpr h]
  · simp [hi, h, Nat.not_lt.mpr h]
theorem b_sshr (n : Nat) (hn : n < 32) (x : Int32) {i : Nat} (hi : i < 32) : bt (x >>> (nI n &&& 31)) i = if n + i < 32 then bt x (n + i) else bt x 31 := by
  unfold bt
  rw [Int32.toBitVec_shiftRight]
  show (x.toBitVec.sshiftRight ((nI n &&& 31).toBitVec.smod 32).toNat).getLsbD i = _
  rw [s_l n hn, BitVec.getLsbD_sshiftRight, BitVec.msb_eq_getLsbD_last]
  simp [hi]
/-! ===== a set of points below 12 as an int ===== -/
noncomputable def bmN (P : Nat → Prop) : Nat → Nat
  | 0 => 0
  | n + 1 => bmN P n ||| cif (P n) (2 ^ n) 0
noncomputable def bm (P : Nat → Prop) : Int32 := nI (bmN P 12)
theorem bmN_bit (P : Nat → Prop) (i : Nat) : ∀ n, (bmN P n).testBit i = true ↔ i < n ∧ P i
  | 0 => by
    unfold bmN
    rw [Nat.zero_testBit]
    exact ⟨fun h => (by cases h), fun h => absurd h.1 (Nat.not_lt_zero _)⟩
  | n + 1 => by
    unfold bmN
    rw [Nat.testBit_or, Bool.or_eq_true, bmN_bit P i n]
    by_cases hP : P n
    · rw [cif_t hP, Nat.testBit_two_pow, decide_eq_true_iff]
      constructor
      · rintro (⟨h1, h2⟩ | h)
        · exact ⟨by omega, h2⟩
        · subst h; exact ⟨by omega, hP⟩
      · rintro ⟨h1, h2⟩
        rcases Nat.lt_or_ge i n with h | h
        · exact Or.inl ⟨h, h2⟩
        · exact Or.inr (by omega)
    · rw [cif_f hP, Nat.zero_testBit]
      constructor
      · rintro (⟨h1, h2⟩ | h)
        · exact ⟨by omega, h2⟩
        · cases h
      · rintro ⟨h1, h2⟩
        refine Or.inl ⟨?_, h2⟩
        rcases Nat.lt_or_ge i n with h | h
        · exact h
        · exact absurd (by rw [show n = i by omega]; exact h2) hP
theorem bt_nI (n : Nat) {i : Nat} (hi : i < 32) : bt (nI n) i = n.testBit i := by
  unfold bt
  show (BitVec.ofNat 32 n).getLsbD i = _
  rw [BitVec.getLsbD_ofNat]
  simp [hi]
theorem bt_bm (P : Nat → Prop) {i : Nat} (hi : i < 32) : bt (bm P) i = true ↔ i < 12 ∧ P i := by
  unfold bm
  rw [bt_nI _ hi]
  exact bmN_bit P i 12
theorem b_extP {x y : Int32} (h : ∀ i, i < 32 → (bt x i = true ↔ bt y i = true)) : x = y := b_ext fun i hi => by
  have := h i hi
  cases h1 : bt x i <;> cases h2 : bt y i <;> simp_all
theorem bm_is {x : Int32} {P : Nat → Prop} (h : ∀ i, i < 32 → (bt x i = true ↔ i < 12 ∧ P i)) : x = bm P := b_extP fun i hi => by rw [h i hi, bt_bm P hi]
theorem bm_cong {P Q : Nat → Prop} (h : ∀ i, i < 12 → (P i ↔ Q i)) : bm P = bm Q := bm_is fun i hi => by
  rw [bt_bm P hi]
  exact ⟨fun q => ⟨q.1, (h i q.1).mp q.2⟩, fun q => ⟨q.1, (h i q.1).mpr q.2⟩⟩
theorem bm_inj {P Q : Nat → Prop} (h : bm P = bm Q) : ∀ i, i < 12 → (P i ↔ Q i) := fun i hi => by
  have h1 := bt_bm P (i := i) (by omega)
  have h2 := bt_bm Q (i := i) (by omega)
  rw [h] at h1
  exact ⟨fun p => (h2.mp (h1.mpr ⟨hi, p⟩)).2, fun p => (h1.mp (h2.mpr ⟨hi, p⟩)).2⟩
theorem bm_0 : bm (fun _ => False) = 0 := (bm_is (x := 0) fun i hi => by rw [b_0]; exact ⟨fun h => (by cases h), fun h => h.2.elim⟩).symm
theorem bm_z {P : Nat → Prop} (h : ∀ i, i < 12 → ¬ P i) : bm P = 0 := by rw [← bm_0]; exact bm_cong fun i hi => ⟨fun q => h i hi q, fun q => q.elim⟩
theorem bm_e {P : Nat → Prop} (h : bm P = 0) : ∀ i, i < 12 → ¬ P i := by
  rw [← bm_0] at h
  exact fun i hi q => (bm_inj h i hi).mp q
theorem bm_ne {P : Nat → Prop} (h : ¬ bm P = 0) : ∃ i, i < 12 ∧ P i := Classical.byContradiction fun q => h (bm_z fun i hi hp => q ⟨i, hi, hp⟩)
theorem bm_or (P Q : Nat → Prop) : bm P ||| bm Q = bm (fun i => P i ∨ Q i) := bm_is fun i hi => by
  rw [b_or, Bool.or_eq_true, bt_bm P hi, bt_bm Q hi]
  constructor
  · rintro (h | h)
    · exact ⟨h.1, Or.inl h.2⟩
    · exact ⟨h.1, Or.inr h.2⟩
  · rintro ⟨h, q | q⟩
    · exact Or.inl ⟨h, q⟩
    · exact Or.inr ⟨h, q⟩
theorem bm_andn (P Q : Nat → Prop) : bm P &&& (bm Q ^^^ (-1)) = bm (fun i => P i ∧ ¬ Q i) := bm_is fun i hi => by
  have h2 := bt_bm Q hi
  rw [b_and, Bool.and_eq_true, b_xor, b_m1 i hi, bt_bm P hi]
  constructor
  · rintro ⟨⟨h, p⟩, q⟩
    refine ⟨h, p, fun hq => ?_⟩
    rw [h2.mpr ⟨h, hq⟩] at q
    cases q
  · rintro ⟨h, p, q⟩
    refine ⟨⟨h, p⟩, ?_⟩
    cases hb : bt (bm Q) i
    · rfl
    · exact absurd (h2.mp hb).2 q
theorem bt_1 : ∀ i, i < 32 → (bt 1 i = true ↔ i = 0) := by decide +kernel
theorem bm_one {a : Nat} (ha : a < 12) : (1 : Int32) <<< (nI a &&& 31) = bm (fun i => i = a) := bm_is fun i hi => by
  rw [b_shl a (by omega) _ hi, Bool.and_eq_true, decide_eq_true_iff, bt_1 (i - a) (by omega)]
  exact ⟨fun h => ⟨by omega, by omega⟩, fun h => ⟨by omega, by omega⟩⟩
theorem bt_b01 (P : Prop) {i : Nat} (hi : i < 32) : bt (b01 P) i = true ↔ i = 0 ∧ P := by
  by_cases h : P
  · rw [b01_t h, bt_1 i hi]; exact ⟨fun q => ⟨q, h⟩, fun q => q.1⟩
  · rw [b01_f h, b_0]; exact ⟨fun q => (by cases q), fun q => absurd q.2 h⟩
theorem bm_bit (P : Nat → Prop) {x : Nat} (hx : x < 12) : (bm P >>> (nI x &&& 31)) &&& 1 = b01 (P x) := b_extP fun i hi => by
  rw [b_and, Bool.and_eq_true, bt_1 i hi, bt_b01 _ hi, b_sshr x (by omega) _ hi]
  constructor
  · rintro ⟨h1, h2⟩
    subst h2
    rw [if_pos (by omega), bt_bm P (by omega)] at h1
    exact ⟨rfl, h1.2⟩
  · rintro ⟨h1, h2⟩
    subst h1
    rw [if_pos (by omega), bt_bm P (by omega)]
    exact ⟨⟨hx, h2⟩, rfl⟩
theorem bmN_lt (P : Nat → Prop) : ∀ n, bmN P n < 2 ^ n
  | 0 => by unfold bmN; decide
  | n + 1 => by
    unfold bmN
    have h := bmN_lt P n
    refine Nat.or_lt_two_pow (Nat.lt_of_lt_of_le h (Nat.pow_le_pow_right (by decide) (Nat.le_succ n))) ?_
    by_cases hP : P n
    · rw [cif_t hP]; exact Nat.pow_lt_pow_right (by decide) (Nat.lt_succ_self n)
    · rw [cif_f hP]; exact Nat.two_pow_pos _
theorem nI_s16a : ∀ a, a < 64 → ∀ b, b < 64 → (nI (64 * a + b)).toInt16.toInt32 = nI (64 * a + b) := by decide +kernel
theorem nI_s16 {n : Nat} (h : n < 4096) : (nI n).toInt16.toInt32 = nI n := by
  have h1 := nI_s16a (n / 64) (by omega) (n % 64) (by omega)
  rw [show 64 * (n / 64) + n % 64 = n by omega] at h1
  exact h1
theorem bm_i2s (P : Nat → Prop) : (bm P).toInt16.toInt32 = bm P := nI_s16 (bmN_lt P 12)
theorem bm_vps (P : Nat → Prop) : vp_nar .short (bm P) = bm P := by rw [vp_nar_short, bm_i2s]
theorem bm_low : ∀ u, u < 12 → ∀ i, i < 32 → (bt (((1 : Int32) <<< (nI u &&& 31)) - 1) i = true ↔ i < u) := by decide +kernel
theorem bm_lowz {P : Nat → Prop} {u : Nat} (hu : u < 12) : bm P &&& (((1 : Int32) <<< (nI u &&& 31)) - 1) = bm (fun i => P i ∧ i < u) := bm_is fun i hi => by
  rw [b_and, Bool.and_eq_true, bm_low u hu i hi, bt_bm P hi]
  exact ⟨fun h => ⟨h.1.1, h.1.2, h.2⟩, fun h => ⟨⟨h.1, h.2.1⟩, h.2.2⟩⟩
/-! ===== counting ===== -/
noncomputable def ctP (P : Nat → Prop) : Nat → Nat
  | 0 => 0
  | n + 1 => ctP P n + cif (P n) 1 0
theorem ctP_t {P : Nat → Prop} {n : Nat} (h : P n) : ctP P (n + 1) = ctP P n + 1 := by
  show ctP P n + cif (P n) 1 0 = _
  rw [cif_t h]
theorem ctP_f {P : Nat → Prop} {n : Nat} (h : ¬ P n) : ctP P (n + 1) = ctP P n := by
  show ctP P n + cif (P n) 1 0 = _
  rw [cif_f h]; rfl
theorem ctP_le (P : Nat → Prop) : ∀ n, ctP P n ≤ n
  | 0 => Nat.le_refl _
  | n + 1 => by
    have h := ctP_le P n
    by_cases hP : P n
    · rw [ctP_t hP]; omega
    · rw [ctP_f hP]; omega
theorem ctP_sub {P Q : Nat → Prop} : ∀ {n : Nat}, (∀ k, k < n → P k → Q k) → ctP P n ≤ ctP Q n
  | 0, _ => Nat.le_refl _
  | n + 1, h => by
    have h1 := ctP_sub (P := P) (Q := Q) (n := n) (fun k hk => h k (by omega))
    by_cases hP : P n
    · rw [ctP_t hP, ctP_t (h n (by omega) hP)]; omega
    · rw [ctP_f hP]
      by_cases hQ : Q n
      · rw [ctP_t hQ]; omega
      · rw [ctP_f hQ]; exact h1
theorem ctP_cong {P Q : Nat → Prop} {n : Nat} (h : ∀ k, k < n → (P k ↔ Q k)) : ctP P n = ctP Q n :=
  Nat.le_antisymm (ctP_sub fun k hk => (h k hk).mp) (ctP_sub fun k hk => (h k hk).mpr)
/-- one more -/
theorem ctP_add {P Q : Nat → Prop} {a : Nat} : ∀ {n : Nat}, a < n → ¬ P a → Q a → (∀ k, k ≠ a → (Q k ↔ P k)) → ctP Q n = ctP P n + 1
  | 0, h, _, _, _ => absurd h (Nat.not_lt_zero _)
  | n + 1, h, hp, hq, he => by
    rcases Nat.lt_or_ge a n with q | q
    · have h1 := ctP_add (n := n) q hp hq he
      by_cases hP : P n
      · rw [ctP_t hP, ctP_t ((he n (by omega)).mpr hP)]; omega
      · rw [ctP_f hP, ctP_f (fun z => hP ((he n (by omega)).mp z))]; omega
    · have e : a = n := by omega
      subst e
      rw [ctP_t hq, ctP_f hp, ctP_cong (P := Q) (Q := P) (fun k hk => he k (by omega))]
theorem ctP_pos {P : Nat → Prop} {a n : Nat} (ha : a < n) (h : P a) : 1 ≤ ctP P n := by
  have h1 := ctP_sub (P := fun k => k = a) (Q := P) (n := n) (fun k _ e => by rw [e]; exact h)
  have h2 := ctP_add (P := fun _ => False) (Q := fun k => k = a) ha (fun q => q) rfl (fun k hk => ⟨fun e => hk e, fun q => q.elim⟩)
  omega
theorem ctP_two {P : Nat → Prop} {a b n : Nat} (ha : a < n) (hb : b < n) (hab : a ≠ b) (h : P a) (h' : P b) : 2 ≤ ctP P n := by
  have h1 := ctP_pos (P := fun k => P k ∧ k ≠ b) ha ⟨h, hab⟩
  have h2 := ctP_add (P := fun k => P k ∧ k ≠ b) (Q := P) hb (fun q => q.2 rfl) h' (fun k hk => ⟨fun q => ⟨q, hk⟩, fun q => q.1⟩)
  omega
/-- strictly more -/
theorem ctP_lt {P Q : Nat → Prop} {a n : Nat} (ha : a < n) (hs : ∀ k, k < n → P k → Q k) (hp : ¬ P a) (hq : Q a) : ctP P n + 1 ≤ ctP Q n := by
  have h1 := ctP_sub (P := P) (Q := fun k => Q k ∧ k ≠ a) (n := n) (fun k hk h => ⟨hs k hk h, fun e => hp (by rw [← e]; exact h)⟩)
  have h2 := ctP_add (P := fun k => Q k ∧ k ≠ a) (Q := Q) ha (fun q => q.2 rfl) hq (fun k hk => ⟨fun q => ⟨q, hk⟩, fun q => q.1⟩)
  omega
theorem ctP_or {P Q : Nat → Prop} : ∀ {n : Nat}, (∀ k, k < n → P k → ¬ Q k) → ctP (fun k => P k ∨ Q k) n = ctP P n + ctP Q n
  | 0, _ => rfl
  | n + 1, h => by
    have h1 := ctP_or (P := P) (Q := Q) (n := n) (fun k hk => h k (by omega))
    have h2 := h n (by omega)
    by_cases hP : P n
    · rw [ctP_t hP, ctP_f (h2 hP), ctP_t (P := fun k => P k ∨ Q k) (Or.inl hP)]; omega
    · by_cases hQ : Q n
      · rw [ctP_f hP, ctP_t hQ, ctP_t (P := fun k => P k ∨ Q k) (Or.inr hQ)]; omega
      · rw [ctP_f hP, ctP_f hQ, ctP_f (P := fun k => P k ∨ Q k) (fun z => z.elim hP hQ)]; omega
theorem ctP_0 {P : Nat → Prop} {n : Nat} (h : ∀ k, k < n → ¬ P k) : ctP P n = 0 := by
  have h1 := ctP_cong (P := P) (Q := fun _ => False) (n := n) (fun k hk => ⟨fun q => h k hk q, fun q => q.elim⟩)
  rw [h1]
  clear h1 h
  induction n with
  | zero => rfl
  | succ n ih => rw [ctP_f (fun q => q)]; exact ih
theorem ctP_all {P : Nat → Prop} {n : Nat} (h : ∀ k, k < n → P k) : ctP P n = n := by
  induction n with
  | zero => rfl
  | succ n ih => rw [ctP_t (h n (by omega)), ih (fun k hk => h k (by omega))]
/-- a sum -/
def smN (f : Nat → Nat) : Nat → Nat
  | 0 => 0
  | n + 1 => smN f n + f n
theorem smN_cong {f g : Nat → Nat} : ∀ {n : Nat}, (∀ k, k < n → f k = g k) → smN f n = smN g n
  | 0, _ => rfl
  | n + 1, h => by
    show smN f n + f n = smN g n + g n
    rw [smN_cong (fun k hk => h k (by omega)), h n (by omega)]
theorem smN_add {f g : Nat → Nat} {a : Nat} : ∀ {n : Nat}, a < n → g a = f a + 1 → (∀ k, k ≠ a → g k = f k) → smN g n = smN f n + 1
  | 0, h, _, _ => absurd h (Nat.not_lt_zero _)
  | n + 1, h, h1, h2 => by
    show smN g n + g n = smN f n + f n + 1
    rcases Nat.lt_or_ge a n with q | q
    · rw [smN_add (n := n) q h1 h2, h2 n (by omega)]; omega
    · have e : a = n := by omega
      subst e
      rw [smN_cong (f := g) (g := f) (fun k hk => h2 k (by omega)), h1]; omega
theorem smN_le {f : Nat → Nat} {b : Nat} : ∀ {n : Nat}, (∀ k, k < n → f k ≤ b) → smN f n ≤ n * b
  | 0, _ => by show 0 ≤ _; omega
  | n + 1, h => by
    show smN f n + f n ≤ (n + 1) * b
    have h1 := smN_le (f := f) (b := b) (n := n) (fun k hk => h k (by omega))
    have h2 := h n (by omega)
    rw [Nat.succ_mul]; omega
theorem smN_0 {f : Nat → Nat} {n : Nat} (h : ∀ k, k < n → f k = 0) : smN f n = 0 := by
  have := smN_le (f := f) (b := 0) (n := n) (fun k hk => by rw [h k hk]; exact Nat.le_refl _)
  omega
/-- the greatest -/
def mxN (f : Nat → Nat) : Nat → Nat
  | 0 => 0
  | n + 1 => if mxN f n < f n then f n else mxN f n
theorem mxN_ge {f : Nat → Nat} : ∀ {n k : Nat}, k < n → f k ≤ mxN f n
  | 0, k, h => absurd h (Nat.not_lt_zero _)
  | n + 1, k, h => by
    show f k ≤ if mxN f n < f n then f n else mxN f n
    rcases Nat.lt_or_ge k n with q | q
    · have h1 := mxN_ge (f := f) (n := n) q
      split <;> omega
    · have e : k = n := by omega
      subst e
      split <;> omega
theorem mxN_le {f : Nat → Nat} {b : Nat} : ∀ {n : Nat}, (∀ k, k < n → f k ≤ b) → mxN f n ≤ b
  | 0, _ => Nat.zero_le _
  | n + 1, h => by
    show (if mxN f n < f n then f n else mxN f n) ≤ b
    have h1 := mxN_le (f := f) (b := b) (n := n) (fun k hk => h k (by omega))
    have h2 := h n (by omega)
    split <;> omega
end
section
/-! reachability, edges put and taken, parts, the sum of degrees -/
def cn (R : Nat → Nat → Prop) (a b : Nat) : Prop := ∀ S : Nat → Prop, S a → (∀ x y, S x → R x y → S y) → S b
theorem cn_rf {R : Nat → Nat → Prop} (a : Nat) : cn R a a := fun _ h _ => h
theorem cn_st {R : Nat → Nat → Prop} {a b c : Nat} (h : cn R a b) (r : R b c) : cn R a c := fun S ha hc => hc b c (h S ha hc) r
theorem cn_1 {R : Nat → Nat → Prop} {a b : Nat} (r : R a b) : cn R a b := cn_st (cn_rf a) r
theorem cn_tr {R : Nat → Nat → Prop} {a b c : Nat} (h : cn R a b) (k : cn R b c) : cn R a c := fun S ha hc => k S (h S ha hc) hc
theorem cn_in {R Q : Nat → Nat → Prop} {a b : Nat} (h : cn R a b) (k : ∀ x y, R x y → cn Q x y) : cn Q a b := h (fun z => cn Q a z) (cn_rf a) (fun x y hx r => cn_tr hx (k x y r))
theorem cn_mo {R Q : Nat → Nat → Prop} {a b : Nat} (k : ∀ x y, R x y → Q x y) (h : cn R a b) : cn Q a b := cn_in h (fun x y r => cn_1 (k x y r))
theorem cn_sy {R : Nat → Nat → Prop} (sy : ∀ x y, R x y → R y x) {a b : Nat} (h : cn R a b) : cn R b a := h (fun z => cn R z a) (cn_rf a) (fun x y hx r => cn_tr (cn_1 (sy x y r)) hx)
/-- what is closed holds what is reached -/
theorem cn_cl {R : Nat → Nat → Prop} {S : Nat → Prop} (hc : ∀ x y, S x → R x y → S y) {a b : Nat} (ha : S a) (h : cn R a b) : S b := h S ha hc
theorem cn_lt {R : Nat → Nat → Prop} (hR : ∀ x y, R x y → y < 12) {a b : Nat} (ha : a < 12) (h : cn R a b) : b < 12 := h (fun z => z < 12) ha (fun x y _ r => hR x y r)
def ad (R : Nat → Nat → Prop) (a b : Nat) : Nat → Nat → Prop := fun x y => R x y ∨ (x = a ∧ y = b) ∨ (x = b ∧ y = a)
def dl (R : Nat → Nat → Prop) (a b : Nat) : Nat → Nat → Prop := fun x y => R x y ∧ ¬ (x = a ∧ y = b) ∧ ¬ (x = b ∧ y = a)
theorem ad_sy {R : Nat → Nat → Prop} {a b : Nat} (sy : ∀ x y, R x y → R y x) : ∀ x y, ad R a b x y → ad R a b y x := by
  rintro x y (h | ⟨h1, h2⟩ | ⟨h1, h2⟩)
  · exact Or.inl (sy x y h)
  · exact Or.inr (Or.inr ⟨h2, h1⟩)
  · exact Or.inr (Or.inl ⟨h2, h1⟩)
theorem dl_sy {R : Nat → Nat → Prop} {a b : Nat} (sy : ∀ x y, R x y → R y x) : ∀ x y, dl R a b x y → dl R a b y x := by
  rintro x y ⟨h, h1, h2⟩
  exact ⟨sy x y h, fun q => h2 ⟨q.2, q.1⟩, fun q => h1 ⟨q.2, q.1⟩⟩
theorem ad_in {R : Nat → Nat → Prop} {a b : Nat} : ∀ x y, R x y → ad R a b x y := fun _ _ h => Or.inl h
theorem dl_in {R : Nat → Nat → Prop} {a b : Nat} : ∀ x y, dl R a b x y → R x y := fun _ _ h => h.1
theorem ad_ab {R : Nat → Nat → Prop} {a b : Nat} : ad R a b a b := Or.inr (Or.inl ⟨rfl, rfl⟩)
theorem ad_ba {R : Nat → Nat → Prop} {a b : Nat} : ad R a b b a := Or.inr (Or.inr ⟨rfl, rfl⟩)
theorem ad_cm (R : Nat → Nat → Prop) (a b : Nat) : ad R a b = ad R b a := by
  funext x y
  refine propext ⟨fun h => ?_, fun h => ?_⟩
  · rcases h with h | h | h
    · exact Or.inl h
    · exact Or.inr (Or.inr h)
    · exact Or.inr (Or.inl h)
  · rcases h with h | h | h
    · exact Or.inl h
    · exact Or.inr (Or.inr h)
    · exact Or.inr (Or.inl h)
theorem dl_cm (R : Nat → Nat → Prop) (a b : Nat) : dl R a b = dl R b a := by
  funext x y
  exact propext ⟨fun h => ⟨h.1, h.2.2, h.2.1⟩, fun h => ⟨h.1, h.2.2, h.2.1⟩⟩
theorem ad_dl {R : Nat → Nat → Prop} {a b : Nat} (h1 : R a b) (h2 : R b a) : ad (dl R a b) a b = R := by
  funext x y
  refine propext ⟨fun h => ?_, fun h => ?_⟩
  · rcases h with h | ⟨e1, e2⟩ | ⟨e1, e2⟩
    · exact h.1
    · rw [e1, e2]; exact h1
    · rw [e1, e2]; exact h2
  · by_cases q1 : x = a ∧ y = b
    · exact Or.inr (Or.inl q1)
    · by_cases q2 : x = b ∧ y = a
      · exact Or.inr (Or.inr q2)
      · exact Or.inl ⟨h, q1, q2⟩
theorem dl_ad {R : Nat → Nat → Prop} {a b : Nat} (h1 : ¬ R a b) (h2 : ¬ R b a) : dl (ad R a b) a b = R := by
  funext x y
  refine propext ⟨fun h => ?_, fun h => ?_⟩
  · obtain ⟨h | h | h, q1, q2⟩ := h
    · exact h
    · exact absurd h q1
    · exact absurd h q2
  · refine ⟨Or.inl h, fun q => h1 ?_, fun q => h2 ?_⟩
    · rw [← q.1, ← q.2]; exact h
    · rw [← q.1, ← q.2]; exact h
theorem dl_no {R : Nat → Nat → Prop} {a b : Nat} (h1 : ¬ R a b) (h2 : ¬ R b a) : dl R a b = R := by
  funext x y
  refine propext ⟨fun h => h.1, fun h => ⟨h, fun q => h1 ?_, fun q => h2 ?_⟩⟩
  · rw [← q.1, ← q.2]; exact h
  · rw [← q.1, ← q.2]; exact h
/-- one edge more -/
theorem cn_ad {R : Nat → Nat → Prop} {a b x y : Nat} (h : cn (ad R a b) x y) : cn R x y ∨ (cn R x a ∧ cn R b y) ∨ (cn R x b ∧ cn R a y) := by
  refine h (fun y => cn R x y ∨ (cn R x a ∧ cn R b y) ∨ (cn R x b ∧ cn R a y)) (Or.inl (cn_rf x)) ?_
  rintro u v hu (r | ⟨rfl, rfl⟩ | ⟨rfl, rfl⟩)
  · rcases hu with h | ⟨h1, h2⟩ | ⟨h1, h2⟩
    · exact Or.inl (cn_st h r)
    · exact Or.inr (Or.inl ⟨h1, cn_st h2 r⟩)
    · exact Or.inr (Or.inr ⟨h1, cn_st h2 r⟩)
  · rcases hu with h | ⟨h1, _⟩ | ⟨h1, _⟩
    · exact Or.inr (Or.inl ⟨h, cn_rf _⟩)
    · exact Or.inr (Or.inl ⟨h1, cn_rf _⟩)
    · exact Or.inl h1
  · rcases hu with h | ⟨h1, _⟩ | ⟨h1, _⟩
    · exact Or.inr (Or.inr ⟨h, cn_rf _⟩)
    · exact Or.inl h1
    · exact Or.inr (Or.inr ⟨h1, cn_rf _⟩)
/-- an edge between points that are joined already changes nothing -/
theorem cn_adc {R : Nat → Nat → Prop} {a b x y : Nat} (h1 : cn R a b) (h2 : cn R b a) : cn (ad R a b) x y ↔ cn R x y := by
  refine ⟨fun h => cn_in h ?_, fun h => cn_mo ad_in h⟩
  rintro u v (r | ⟨rfl, rfl⟩ | ⟨rfl, rfl⟩)
  · exact cn_1 r
  · exact h1
  · exact h2
/-- no edge can go without parting its ends -/
def acy (R : Nat → Nat → Prop) : Prop := ∀ x y, R x y → ¬ cn (dl R x y) x y
theorem dl_mo {R Q : Nat → Nat → Prop} {a b : Nat} (h : ∀ x y, R x y → Q x y) : ∀ x y, dl R a b x y → dl Q a b x y := fun x y q => ⟨h x y q.1, q.2⟩
theorem acy_mo {R Q : Nat → Nat → Prop} (h : ∀ x y, Q x y → R x y) (k : acy R) : acy Q := fun x y q c => k x y (h x y q) (cn_mo (dl_mo h) c)
theorem acy_ad {R : Nat → Nat → Prop} {a b : Nat} (sy : ∀ x y, R x y → R y x) (k : acy R) (hn : ¬ cn R a b) : acy (ad R a b) := by
  intro x y r c
  have hab : ¬ R a b := fun q => hn (cn_1 q)
  have hba : ¬ R b a := fun q => hn (cn_1 (sy _ _ q))
  have self : ∀ x y, ((x = a ∧ y = b) ∨ (x = b ∧ y = a)) → ¬ cn (dl (ad R a b) x y) x y := by
    rintro x y (⟨rfl, rfl⟩ | ⟨rfl, rfl⟩) c
    · rw [dl_ad hab hba] at c; exact hn c
    · rw [dl_cm, dl_ad hab hba] at c; exact hn (cn_sy sy c)
  by_cases q : (x = a ∧ y = b) ∨ (x = b ∧ y = a)
  · exact self x y q c
  · have hxy : R x y := by
      rcases r with r | r | r
      · exact r
      · exact absurd (Or.inl r) q
      · exact absurd (Or.inr r) q
    have c2 : cn (ad (dl R x y) a b) x y := by
      refine cn_mo ?_ c
      rintro u v ⟨r | r | r, h1, h2⟩
      · exact Or.inl ⟨r, h1, h2⟩
      · exact Or.inr (Or.inl r)
      · exact Or.inr (Or.inr r)
    have ds := dl_sy (a := x) (b := y) sy
    rcases cn_ad c2 with h | ⟨h1, h2⟩ | ⟨h1, h2⟩
    · exact k x y hxy h
    · exact hn (cn_tr (cn_tr (cn_sy sy (cn_mo dl_in h1)) (cn_1 hxy)) (cn_sy sy (cn_mo dl_in h2)))
    · exact hn (cn_sy sy (cn_tr (cn_tr (cn_sy sy (cn_mo dl_in h1)) (cn_1 hxy)) (cn_sy sy (cn_mo dl_in h2))))
/-! ===== parts ===== -/
def lead (R : Nat → Nat → Prop) (x : Nat) : Prop := ∀ y, y < x → ¬ cn R y x
noncomputable def prts (R : Nat → Nat → Prop) : Nat := ctP (lead R) 12
theorem prts_le (R : Nat → Nat → Prop) : prts R ≤ 12 := ctP_le _ _
theorem prts_cong {R Q : Nat → Nat → Prop} (h : ∀ x y, cn R x y ↔ cn Q x y) : prts R = prts Q := ctP_cong fun x _ => ⟨fun l y hy c => l y hy ((h y x).mpr c), fun l y hy c => l y hy ((h y x).mp c)⟩
theorem lead_ex {R : Nat → Nat → Prop} (a : Nat) : ∃ k, k ≤ a ∧ cn R k a ∧ lead R k := by
  obtain ⟨k, h1, h2⟩ := pk_least (fun k => cn R k a) ⟨a, cn_rf a⟩
  refine ⟨k, ?_, h1, fun y hy c => h2 y hy (cn_tr c h1)⟩
  rcases Nat.lt_or_ge a k with q | q
  · exact absurd (cn_rf a) (h2 a q)
  · exact q
theorem lead_un {R : Nat → Nat → Prop} (sy : ∀ x y, R x y → R y x) {x y : Nat} (hx : lead R x) (hy : lead R y) (c : cn R x y) : x = y := by
  rcases Nat.lt_trichotomy x y with q | q | q
  · exact absurd c (hy x q)
  · exact q
  · exact absurd (cn_sy sy c) (hx y q)
theorem prts_ad0 {R : Nat → Nat → Prop} (sy : ∀ x y, R x y → R y x) {a b la lb : Nat} (hb : b < 12) (hn : ¬ cn R a b) (ha1 : cn R la a) (ha2 : lead R la) (hb0 : lb ≤ b) (hb1 : cn R lb b) (hb2 : lead R lb) (hlt : la < lb) : prts (ad R a b) + 1 = prts R := by
  refine (ctP_add (P := lead (ad R a b)) (Q := lead R) (a := lb) (by omega) ?_ hb2 ?_).symm
  · intro h
    exact h la hlt (cn_tr (cn_st (cn_mo ad_in ha1) ad_ab) (cn_mo ad_in (cn_sy sy hb1)))
  · intro x hx
    constructor
    · intro h y hy c
      rcases cn_ad c with q | ⟨q1, q2⟩ | ⟨q1, q2⟩
      · exact h y hy q
      · exact hx (lead_un sy h hb2 (cn_tr (cn_sy sy q2) (cn_sy sy hb1)))
      · have e : x = la := lead_un sy h ha2 (cn_tr (cn_sy sy q2) (cn_sy sy ha1))
        exact hb2 y (by omega) (cn_tr q1 (cn_sy sy hb1))
    · intro h y hy c
      exact h y hy (cn_mo ad_in c)
theorem prts_ad {R : Nat → Nat → Prop} (sy : ∀ x y, R x y → R y x) {a b : Nat} (ha : a < 12) (hb : b < 12) (hn : ¬ cn R a b) : prts (ad R a b) + 1 = prts R := by
  obtain ⟨la, la0, la1, la2⟩ := lead_ex (R := R) a
  obtain ⟨lb, lb0, lb1, lb2⟩ := lead_ex (R := R) b
  rcases Nat.lt_trichotomy la lb with q | q | q
  · exact prts_ad0 sy hb hn la1 la2 lb0 lb1 lb2 q
  · exact absurd (cn_tr (cn_sy sy la1) (by rw [q]; exact lb1)) hn
  · rw [ad_cm]
    exact prts_ad0 sy ha (fun c => hn (cn_sy sy c)) lb1 lb2 la0 la1 la2 q
theorem prts_adc {R : Nat → Nat → Prop} (sy : ∀ x y, R x y → R y x) {a b : Nat} (c : cn R a b) : prts (ad R a b) = prts R := prts_cong fun _ _ => cn_adc c (cn_sy sy c)
theorem prts_0 {R : Nat → Nat → Prop} (h : ∀ x y, ¬ R x y) : prts R = 12 := by
  refine ctP_all fun x _ y hy c => ?_
  have e : x = y := cn_cl (S := fun z => z = y) (fun u v _ r => absurd r (h u v)) rfl c
  omega
/-! ===== the sum of degrees ===== -/
noncomputable def dgs (E : Nat → Nat → Prop) : Nat := smN (fun u => ctP (E u) 12) 12
theorem dgs_le (E : Nat → Nat → Prop) : dgs E ≤ 144 := by
  have := smN_le (f := fun u => ctP (E u) 12) (b := 12) (n := 12) (fun k _ => ctP_le _ _)
  unfold dgs
  omega
theorem dgs_0 {E : Nat → Nat → Prop} (h : ∀ x y, ¬ E x y) : dgs E = 0 := smN_0 fun k _ => ctP_0 fun j _ => h k j
theorem dgs_ad {E : Nat → Nat → Prop} {a b : Nat} (ha : a < 12) (hb : b < 12) (hab : a ≠ b) (h1 : ¬ E a b) (h2 : ¬ E b a) : dgs (ad E a b) = dgs E + 2 := by
  have s1 : smN (fun u => ctP (fun y => E u y ∨ (u = a ∧ y = b)) 12) 12 = dgs E + 1 := by
    refine smN_add ha ?_ ?_
    · exact ctP_add hb h1 (Or.inr ⟨rfl, rfl⟩) (fun k hk => ⟨fun q => q.elim id (fun z => absurd z.2 hk), fun q => Or.inl q⟩)
    · intro k hk
      exact ctP_cong fun y _ => ⟨fun q => q.elim id (fun z => absurd z.1 hk), fun q => Or.inl q⟩
  have s2 : dgs (ad E a b) = smN (fun u => ctP (fun y => E u y ∨ (u = a ∧ y = b)) 12) 12 + 1 := by
    refine smN_add hb ?_ ?_
    · refine ctP_add ha ?_ (Or.inr (Or.inr ⟨rfl, rfl⟩)) ?_
      · rintro (q | q)
        · exact h2 q
        · exact hab q.1.symm
      · intro k hk
        constructor
        · rintro (q | q | q)
          · exact Or.inl q
          · exact Or.inr q
          · exact absurd q.2 hk
        · rintro (q | q)
          · exact Or.inl q
          · exact Or.inr (Or.inl q)
    · intro k hk
      refine ctP_cong fun y _ => ⟨?_, ?_⟩
      · rintro (q | q | q)
        · exact Or.inl q
        · exact Or.inr q
        · exact absurd q.1 hk
      · rintro (q | q)
        · exact Or.inl q
        · exact Or.inr (Or.inl q)
  omega
/-- a graph on 12 points -/
def gr (E : Nat → Nat → Prop) : Prop := (∀ x y, E x y → E y x) ∧ (∀ x y, E x y → x < 12) ∧ ∀ x, ¬ E x x
theorem gr_y {E : Nat → Nat → Prop} (h : gr E) {x y : Nat} (e : E x y) : y < 12 := h.2.1 y x (h.1 x y e)
theorem gr_ne {E : Nat → Nat → Prop} (h : gr E) {x y : Nat} (e : E x y) : x ≠ y := fun q => h.2.2 x (by rw [← q] at e; exact e)
theorem gr_ad {E : Nat → Nat → Prop} {a b : Nat} (h : gr E) (ha : a < 12) (hb : b < 12) (hab : a ≠ b) : gr (ad E a b) := by
  refine ⟨ad_sy h.1, ?_, ?_⟩
  · rintro x y (q | q | q)
    · exact h.2.1 x y q
    · rw [q.1]; exact ha
    · rw [q.1]; exact hb
  · rintro x (q | q | q)
    · exact h.2.2 x q
    · exact hab (q.1.symm.trans q.2)
    · exact hab (q.2.symm.trans q.1)
theorem gr_dl {E : Nat → Nat → Prop} (a b : Nat) (h : gr E) : gr (dl E a b) := ⟨dl_sy h.1, fun x y q => h.2.1 x y q.1, fun x q => h.2.2 x q.1⟩
theorem dgs_dl {E : Nat → Nat → Prop} {a b : Nat} (h : gr E) (e : E a b) : dgs E = dgs (dl E a b) + 2 := by
  have h1 := dgs_ad (E := dl E a b) (h.2.1 a b e) (gr_y h e) (gr_ne h e) (fun q => q.2.1 ⟨rfl, rfl⟩) (fun q => q.2.2 ⟨rfl, rfl⟩)
  rw [ad_dl e (h.1 a b e)] at h1
  exact h1
theorem prts_dl {E : Nat → Nat → Prop} {a b : Nat} (h : gr E) (e : E a b) : (cn (dl E a b) a b → prts (dl E a b) = prts E) ∧ (¬ cn (dl E a b) a b → prts (dl E a b) = prts E + 1) := by
  constructor
  · intro c
    have h1 := prts_adc (R := dl E a b) (dl_sy h.1) c
    rw [ad_dl e (h.1 a b e)] at h1
    exact h1.symm
  · intro c
    have h1 := prts_ad (R := dl E a b) (dl_sy h.1) (h.2.1 a b e) (gr_y h e) c
    rw [ad_dl e (h.1 a b e)] at h1
    exact h1.symm
/-- a forest's edges and parts -/
theorem forest : ∀ (n : Nat) (E : Nat → Nat → Prop), gr E → dgs E ≤ n → acy E → dgs E + 2 * prts E = 24
  | 0, E, h, hn, _ => by
    have h0 : ∀ x y, ¬ E x y := fun x y e => by
      have := dgs_dl h e
      omega
    rw [dgs_0 h0, prts_0 h0]
  | n + 1, E, h, hn, k => by
    by_cases hx : ∃ x y, E x y
    · obtain ⟨x, y, e⟩ := hx
      have h1 := dgs_dl h e
      have h2 := (prts_dl h e).2 (k x y e)
      have h3 := forest n (dl E x y) (gr_dl x y h) (by omega) (acy_mo dl_in k)
      omega
    · have h0 : ∀ x y, ¬ E x y := fun x y e => hx ⟨x, y, e⟩
      rw [dgs_0 h0, prts_0 h0]
end
section
/-! the levels' invariant: a forest of tree edges by level, other edges within the pieces of their level, pieces of level l of at most 12 / 2^l points -/
def set2 {α : Type} (f : Nat → Nat → α) (a b : Nat) (v : α) : Nat → Nat → α := fun x y => if (x = a ∧ y = b) ∨ (x = b ∧ y = a) then v else f x y
theorem set2_in {α : Type} {f : Nat → Nat → α} {a b : Nat} {v : α} {x y : Nat} (h : (x = a ∧ y = b) ∨ (x = b ∧ y = a)) : set2 f a b v x y = v := if_pos h
theorem set2_out {α : Type} {f : Nat → Nat → α} {a b : Nat} {v : α} {x y : Nat} (h : ¬ ((x = a ∧ y = b) ∨ (x = b ∧ y = a))) : set2 f a b v x y = f x y := if_neg h
theorem set2_ab {α : Type} (f : Nat → Nat → α) (a b : Nat) (v : α) : set2 f a b v a b = v := if_pos (Or.inl ⟨rfl, rfl⟩)
theorem set2_ba {α : Type} (f : Nat → Nat → α) (a b : Nat) (v : α) : set2 f a b v b a = v := if_pos (Or.inr ⟨rfl, rfl⟩)
theorem pr_sw {a b x y : Nat} (h : (x = a ∧ y = b) ∨ (x = b ∧ y = a)) : (y = a ∧ x = b) ∨ (y = b ∧ x = a) := h.elim (fun q => Or.inr ⟨q.2, q.1⟩) (fun q => Or.inl ⟨q.2, q.1⟩)
theorem set2_id {α : Type} {f : Nat → Nat → α} {a b : Nat} {v : α} (h1 : f a b = v) (h2 : f b a = v) : set2 f a b v = f := by
  funext x y
  by_cases q : (x = a ∧ y = b) ∨ (x = b ∧ y = a)
  · rw [set2_in q]
    rcases q with q | q
    · rw [q.1, q.2, h1]
    · rw [q.1, q.2, h2]
  · exact set2_out q
theorem set2_2 {α : Type} (f : Nat → Nat → α) (a b : Nat) (v w : α) : set2 (set2 f a b v) a b w = set2 f a b w := by
  funext x y
  by_cases q : (x = a ∧ y = b) ∨ (x = b ∧ y = a)
  · rw [set2_in q, set2_in q]
  · rw [set2_out q, set2_out q, set2_out q]
theorem set2_sy {α : Type} {f : Nat → Nat → α} {a b : Nat} {v : α} (h : ∀ x y, f x y = f y x) (x y : Nat) : set2 f a b v x y = set2 f a b v y x := by
  by_cases q : (x = a ∧ y = b) ∨ (x = b ∧ y = a)
  · rw [set2_in q, set2_in (pr_sw q)]
  · rw [set2_out q, set2_out (fun z => q (pr_sw z)), h]
def FI (lv : Nat → Nat → Nat) (tr : Nat → Nat → Prop) (i : Nat) : Nat → Nat → Prop := fun x y => i < lv x y ∧ tr x y
def EE (lv : Nat → Nat → Nat) : Nat → Nat → Prop := fun x y => lv x y ≠ 0
def WF (lv : Nat → Nat → Nat) (tr : Nat → Nat → Prop) : Prop := (∀ x y, lv x y = lv y x) ∧ (∀ x y, lv x y ≠ 0 → x < 12) ∧ (∀ x, lv x x = 0) ∧ ∀ x y, lv x y ≠ 0 → tr x y → tr y x
/-- c points are few enough for level l -/
def sml (l c : Nat) : Prop := c ≤ 1 ∨ c * 2 ^ l ≤ 12
theorem sml_mo {l c d : Nat} (h : c ≤ d) (k : sml l d) : sml l c := k.elim (fun q => Or.inl (Nat.le_trans h q)) (fun q => Or.inr (Nat.le_trans (Nat.mul_le_mul_right _ h) q))
theorem sml_2 {l c : Nat} (h : 2 ≤ c) (k : sml l c) : 2 * 2 ^ l ≤ 12 := k.elim (fun q => absurd q (by omega)) (fun q => Nat.le_trans (Nat.mul_le_mul_right _ h) q)
def HI (lv : Nat → Nat → Nat) (tr : Nat → Nat → Prop) : Prop := WF lv tr ∧ acy (FI lv tr 0) ∧ (∀ x y l, lv x y = l + 1 → ¬ tr x y → cn (FI lv tr l) x y) ∧ ∀ l x, x < 12 → sml l (ctP (cn (FI lv tr l) x) 12)
theorem FI_sy {lv : Nat → Nat → Nat} {tr : Nat → Nat → Prop} (h : WF lv tr) (i : Nat) : ∀ x y, FI lv tr i x y → FI lv tr i y x := fun x y q => ⟨by rw [h.1 y x]; exact q.1, h.2.2.2 x y (by have := q.1; omega) q.2⟩
theorem FI_mo {lv : Nat → Nat → Nat} {tr : Nat → Nat → Prop} {i j : Nat} (h : i ≤ j) : ∀ x y, FI lv tr j x y → FI lv tr i x y := fun x y q => ⟨Nat.lt_of_le_of_lt h q.1, q.2⟩
theorem FI_E {lv : Nat → Nat → Nat} {tr : Nat → Nat → Prop} {i : Nat} : ∀ x y, FI lv tr i x y → EE lv x y := fun x y q => by have := q.1; unfold EE; omega
theorem WF_gr {lv : Nat → Nat → Nat} {tr : Nat → Nat → Prop} (h : WF lv tr) : gr (EE lv) := ⟨fun x y q => by unfold EE; rw [h.1 y x]; exact q, h.2.1, fun x q => q (h.2.2.1 x)⟩
theorem WF_y {lv : Nat → Nat → Nat} {tr : Nat → Nat → Prop} (h : WF lv tr) {x y : Nat} (e : lv x y ≠ 0) : y < 12 := gr_y (WF_gr h) e
theorem WF_ne {lv : Nat → Nat → Nat} {tr : Nat → Nat → Prop} (h : WF lv tr) {x y : Nat} (e : lv x y ≠ 0) : x ≠ y := gr_ne (WF_gr h) e
theorem FI_lt {lv : Nat → Nat → Nat} {tr : Nat → Nat → Prop} (h : WF lv tr) {i : Nat} : ∀ x y, FI lv tr i x y → y < 12 := fun x y q => WF_y h (FI_E x y q)
/-- a pair of points and its edge set anew -/
theorem WF_set {lv : Nat → Nat → Nat} {tr tr' : Nat → Nat → Prop} {a b v : Nat} (h : WF lv tr) (ha : a < 12) (hb : b < 12) (hab : a ≠ b) (ht : ∀ x y, ¬ ((x = a ∧ y = b) ∨ (x = b ∧ y = a)) → tr' x y = tr x y) (ht2 : v ≠ 0 → tr' a b = tr' b a) : WF (set2 lv a b v) tr' := by
  refine ⟨set2_sy h.1, fun x y q => ?_, fun x => ?_, fun x y q1 q2 => ?_⟩
  · by_cases z : (x = a ∧ y = b) ∨ (x = b ∧ y = a)
    · rcases z with z | z
      · rw [z.1]; exact ha
      · rw [z.1]; exact hb
    · rw [set2_out z] at q; exact h.2.1 x y q
  · rw [set2_out (by rintro (q | q) <;> omega)]; exact h.2.2.1 x
  · by_cases z : (x = a ∧ y = b) ∨ (x = b ∧ y = a)
    · rw [set2_in z] at q1
      rcases z with z | z
      · rw [z.1, z.2] at q2 ⊢; rw [← ht2 q1]; exact q2
      · rw [z.1, z.2] at q2 ⊢; rw [ht2 q1]; exact q2
    · rw [set2_out z] at q1
      rw [ht x y z] at q2
      rw [ht y x (fun w => z (pr_sw w))]
      exact h.2.2.2 x y q1 q2
/-- tree edges alone join what all edges join -/
theorem HI_E {lv : Nat → Nat → Nat} {tr : Nat → Nat → Prop} (h : HI lv tr) {x y : Nat} : cn (FI lv tr 0) x y ↔ cn (EE lv) x y := by
  refine ⟨fun c => cn_mo FI_E c, fun c => cn_in c fun u v e => ?_⟩
  by_cases ht : tr u v
  · exact cn_1 ⟨Nat.pos_of_ne_zero e, ht⟩
  · obtain ⟨l, hl⟩ : ∃ l, lv u v = l + 1 := ⟨lv u v - 1, by have : lv u v ≠ 0 := e; omega⟩
    exact cn_mo (FI_mo (Nat.zero_le l)) (h.2.2.1 u v l hl ht)
theorem two_pow_le {l : Nat} (h : 2 * 2 ^ l ≤ 12) : l ≤ 2 := by
  rcases Nat.lt_or_ge 2 l with q | q
  · have := Nat.pow_le_pow_right (n := 2) (by decide) (show 3 ≤ l from q)
    omega
  · exact q
theorem HI_le {lv : Nat → Nat → Nat} {tr : Nat → Nat → Prop} (h : HI lv tr) (x y : Nat) : lv x y ≤ 3 := by
  by_cases e : lv x y = 0
  · omega
  · obtain ⟨l, hl⟩ : ∃ l, lv x y = l + 1 := ⟨lv x y - 1, by omega⟩
    have c : cn (FI lv tr l) x y := by
      by_cases ht : tr x y
      · exact cn_1 ⟨by omega, ht⟩
      · exact h.2.2.1 x y l hl ht
    have hx := h.1.2.1 x y e
    have h2 := ctP_two (P := cn (FI lv tr l) x) hx (WF_y h.1 e) (WF_ne h.1 e) (cn_rf x) c
    have h3 := h.2.2.2 l x hx
    have h4 := two_pow_le (l := l) (sml_2 h2 h3)
    omega
/-! ===== a tree edge has gone: levels below n still miss it ===== -/
def RI (lv : Nat → Nat → Nat) (tr : Nat → Nat → Prop) (a b n : Nat) : Prop := WF lv tr ∧ (a < 12 ∧ b < 12 ∧ n ≤ 3) ∧ acy (FI lv tr 0) ∧ ¬ cn (FI lv tr 0) a b ∧
  (∀ x y l, lv x y = l + 1 → ¬ tr x y → (l < n → cn (ad (FI lv tr l) a b) x y) ∧ (n ≤ l → cn (FI lv tr l) x y)) ∧
  ∀ l x, x < 12 → (l < n → sml l (ctP (cn (ad (FI lv tr l) a b) x) 12)) ∧ (n ≤ l → sml l (ctP (cn (FI lv tr l) x) 12))
theorem FI_dl {lv : Nat → Nat → Nat} {tr : Nat → Nat → Prop} (a b k : Nat) : FI (set2 lv a b 0) tr k = dl (FI lv tr k) a b := by
  funext x y
  refine propext ⟨fun h => ?_, fun h => ?_⟩
  · by_cases q : (x = a ∧ y = b) ∨ (x = b ∧ y = a)
    · have h1 := h.1
      rw [set2_in q] at h1
      omega
    · have h1 := h.1
      rw [set2_out q] at h1
      exact ⟨⟨h1, h.2⟩, fun z => q (Or.inl z), fun z => q (Or.inr z)⟩
  · refine ⟨?_, h.1.2⟩
    rw [set2_out (fun q => q.elim h.2.1 h.2.2)]
    exact h.1.1
theorem EE_dl {lv : Nat → Nat → Nat} (a b : Nat) : EE (set2 lv a b 0) = dl (EE lv) a b := by
  funext x y
  refine propext ⟨fun h => ?_, fun h => ?_⟩
  · by_cases q : (x = a ∧ y = b) ∨ (x = b ∧ y = a)
    · unfold EE at h
      rw [set2_in q] at h
      exact absurd rfl h
    · unfold EE at h
      rw [set2_out q] at h
      exact ⟨h, fun z => q (Or.inl z), fun z => q (Or.inr z)⟩
  · unfold EE
    rw [set2_out (fun q => q.elim h.2.1 h.2.2)]
    exact h.1
theorem EE_ad {lv : Nat → Nat → Nat} (a b v : Nat) (hv : v ≠ 0) : EE (set2 lv a b v) = ad (EE lv) a b := by
  funext x y
  refine propext ⟨fun h => ?_, fun h => ?_⟩
  · by_cases q : (x = a ∧ y = b) ∨ (x = b ∧ y = a)
    · exact Or.inr q
    · unfold EE at h
      rw [set2_out q] at h
      exact Or.inl h
  · unfold EE
    by_cases q : (x = a ∧ y = b) ∨ (x = b ∧ y = a)
    · rw [set2_in q]; exact hv
    · rw [set2_out q]
      exact h.elim id (fun z => absurd z q)
/-- at the start -/
theorem ri_init {lv : Nat → Nat → Nat} {tr : Nat → Nat → Prop} {a b l : Nat} (h : HI lv tr) (hl : lv a b = l + 1) (ht : tr a b) : RI (set2 lv a b 0) tr a b (l + 1) := by
  obtain ⟨hw, hac, hnt, hsz⟩ := h
  have e0 : lv a b ≠ 0 := by omega
  have ha := hw.2.1 a b e0
  have hb := WF_y hw e0
  have ht2 := hw.2.2.2 a b e0 ht
  have hle := HI_le ⟨hw, hac, hnt, hsz⟩ a b
  have back : ∀ k, k < l + 1 → ad (FI (set2 lv a b 0) tr k) a b = FI lv tr k := fun k hk => by
    rw [FI_dl]
    exact ad_dl ⟨by omega, ht⟩ ⟨by rw [hw.1 b a]; omega, ht2⟩
  have same : ∀ k, l + 1 ≤ k → FI (set2 lv a b 0) tr k = FI lv tr k := fun k hk => by
    rw [FI_dl]
    exact dl_no (fun q => by have := q.1; omega) (fun q => by have := q.1; rw [hw.1 b a] at this; omega)
  refine ⟨WF_set hw ha hb (WF_ne hw e0) (fun _ _ _ => rfl) (fun q => absurd rfl q), ⟨ha, hb, by omega⟩, ?_, ?_, ?_, ?_⟩
  · rw [FI_dl]; exact acy_mo dl_in hac
  · rw [FI_dl]; exact hac a b ⟨by omega, ht⟩
  · intro x y k hk hn
    have hk' : lv x y = k + 1 := by
      by_cases q : (x = a ∧ y = b) ∨ (x = b ∧ y = a)
      · rw [set2_in q] at hk; omega
      · rw [set2_out q] at hk; exact hk
    exact ⟨fun q => by rw [back k q]; exact hnt x y k hk' hn, fun q => by rw [same k q]; exact hnt x y k hk' hn⟩
  · intro k x hx
    exact ⟨fun q => by rw [back k q]; exact hsz k x hx, fun q => by rw [same k q]; exact hsz k x hx⟩
/-- at the end: nothing joins them -/
theorem ri_end {lv : Nat → Nat → Nat} {tr : Nat → Nat → Prop} {a b : Nat} (h : RI lv tr a b 0) : HI lv tr ∧ ¬ cn (EE lv) a b := by
  obtain ⟨hw, -, hac, hn, hnt, hsz⟩ := h
  have hh : HI lv tr := ⟨hw, hac, fun x y l hl ht => (hnt x y l hl ht).2 (Nat.zero_le l), fun l x hx => (hsz l x hx).2 (Nat.zero_le l)⟩
  exact ⟨hh, fun c => hn ((HI_E hh).mpr c)⟩
def raised (lv : Nat → Nat → Nat) (tr : Nat → Nat → Prop) (P : Nat → Prop) (i : Nat) (lv1 : Nat → Nat → Nat) : Prop := ∀ x y, ((lv x y = i + 1 ∧ tr x y ∧ P x) → lv1 x y = i + 2) ∧ (¬ (lv x y = i + 1 ∧ tr x y ∧ P x) → lv1 x y = lv x y)
def srch (lv : Nat → Nat → Nat) (tr : Nat → Nat → Prop) (P : Nat → Prop) (i : Nat) (R : Prop) (lv2 : Nat → Nat → Nat) (tr2 : Nat → Nat → Prop) : Prop := (∀ x y, lv2 x y = lv2 y x) ∧
  (∀ x y, lv2 x y = lv x y ∨ (lv x y = i + 1 ∧ ¬ tr x y ∧ P x ∧ P y ∧ lv2 x y = i + 2)) ∧
  ((¬ R ∧ tr2 = tr ∧ ∀ x y, lv x y = i + 1 → ¬ tr x y → P x → (P y ∧ lv2 x y = i + 2)) ∨ (R ∧ ∃ x0 y0, P x0 ∧ ¬ P y0 ∧ lv x0 y0 = i + 1 ∧ ¬ tr x0 y0 ∧ tr2 = set2 tr x0 y0 True))
end
section
/-! one level of the search for another edge -/
section STEP
variable {lv lv2 : Nat → Nat → Nat} {tr : Nat → Nat → Prop} {P : Nat → Prop} {i z : Nat}
/-- both passes in one: lv to lv2 -/
def lift2 (lv lv2 : Nat → Nat → Nat) (tr : Nat → Nat → Prop) (P : Nat → Prop) (i : Nat) : Prop := (∀ x y, lv2 x y = lv2 y x) ∧ (∀ x y, lv2 x y = lv x y ∨ (lv x y = i + 1 ∧ lv2 x y = i + 2 ∧ P x ∧ P y)) ∧ ∀ x y, lv x y = i + 1 → tr x y → P x → lv2 x y = i + 2
theorem l2_0 (h : lift2 lv lv2 tr P i) (x y : Nat) : lv2 x y ≠ 0 ↔ lv x y ≠ 0 := by
  rcases h.2.1 x y with q | q <;> omega
theorem l2_lo (h : lift2 lv lv2 tr P i) {k : Nat} (hk : k ≤ i) : FI lv2 tr k = FI lv tr k := by
  funext x y
  refine propext ⟨fun q => ⟨?_, q.2⟩, fun q => ⟨?_, q.2⟩⟩
  · have h1 := q.1
    rcases h.2.1 x y with r | r <;> omega
  · have h1 := q.1
    rcases h.2.1 x y with r | r <;> omega
theorem l2_hi (h : lift2 lv lv2 tr P i) {k : Nat} (hk : i + 1 < k) : FI lv2 tr k = FI lv tr k := by
  funext x y
  refine propext ⟨fun q => ⟨?_, q.2⟩, fun q => ⟨?_, q.2⟩⟩
  · have h1 := q.1
    rcases h.2.1 x y with r | r <;> omega
  · have h1 := q.1
    rcases h.2.1 x y with r | r <;> omega
theorem l2_up (h : lift2 lv lv2 tr P i) : ∀ x y, FI lv tr (i + 1) x y → FI lv2 tr (i + 1) x y := fun x y q => ⟨by
  have h1 := q.1
  rcases h.2.1 x y with r | r <;> omega, q.2⟩
theorem l2_dn (h : lift2 lv lv2 tr P i) : ∀ x y, FI lv2 tr (i + 1) x y → FI lv tr i x y := fun x y q => ⟨by
  have h1 := q.1
  rcases h.2.1 x y with r | r <;> omega, q.2⟩
theorem l2_P (h : lift2 lv lv2 tr P i) {x : Nat} (hx : P x) : ∀ y, FI lv tr i x y → FI lv2 tr (i + 1) x y := fun y q => ⟨by
  have h1 := q.1
  by_cases e : lv x y = i + 1
  · have := h.2.2 x y e q.2 hx
    omega
  · rcases h.2.1 x y with r | r <;> omega, q.2⟩
theorem l2_nP (h : lift2 lv lv2 tr P i) {x : Nat} (hx : ¬ P x) : ∀ y, FI lv2 tr (i + 1) x y → FI lv tr (i + 1) x y := fun y q => ⟨by
  have h1 := q.1
  rcases h.2.1 x y with r | r
  · omega
  · exact absurd r.2.2.1 hx, q.2⟩
theorem l2_cnP (hw : WF lv tr) (h : lift2 lv lv2 tr (cn (FI lv tr i) z) i) {x y : Nat} (hx : cn (FI lv tr i) z x) : cn (FI lv2 tr (i + 1)) x y ↔ cn (FI lv tr i) z y := by
  constructor
  · intro c
    exact cn_tr hx (cn_mo (l2_dn h) c)
  · intro c
    have c2 : cn (FI lv tr i) x y := cn_tr (cn_sy (FI_sy hw i) hx) c
    exact (cn_cl (S := fun w => cn (FI lv tr i) z w ∧ cn (FI lv2 tr (i + 1)) x w) (fun u v hu r => ⟨cn_st hu.1 r, cn_st hu.2 (l2_P h hu.1 v r)⟩) ⟨hx, cn_rf x⟩ c2).2
theorem l2_cnN (hw : WF lv tr) (h : lift2 lv lv2 tr (cn (FI lv tr i) z) i) {x y : Nat} (hx : ¬ cn (FI lv tr i) z x) (c : cn (FI lv2 tr (i + 1)) x y) : cn (FI lv tr (i + 1)) x y :=
  (cn_cl (S := fun w => (¬ cn (FI lv tr i) z w) ∧ cn (FI lv tr (i + 1)) x w) (fun u v hu r => ⟨fun q => hu.1 (cn_st q (FI_sy hw i u v (l2_dn h u v r))), cn_st hu.2 (l2_nP h hu.1 v r)⟩) ⟨hx, cn_rf x⟩ c).2
/-- raise, then search -/
theorem l2_of {lv1 : Nat → Nat → Nat} {tr2 : Nat → Nat → Prop} {R : Prop} (hw : WF lv tr) (h1 : raised lv tr (cn (FI lv tr i) z) i lv1) (h2 : srch lv1 tr (cn (FI lv tr i) z) i R lv2 tr2) : lift2 lv lv2 tr (cn (FI lv tr i) z) i := by
  refine ⟨h2.1, fun x y => ?_, fun x y e t p => ?_⟩
  · by_cases q : lv x y = i + 1 ∧ tr x y ∧ cn (FI lv tr i) z x
    · have h3 := (h1 x y).1 q
      rcases h2.2.1 x y with r | r
      · exact Or.inr ⟨q.1, by omega, q.2.2, cn_st q.2.2 ⟨by omega, q.2.1⟩⟩
      · omega
    · have h3 := (h1 x y).2 q
      rcases h2.2.1 x y with r | r
      · exact Or.inl (by omega)
      · exact Or.inr ⟨by omega, r.2.2.2.2, r.2.2.1, r.2.2.2.1⟩
  · have h3 := (h1 x y).1 ⟨e, t, p⟩
    rcases h2.2.1 x y with r | r <;> omega
theorem l2_wf (hw : WF lv tr) (h : lift2 lv lv2 tr P i) : WF lv2 tr := ⟨h.1, fun x y q => hw.2.1 x y ((l2_0 h x y).mp q), fun x => by
  have := l2_0 h x x
  have := hw.2.2.1 x
  omega, fun x y q => hw.2.2.2 x y ((l2_0 h x y).mp q)⟩
end STEP
/-- the smaller piece has at most half -/
theorem ri_half {lv : Nat → Nat → Nat} {tr : Nat → Nat → Prop} {a b i z : Nat} (h : RI lv tr a b (i + 1)) (hz : (z = a ∧ ctP (cn (FI lv tr i) a) 12 ≤ ctP (cn (FI lv tr i) b) 12) ∨ (z = b ∧ ctP (cn (FI lv tr i) b) 12 ≤ ctP (cn (FI lv tr i) a) 12)) : sml (i + 1) (ctP (cn (FI lv tr i) z) 12) := by
  obtain ⟨hw, ⟨ha, hb, -⟩, -, hn, -, hsz⟩ := h
  have h1 := (hsz i a ha).1 (by omega)
  have h2 : ctP (fun k => cn (FI lv tr i) a k ∨ cn (FI lv tr i) b k) 12 = ctP (cn (FI lv tr i) a) 12 + ctP (cn (FI lv tr i) b) 12 :=
    ctP_or fun k _ q1 q2 => hn (cn_mo (FI_mo (Nat.zero_le i)) (cn_tr q1 (cn_sy (FI_sy hw i) q2)))
  have h3 : ctP (fun k => cn (FI lv tr i) a k ∨ cn (FI lv tr i) b k) 12 ≤ ctP (cn (ad (FI lv tr i) a b) a) 12 := ctP_sub fun k _ q => q.elim (fun c => cn_mo ad_in c) (fun c => cn_tr (cn_1 ad_ab) (cn_mo ad_in c))
  have h4 : 2 * ctP (cn (FI lv tr i) z) 12 ≤ ctP (cn (ad (FI lv tr i) a b) a) 12 := by
    rcases hz with ⟨rfl, q⟩ | ⟨rfl, q⟩ <;> omega
  rcases h1 with h1 | h1
  · exact Or.inl (by omega)
  · refine Or.inr ?_
    have h5 := Nat.mul_le_mul_right (2 ^ i) h4
    rw [Nat.pow_succ]
    have e : ctP (cn (FI lv tr i) z) 12 * (2 ^ i * 2) = 2 * ctP (cn (FI lv tr i) z) 12 * 2 ^ i := by
      rw [Nat.mul_comm (2 ^ i) 2, ← Nat.mul_assoc, Nat.mul_comm _ 2]
    omega
theorem ri_step {lv lv1 lv2 : Nat → Nat → Nat} {tr tr2 : Nat → Nat → Prop} {a b i z : Nat} {R : Prop} (h : RI lv tr a b (i + 1)) (hz : (z = a ∧ ctP (cn (FI lv tr i) a) 12 ≤ ctP (cn (FI lv tr i) b) 12) ∨ (z = b ∧ ctP (cn (FI lv tr i) b) 12 ≤ ctP (cn (FI lv tr i) a) 12))
    (h1 : raised lv tr (cn (FI lv tr i) z) i lv1) (h2 : srch lv1 tr (cn (FI lv tr i) z) i R lv2 tr2) : (∀ x y, lv2 x y ≠ 0 ↔ lv x y ≠ 0) ∧ (¬ R → tr2 = tr ∧ RI lv2 tr2 a b i) ∧ (R → HI lv2 tr2 ∧ cn (EE lv) a b) := by
  have hhalf := ri_half h hz
  obtain ⟨hw, ⟨ha, hb, hn3⟩, hac, hn, hnt, hsz⟩ := h
  have hl := l2_of hw h1 h2
  have hw2 := l2_wf hw hl
  have hzl : z < 12 := by rcases hz with ⟨rfl, -⟩ | ⟨rfl, -⟩ <;> assumption
  -- sizes at level i + 1 and above
  have size1 : ∀ l x, x < 12 → i + 1 ≤ l → sml l (ctP (cn (FI lv2 tr l) x) 12) := by
    intro l x hx hli
    by_cases e : l = i + 1
    · subst e
      by_cases hp : cn (FI lv tr i) z x
      · rw [ctP_cong (P := cn (FI lv2 tr (i + 1)) x) (Q := cn (FI lv tr i) z) (fun k _ => l2_cnP hw hl hp)]
        exact hhalf
      · exact sml_mo ((ctP_sub fun k _ c => l2_cnN hw hl hp c)) ((hsz (i + 1) x hx).2 (Nat.le_refl _))
    · rw [l2_hi hl (by omega)]
      exact (hsz l x hx).2 hli
  -- other edges of level i + 1 and above
  have nt1 : ∀ x y l, lv2 x y = l + 1 → ¬ tr x y → i + 1 ≤ l → cn (FI lv2 tr l) x y := by
    intro x y l hlv ht hli
    rcases hl.2.1 x y with r | r
    · have c := (hnt x y l (by omega) ht).2 hli
      by_cases e : l = i + 1
      · subst e; exact cn_mo (l2_up hl) c
      · rw [l2_hi hl (by omega)]; exact c
    · have e : l = i + 1 := by omega
      subst e
      exact (l2_cnP hw hl r.2.2.1).mpr r.2.2.2
  -- other edges below
  have nt0 : ∀ x y l, lv2 x y = l + 1 → ¬ tr x y → l ≤ i → cn (ad (FI lv tr l) a b) x y ∧ lv x y = l + 1 := by
    intro x y l hlv ht hli
    rcases hl.2.1 x y with r | r
    · exact ⟨(hnt x y l (by omega) ht).1 (by omega), by omega⟩
    · omega
  refine ⟨fun x y => l2_0 hl x y, fun hR => ?_, fun hR => ?_⟩
  · -- nothing found
    rcases h2.2.2 with ⟨-, et, hall⟩ | ⟨q, -⟩
    · subst et
      refine ⟨rfl, hw2, ⟨ha, hb, by omega⟩, ?_, ?_, ?_, ?_⟩
      · rw [l2_lo hl (Nat.zero_le i)]; exact hac
      · rw [l2_lo hl (Nat.zero_le i)]; exact hn
      · intro x y l hlv ht
        refine ⟨fun q => by rw [l2_lo hl (by omega)]; exact (nt0 x y l hlv ht (by omega)).1, fun q => ?_⟩
        by_cases e : l = i
        · subst e
          rw [l2_lo hl (Nat.le_refl _)]
          obtain ⟨c, elv⟩ := nt0 x y l hlv ht (Nat.le_refl _)
          have e1 : lv1 x y = l + 1 := by rw [(h1 x y).2 (fun q => ht q.2.1)]; exact elv
          have hty : ¬ tr2 y x := fun q => ht (hw.2.2.2 y x (by rw [hw.1 y x]; omega) q)
          have e2 : lv1 y x = l + 1 := by rw [(h1 y x).2 (fun q => hty q.2.1), hw.1 y x]; exact elv
          have nx : ¬ cn (FI lv tr2 l) z x := fun p => by
            have := (hall x y e1 ht p).2
            omega
          have ny : ¬ cn (FI lv tr2 l) z y := fun p => by
            have := (hall y x e2 hty p).2
            rw [hl.1 y x] at this
            omega
          have sy := FI_sy hw l
          rcases cn_ad c with c | ⟨c1, c2⟩ | ⟨c1, c2⟩
          · exact c
          · rcases hz with ⟨rfl, -⟩ | ⟨rfl, -⟩
            · exact absurd (cn_sy sy c1) nx
            · exact absurd c2 ny
          · rcases hz with ⟨rfl, -⟩ | ⟨rfl, -⟩
            · exact absurd c2 ny
            · exact absurd (cn_sy sy c1) nx
        · exact nt1 x y l hlv ht (by omega)
      · intro l x hx
        refine ⟨fun q => by rw [l2_lo hl (by omega)]; exact (hsz l x hx).1 (by omega), fun q => ?_⟩
        by_cases e : l = i
        · subst e
          rw [l2_lo hl (Nat.le_refl _)]
          exact sml_mo ((ctP_sub fun k _ c => cn_mo ad_in c)) ((hsz l x hx).1 (by omega))
        · exact size1 l x hx (by omega)
    · exact absurd q hR
  · -- found
    rcases h2.2.2 with ⟨q, -⟩ | ⟨-, x0, y0, hx0, hy0, hlv0, ht0, et⟩
    · exact absurd hR q
    · have e0 : lv x0 y0 = i + 1 := by
        rw [← (h1 x0 y0).2 (fun q => ht0 q.2.1)]; exact hlv0
      have e2 : lv2 x0 y0 = i + 1 := by
        rcases hl.2.1 x0 y0 with r | r
        · omega
        · exact absurd r.2.2.2 hy0
      have hxl : x0 < 12 := hw.2.1 x0 y0 (by omega)
      have hyl : y0 < 12 := WF_y hw (x := x0) (by omega)
      have hne : x0 ≠ y0 := WF_ne hw (by omega)
      have sy := FI_sy hw i
      have hxy : ¬ cn (FI lv tr i) x0 y0 := fun c => hy0 (cn_tr hx0 c)
      have hends : (cn (FI lv tr i) x0 a ∧ cn (FI lv tr i) b y0) ∨ (cn (FI lv tr i) x0 b ∧ cn (FI lv tr i) a y0) := by
        rcases cn_ad ((hnt x0 y0 i e0 ht0).1 (by omega)) with c | c | c
        · exact absurd c hxy
        · exact Or.inl c
        · exact Or.inr c
      have low : ∀ k, k ≤ i → FI lv2 tr2 k = ad (FI lv tr k) x0 y0 := by
        intro k hk
        rw [← l2_lo hl hk, et]
        funext x y
        by_cases q : (x = x0 ∧ y = y0) ∨ (x = y0 ∧ y = x0)
        · refine propext ⟨fun _ => Or.inr q, fun _ => ⟨?_, by rw [set2_in q]; trivial⟩⟩
          rcases q with q | q
          · rw [q.1, q.2]; omega
          · rw [q.1, q.2, hl.1]; omega
        · refine propext ⟨fun r => Or.inl ⟨r.1, by have := r.2; rw [set2_out q] at this; exact this⟩, fun r => ?_⟩
          rcases r with r | r
          · exact ⟨r.1, by rw [set2_out q]; exact r.2⟩
          · exact absurd r q
      have high : ∀ k, i < k → FI lv2 tr2 k = FI lv2 tr k := by
        intro k hk
        rw [et]
        funext x y
        by_cases q : (x = x0 ∧ y = y0) ∨ (x = y0 ∧ y = x0)
        · have e3 : lv2 x y = i + 1 := by
            rcases q with q | q
            · rw [q.1, q.2]; exact e2
            · rw [q.1, q.2, hl.1]; exact e2
          exact propext ⟨fun r => absurd r.1 (by omega), fun r => absurd r.1 (by omega)⟩
        · exact propext ⟨fun r => ⟨r.1, by have := r.2; rw [set2_out q] at this; exact this⟩, fun r => ⟨r.1, by rw [set2_out q]; exact r.2⟩⟩
      have same : ∀ k, k ≤ i → ∀ x y, cn (ad (FI lv tr k) a b) x y → cn (ad (FI lv tr k) x0 y0) x y := by
        intro k hk x y c
        have up : ∀ {u v : Nat}, cn (FI lv tr i) u v → cn (ad (FI lv tr k) x0 y0) u v := fun c => cn_mo ad_in (cn_mo (FI_mo hk) c)
        have s2 := ad_sy (a := x0) (b := y0) (FI_sy hw k)
        have cab : cn (ad (FI lv tr k) x0 y0) a b := by
          rcases hends with ⟨q1, q2⟩ | ⟨q1, q2⟩
          · exact cn_tr (cn_st (cn_sy s2 (up q1)) ad_ab) (cn_sy s2 (up q2))
          · exact cn_tr (cn_st (up q2) ad_ba) (up q1)
        refine cn_in c ?_
        rintro u v (r | ⟨rfl, rfl⟩ | ⟨rfl, rfl⟩)
        · exact cn_1 (ad_in _ _ r)
        · exact cab
        · exact cn_sy s2 cab
      have same' : ∀ k, k ≤ i → ∀ x y, cn (ad (FI lv tr k) x0 y0) x y → cn (ad (FI lv tr k) a b) x y := by
        intro k hk x y c
        have up : ∀ {u v : Nat}, cn (FI lv tr i) u v → cn (ad (FI lv tr k) a b) u v := fun c => cn_mo ad_in (cn_mo (FI_mo hk) c)
        have s2 := ad_sy (a := a) (b := b) (FI_sy hw k)
        have cxy : cn (ad (FI lv tr k) a b) x0 y0 := by
          rcases hends with ⟨q1, q2⟩ | ⟨q1, q2⟩
          · exact cn_tr (cn_st (up q1) ad_ab) (up q2)
          · exact cn_tr (cn_st (up q1) ad_ba) (up q2)
        refine cn_in c ?_
        rintro u v (r | ⟨rfl, rfl⟩ | ⟨rfl, rfl⟩)
        · exact cn_1 (ad_in _ _ r)
        · exact cxy
        · exact cn_sy s2 cxy
      have hn0 : ¬ cn (FI lv tr 0) x0 y0 := by
        intro c
        have s0 := FI_sy hw 0
        have up : ∀ {u v : Nat}, cn (FI lv tr i) u v → cn (FI lv tr 0) u v := fun c => cn_mo (FI_mo (Nat.zero_le i)) c
        rcases hends with ⟨q1, q2⟩ | ⟨q1, q2⟩
        · exact hn (cn_tr (cn_tr (cn_sy s0 (up q1)) c) (cn_sy s0 (up q2)))
        · exact hn (cn_tr (up q2) (cn_tr (cn_sy s0 c) (up q1)))
      have toE : ∀ {u v : Nat}, cn (FI lv tr i) u v → cn (EE lv) u v := fun c => cn_mo FI_E c
      refine ⟨⟨?_, ?_, ?_, ?_⟩, ?_⟩
      · have h5 := WF_set (lv := lv2) (tr := tr) (tr' := tr2) (a := x0) (b := y0) (v := i + 1) hw2 hxl hyl hne (fun x y q => by rw [et, set2_out q]) (fun _ => by rw [et, set2_ab, set2_ba])
        rw [set2_id e2 (by rw [hl.1]; exact e2)] at h5
        exact h5
      · rw [low 0 (Nat.zero_le i)]
        exact acy_ad (FI_sy hw 0) hac hn0
      · intro x y l hlv ht
        have hq : ¬ ((x = x0 ∧ y = y0) ∨ (x = y0 ∧ y = x0)) := fun q => ht (by rw [et, set2_in q]; trivial)
        have ht' : ¬ tr x y := fun q => ht (by rw [et, set2_out hq]; exact q)
        rcases Nat.lt_or_ge i l with q | q
        · rw [high l q]
          exact nt1 x y l hlv ht' q
        · rw [low l q]
          exact same l q x y (nt0 x y l hlv ht' q).1
      · intro l x hx
        rcases Nat.lt_or_ge i l with q | q
        · rw [high l q]
          exact size1 l x hx q
        · rw [low l q]
          exact sml_mo ((ctP_sub fun k _ c => same' l q x k c)) ((hsz l x hx).1 (by omega))
      · have hE : EE lv x0 y0 := by unfold EE; omega
        have hE' : EE lv y0 x0 := by unfold EE; rw [hw.1 y0 x0]; omega
        have sE := (WF_gr hw).1
        rcases hends with ⟨q1, q2⟩ | ⟨q1, q2⟩
        · exact cn_tr (cn_st (cn_sy sE (toE q1)) hE) (cn_sy sE (toE q2))
        · exact cn_tr (cn_st (toE q2) hE') (toE q1)
/-! ===== the calls' own steps ===== -/
/-- an edge outside the forest goes -/
theorem hi_cut0 {lv : Nat → Nat → Nat} {tr : Nat → Nat → Prop} {a b l : Nat} (h : HI lv tr) (hl : lv a b = l + 1) (ht : ¬ tr a b) : HI (set2 lv a b 0) tr ∧ cn (dl (EE lv) a b) a b := by
  have hw := h.1
  have e0 : lv a b ≠ 0 := by omega
  have htb : ¬ tr b a := fun q => ht (hw.2.2.2 b a (by rw [hw.1 b a]; exact e0) q)
  have same : ∀ k, FI (set2 lv a b 0) tr k = FI lv tr k := fun k => by
    rw [FI_dl]
    exact dl_no (fun q => ht q.2) (fun q => htb q.2)
  have hh : HI (set2 lv a b 0) tr := by
    refine ⟨WF_set hw (hw.2.1 a b e0) (WF_y hw e0) (WF_ne hw e0) (fun _ _ _ => rfl) (fun q => absurd rfl q), by rw [same]; exact h.2.1, fun x y k hk hn => ?_, fun k x hx => by rw [same]; exact h.2.2.2 k x hx⟩
    rw [same]
    by_cases q : (x = a ∧ y = b) ∨ (x = b ∧ y = a)
    · rw [set2_in q] at hk; omega
    · rw [set2_out q] at hk; exact h.2.2.1 x y k hk hn
  refine ⟨hh, ?_⟩
  rw [← EE_dl]
  refine (HI_E hh).mp ?_
  rw [same]
  exact cn_mo (FI_mo (Nat.zero_le l)) (h.2.2.1 a b l hl ht)
/-- a new edge, of level 0 -/
theorem hi_link {lv : Nat → Nat → Nat} {tr : Nat → Nat → Prop} {a b : Nat} (h : HI lv tr) (ha : a < 12) (hb : b < 12) (hab : a ≠ b) (h0 : lv a b = 0) : HI (set2 lv a b 1) (set2 tr a b (¬ cn (EE lv) a b)) := by
  have hw := h.1
  have h0' : lv b a = 0 := by rw [hw.1 b a]; exact h0
  have hwf : WF (set2 lv a b 1) (set2 tr a b (¬ cn (EE lv) a b)) := WF_set hw ha hb hab (fun x y q => set2_out q) (fun _ => by rw [set2_ab, set2_ba])
  have high : ∀ k, 0 < k → FI (set2 lv a b 1) (set2 tr a b (¬ cn (EE lv) a b)) k = FI lv tr k := by
    intro k hk
    funext x y
    by_cases q : (x = a ∧ y = b) ∨ (x = b ∧ y = a)
    · have e1 : lv x y = 0 := by
        rcases q with q | q
        · rw [q.1, q.2]; exact h0
        · rw [q.1, q.2]; exact h0'
      refine propext ⟨fun r => ?_, fun r => ?_⟩
      · have h1 := r.1
        rw [set2_in q] at h1
        omega
      · have h1 := r.1
        omega
    · unfold FI
      rw [set2_out q, set2_out q]
  by_cases hc : cn (EE lv) a b
  · have low : FI (set2 lv a b 1) (set2 tr a b (¬ cn (EE lv) a b)) 0 = FI lv tr 0 := by
      funext x y
      by_cases q : (x = a ∧ y = b) ∨ (x = b ∧ y = a)
      · have e1 : lv x y = 0 := by
          rcases q with q | q
          · rw [q.1, q.2]; exact h0
          · rw [q.1, q.2]; exact h0'
        refine propext ⟨fun r => ?_, fun r => ?_⟩
        · have h1 := r.2
          rw [set2_in q] at h1
          exact absurd hc h1
        · have h1 := r.1
          omega
      · unfold FI
        rw [set2_out q, set2_out q]
    have same : ∀ k, FI (set2 lv a b 1) (set2 tr a b (¬ cn (EE lv) a b)) k = FI lv tr k := fun k => by
      rcases Nat.eq_zero_or_pos k with e | e
      · subst e; exact low
      · exact high k e
    refine ⟨hwf, by rw [same]; exact h.2.1, fun x y k hk hn => ?_, fun k x hx => by rw [same]; exact h.2.2.2 k x hx⟩
    rw [same]
    by_cases q : (x = a ∧ y = b) ∨ (x = b ∧ y = a)
    · rw [set2_in q] at hk
      have e : k = 0 := by omega
      subst e
      rcases q with q | q
      · rw [q.1, q.2]; exact (HI_E h).mpr hc
      · rw [q.1, q.2]; exact (HI_E h).mpr (cn_sy (WF_gr hw).1 hc)
    · rw [set2_out q] at hk hn
      exact h.2.2.1 x y k hk hn
  · have low : FI (set2 lv a b 1) (set2 tr a b (¬ cn (EE lv) a b)) 0 = ad (FI lv tr 0) a b := by
      funext x y
      by_cases q : (x = a ∧ y = b) ∨ (x = b ∧ y = a)
      · exact propext ⟨fun _ => Or.inr q, fun _ => ⟨by rw [set2_in q]; omega, by rw [set2_in q]; exact hc⟩⟩
      · refine propext ⟨fun r => Or.inl ?_, fun r => ?_⟩
        · unfold FI at r ⊢
          rw [set2_out q, set2_out q] at r
          exact r
        · rcases r with r | r
          · unfold FI at r ⊢
            rw [set2_out q, set2_out q]
            exact r
          · exact absurd r q
    refine ⟨hwf, ?_, fun x y k hk hn => ?_, fun k x hx => ?_⟩
    · rw [low]
      exact acy_ad (FI_sy hw 0) h.2.1 (fun c => hc ((HI_E h).mp c))
    · by_cases q : (x = a ∧ y = b) ∨ (x = b ∧ y = a)
      · rw [set2_in q] at hn
        exact absurd hc hn
      · rw [set2_out q] at hk hn
        have c := h.2.2.1 x y k hk hn
        rcases Nat.eq_zero_or_pos k with e | e
        · subst e; rw [low]; exact cn_mo ad_in c
        · rw [high k e]; exact c
    · rcases Nat.eq_zero_or_pos k with e | e
      · subst e
        have := ctP_le (cn (FI (set2 lv a b 1) (set2 tr a b (¬ cn (EE lv) a b)) 0) x) 12
        exact Or.inr (by omega)
      · rw [high k e]; exact h.2.2.2 k x hx
/-- a tree edge is a bridge if no other edge leads out of the piece on one of its sides -/
theorem hi_bridge {lv : Nat → Nat → Nat} {tr : Nat → Nat → Prop} {a b l : Nat} (h : HI lv tr) (hl : lv a b = l + 1) (ht : tr a b) :
    (∃ x y, cn (FI (set2 lv a b 0) tr 0) a x ∧ set2 lv a b 0 x y ≠ 0 ∧ ¬ tr x y ∧ ¬ cn (FI (set2 lv a b 0) tr 0) a y) ↔ cn (dl (EE lv) a b) a b := by
  have hw := h.1
  have e0 : lv a b ≠ 0 := by omega
  have ht2 := hw.2.2.2 a b e0 ht
  have hn : ¬ cn (FI (set2 lv a b 0) tr 0) a b := by rw [FI_dl]; exact h.2.1 a b ⟨by omega, ht⟩
  have back : ad (FI (set2 lv a b 0) tr 0) a b = FI lv tr 0 := by
    rw [FI_dl]
    exact ad_dl ⟨by omega, ht⟩ ⟨by rw [hw.1 b a]; omega, ht2⟩
  have hw' : WF (set2 lv a b 0) tr := WF_set hw (hw.2.1 a b e0) (WF_y hw e0) (WF_ne hw e0) (fun _ _ _ => rfl) (fun q => absurd rfl q)
  have sy := FI_sy hw' 0
  rw [← EE_dl]
  have sE := (WF_gr hw').1
  constructor
  · rintro ⟨x, y, cx, e, nt, ny⟩
    have hxy : lv x y ≠ 0 := by
      by_cases q : (x = a ∧ y = b) ∨ (x = b ∧ y = a)
      · rw [set2_in q] at e; exact absurd rfl e
      · rw [set2_out q] at e; exact e
    obtain ⟨k, hk⟩ : ∃ k, lv x y = k + 1 := ⟨lv x y - 1, by omega⟩
    have c : cn (FI lv tr 0) x y := cn_mo (FI_mo (Nat.zero_le k)) (h.2.2.1 x y k hk nt)
    rw [← back] at c
    rcases cn_ad c with c | ⟨c1, c2⟩ | ⟨c1, c2⟩
    · exact absurd (cn_tr cx c) ny
    · exact cn_tr (cn_st (cn_mo FI_E cx) e) (cn_sy sE (cn_mo FI_E c2))
    · exact absurd c2 ny
  · intro c
    refine Classical.byContradiction fun hno => hn ?_
    refine cn_cl (S := cn (FI (set2 lv a b 0) tr 0) a) (fun x y cx e => ?_) (cn_rf a) c
    by_cases q : tr x y
    · exact cn_st cx ⟨Nat.pos_of_ne_zero e, q⟩
    · exact Classical.byContradiction fun ny => hno ⟨x, y, cx, e, q, ny⟩
end
section
/-! breadth first, by rounds -/
def nxt (R : Nat → Nat → Prop) (S : Nat → Prop) (n y : Nat) : Prop := ∃ x, x < n ∧ S x ∧ R x y
def BI (R : Nat → Nat → Prop) (a : Nat) (P S : Nat → Prop) (rd : Nat) : Prop := P a ∧ (∀ y, P y → cn R a y) ∧ (∀ x, S x → P x) ∧ (∀ x y, P x → ¬ S x → R x y → P y) ∧ ((∃ x, x < 12 ∧ S x) → rd + 1 ≤ ctP P 12)
theorem bi_0 {R : Nat → Nat → Prop} {a : Nat} (ha : a < 12) : BI R a (fun y => y = a) (fun y => y = a) 0 :=
  ⟨rfl, fun y e => by rw [e]; exact cn_rf a, fun x h => h, fun x y h h' => absurd h h', fun _ => ctP_pos (P := fun y => y = a) ha rfl⟩
theorem bi_st {R : Nat → Nat → Prop} {a rd : Nat} {P S : Nat → Prop} (hR : ∀ x y, R x y → x < 12) (h : BI R a P S rd) (hs : ∃ x, x < 12 ∧ S x) : BI R a (fun y => P y ∨ (nxt R S 12 y ∧ ¬ P y)) (fun y => nxt R S 12 y ∧ ¬ P y) (rd + 1) := by
  obtain ⟨h1, h2, h3, h4, h5⟩ := h
  refine ⟨Or.inl h1, ?_, fun x q => Or.inr q, ?_, ?_⟩
  · rintro y (q | ⟨⟨x, _, sx, r⟩, _⟩)
    · exact h2 y q
    · exact cn_st (h2 x (h3 x sx)) r
  · rintro x y (q | q) hn r
    · by_cases sx : S x
      · by_cases py : P y
        · exact Or.inl py
        · exact Or.inr ⟨⟨x, hR x y r, sx, r⟩, py⟩
      · exact Or.inl (h4 x y q sx r)
    · exact absurd q hn
  · rintro ⟨x, hx, q⟩
    have := h5 hs
    have := ctP_lt (P := P) (Q := fun y => P y ∨ (nxt R S 12 y ∧ ¬ P y)) hx (fun k _ q => Or.inl q) q.2 (Or.inr q)
    omega
theorem bi_end {R : Nat → Nat → Prop} {a rd : Nat} {P S : Nat → Prop} (hR : ∀ x y, R x y → x < 12) (h : BI R a P S rd) (hs : rd = 12 ∨ ∀ x, x < 12 → ¬ S x) (y : Nat) : P y ↔ cn R a y := by
  obtain ⟨h1, h2, h3, h4, h5⟩ := h
  have hn : ∀ x, x < 12 → ¬ S x := by
    rcases hs with e | h
    · intro x hx sx
      have := h5 ⟨x, hx, sx⟩
      have := ctP_le P 12
      omega
    · exact h
  exact ⟨h2 y, fun c => cn_cl (S := P) (fun u v hu r => h4 u v hu (hn u (hR u v r)) r) h1 c⟩
theorem nxt_t {R : Nat → Nat → Prop} {S : Nat → Prop} {n : Nat} (h : S n) (y : Nat) : nxt R S (n + 1) y ↔ nxt R S n y ∨ R n y := by
  constructor
  · rintro ⟨x, hx, sx, r⟩
    rcases Nat.lt_or_ge x n with q | q
    · exact Or.inl ⟨x, q, sx, r⟩
    · have e : x = n := by omega
      subst e
      exact Or.inr r
  · rintro (⟨x, hx, sx, r⟩ | r)
    · exact ⟨x, by omega, sx, r⟩
    · exact ⟨n, by omega, h, r⟩
theorem nxt_f {R : Nat → Nat → Prop} {S : Nat → Prop} {n : Nat} (h : ¬ S n) (y : Nat) : nxt R S (n + 1) y ↔ nxt R S n y := by
  constructor
  · rintro ⟨x, hx, sx, r⟩
    rcases Nat.lt_or_ge x n with q | q
    · exact ⟨x, q, sx, r⟩
    · have e : x = n := by omega
      subst e
      exact absurd sx h
  · rintro ⟨x, hx, sx, r⟩
    exact ⟨x, by omega, sx, r⟩
/-- levels i .. j - 1 of a row -/
def rowj (lv : Nat → Nat → Nat) (tr : Nat → Nat → Prop) (i j x y : Nat) : Prop := ∃ k, i ≤ k ∧ k < j ∧ lv x y = k + 1 ∧ tr x y
theorem rowj_s {lv : Nat → Nat → Nat} {tr : Nat → Nat → Prop} {i j x y : Nat} (h : i ≤ j) : rowj lv tr i (j + 1) x y ↔ rowj lv tr i j x y ∨ (lv x y = j + 1 ∧ tr x y) := by
  constructor
  · rintro ⟨k, h1, h2, h3⟩
    rcases Nat.lt_or_ge k j with q | q
    · exact Or.inl ⟨k, h1, q, h3⟩
    · have e : k = j := by omega
      subst e
      exact Or.inr h3
  · rintro (⟨k, h1, h2, h3⟩ | h3)
    · exact ⟨k, h1, by omega, h3⟩
    · exact ⟨j, h, by omega, h3⟩
theorem rowj_4 {lv : Nat → Nat → Nat} {tr : Nat → Nat → Prop} {i x y : Nat} (h : lv x y ≤ 4) : rowj lv tr i 4 x y ↔ FI lv tr i x y := by
  constructor
  · rintro ⟨k, h1, h2, h3, h4⟩
    exact ⟨by omega, h4⟩
  · rintro ⟨h1, h2⟩
    exact ⟨lv x y - 1, by omega, by omega, by omega, h2⟩
/-! the plain walk -/
def WI (E : Nat → Nat → Prop) (a : Nat) (P : Nat → Prop) (rd : Nat) : Prop := P a ∧ (∀ y, P y → cn E a y) ∧ ((∀ x y, P x → E x y → P y) ∨ rd + 1 ≤ ctP P 12)
def WU (E : Nat → Nat → Prop) (a : Nat) (P0 P : Nat → Prop) (u : Nat) : Prop := (∀ y, P0 y → P y) ∧ (∀ y, P y → cn E a y) ∧ ∀ x y, x < u → P0 x → E x y → P y
theorem wi_0 {E : Nat → Nat → Prop} {a : Nat} (ha : a < 12) : WI E a (fun y => y = a) 0 :=
  ⟨rfl, fun y e => by rw [e]; exact cn_rf a, Or.inr (ctP_pos (P := fun y => y = a) ha rfl)⟩
theorem wu_0 {E : Nat → Nat → Prop} {a rd : Nat} {P : Nat → Prop} (h : WI E a P rd) : WU E a P P 0 := ⟨fun _ q => q, h.2.1, fun x y hx => absurd hx (Nat.not_lt_zero x)⟩
theorem wu_t {E : Nat → Nat → Prop} {a u : Nat} {P0 P : Nat → Prop} (h : WU E a P0 P u) (hu : P u) : WU E a P0 (fun y => P y ∨ E u y) (u + 1) := by
  refine ⟨fun y q => Or.inl (h.1 y q), ?_, fun x y hx p e => ?_⟩
  · rintro y (q | q)
    · exact h.2.1 y q
    · exact cn_st (h.2.1 u hu) q
  · rcases Nat.lt_or_ge x u with q | q
    · exact Or.inl (h.2.2 x y q p e)
    · have e1 : x = u := by omega
      subst e1
      exact Or.inr e
theorem wu_f {E : Nat → Nat → Prop} {a u : Nat} {P0 P : Nat → Prop} (h : WU E a P0 P u) (hu : ¬ P u) : WU E a P0 P (u + 1) := by
  refine ⟨h.1, h.2.1, fun x y hx p e => ?_⟩
  rcases Nat.lt_or_ge x u with q | q
  · exact h.2.2 x y q p e
  · have e1 : x = u := by omega
    subst e1
    exact absurd (h.1 x p) hu
theorem wu_end {E : Nat → Nat → Prop} {a rd : Nat} {P0 P : Nat → Prop} (hE : ∀ x y, E x y → x < 12) (hE2 : ∀ x y, E x y → y < 12) (h0 : WI E a P0 rd) (h : WU E a P0 P 12) : WI E a P (rd + 1) := by
  refine ⟨h.1 a h0.1, h.2.1, ?_⟩
  by_cases hc : ∀ x y, P0 x → E x y → P0 y
  · have back : ∀ y, P y → P0 y := fun y q => cn_cl (S := P0) hc h0.1 (h.2.1 y q)
    exact Or.inl fun x y px e => h.1 y (hc x y (back x px) e)
  · have hx : ∃ x y, P0 x ∧ E x y ∧ ¬ P0 y := Classical.byContradiction fun q => hc fun x y p e => Classical.byContradiction fun n => q ⟨x, y, p, e, n⟩
    obtain ⟨x, y, p, e, n⟩ := hx
    have h1 := ctP_lt (P := P0) (Q := P) (hE2 x y e) (fun k _ q => h.1 k q) n (h.2.2 x y (hE x y e) p e)
    rcases h0.2.2 with q | q
    · exact absurd q hc
    · exact Or.inr (by omega)
theorem wi_end {E : Nat → Nat → Prop} {a : Nat} {P : Nat → Prop} (h : WI E a P 12) (y : Nat) : P y ↔ cn E a y := by
  refine ⟨h.2.1 y, fun c => ?_⟩
  rcases h.2.2 with q | q
  · exact cn_cl (S := P) q h.1 c
  · have := ctP_le P 12
    omega
end
section
/-! the two passes over a piece, pair by pair -/
theorem RI_le {lv : Nat → Nat → Nat} {tr : Nat → Nat → Prop} {a b n : Nat} (h : RI lv tr a b n) (x y : Nat) : lv x y ≤ 3 := by
  obtain ⟨hw, -, -, -, hnt, hsz⟩ := h
  by_cases e : lv x y = 0
  · omega
  · obtain ⟨l, hl⟩ : ∃ l, lv x y = l + 1 := ⟨lv x y - 1, by omega⟩
    have hx := hw.2.1 x y e
    have fin : ∀ R : Nat → Nat → Prop, cn R x y → sml l (ctP (cn R x) 12) → lv x y ≤ 3 := by
      intro R c h3
      have h2 := ctP_two (P := cn R x) hx (WF_y hw e) (WF_ne hw e) (cn_rf x) c
      have h4 := two_pow_le (l := l) (sml_2 h2 h3)
      omega
    rcases Nat.lt_or_ge l n with q | q
    · refine fin (ad (FI lv tr l) a b) ?_ ((hsz l x hx).1 q)
      by_cases ht : tr x y
      · exact cn_1 (ad_in _ _ ⟨by omega, ht⟩)
      · exact (hnt x y l hl ht).1 q
    · refine fin (FI lv tr l) ?_ ((hsz l x hx).2 q)
      by_cases ht : tr x y
      · exact cn_1 ⟨by omega, ht⟩
      · exact (hnt x y l hl ht).2 q
section PASS
variable {lv lvc : Nat → Nat → Nat} {tr : Nat → Nat → Prop} {P : Nat → Prop} {i X Y : Nat}
def dn (X Y a b : Nat) : Prop := (a < X ∨ b < X) ∨ (a = X ∧ b < Y) ∨ (b = X ∧ a < Y)
def RL (lv : Nat → Nat → Nat) (tr : Nat → Nat → Prop) (P : Nat → Prop) (i X Y : Nat) (lvc : Nat → Nat → Nat) : Prop := ∀ a b, ((lv a b = i + 1 ∧ tr a b ∧ P a ∧ dn X Y a b) → lvc a b = i + 2) ∧ (¬ (lv a b = i + 1 ∧ tr a b ∧ P a ∧ dn X Y a b) → lvc a b = lv a b)
theorem rl_cong {X' Y' : Nat} (h : RL lv tr P i X Y lvc) (k : ∀ a b, lv a b = i + 1 → tr a b → P a → (dn X Y a b ↔ dn X' Y' a b)) : RL lv tr P i X' Y' lvc := fun a b => ⟨fun q => (h a b).1 ⟨q.1, q.2.1, q.2.2.1, (k a b q.1 q.2.1 q.2.2.1).mpr q.2.2.2⟩, fun q => (h a b).2 (fun z => q ⟨z.1, z.2.1, z.2.2.1, (k a b z.1 z.2.1 z.2.2.1).mp z.2.2.2⟩)⟩
theorem rl_0 : RL lv tr P i 0 0 lv := fun a b => ⟨fun q => absurd q.2.2.2 (by unfold dn; omega), fun _ => rfl⟩
theorem rl_in (hw : WF lv tr) (h : RL lv tr P i X 0 lvc) : RL lv tr P i X (X + 1) lvc := rl_cong h fun a b e _ _ => by
  have := WF_ne hw (x := a) (y := b) (by omega)
  unfold dn
  omega
theorem rl_out (hw : WF lv tr) (h : RL lv tr P i X 12 lvc) : RL lv tr P i (X + 1) 0 lvc := rl_cong h fun a b e _ _ => by
  have := hw.2.1 a b (by omega)
  have := WF_y hw (x := a) (y := b) (by omega)
  unfold dn
  omega
theorem rl_skip (hc : ∀ x y, P x → lv x y = i + 1 → tr x y → P y) (hX : ¬ P X) (h : RL lv tr P i X 0 lvc) : RL lv tr P i (X + 1) 0 lvc := rl_cong h fun a b e t p => by
  have h1 : a ≠ X := fun z => hX (by rw [← z]; exact p)
  have h2 : b ≠ X := fun z => hX (by rw [← z]; exact hc a b p e t)
  unfold dn
  omega
theorem rl_at (hXY : X < Y) (h : RL lv tr P i X Y lvc) : lvc X Y = lv X Y ∧ lvc Y X = lv Y X := ⟨(h X Y).2 (fun q => absurd q.2.2.2 (by unfold dn; omega)), (h Y X).2 (fun q => absurd q.2.2.2 (by unfold dn; omega))⟩
theorem rl_no (hw : WF lv tr) (hXY : X < Y) (h : RL lv tr P i X Y lvc) (hn : ¬ (lvc X Y = i + 1 ∧ tr X Y)) : RL lv tr P i X (Y + 1) lvc := rl_cong h fun a b e t _ => by
  have h1 := (rl_at hXY h).1
  have n1 : ¬ (a = X ∧ b = Y) := fun z => by
    rw [z.1, z.2] at e t
    exact hn ⟨by omega, t⟩
  have n2 : ¬ (a = Y ∧ b = X) := fun z => by
    rw [z.1, z.2] at e t
    have := hw.1 X Y
    exact hn ⟨by omega, hw.2.2.2 Y X (by omega) t⟩
  unfold dn
  omega
theorem rl_yes (hw : WF lv tr) (hc : ∀ x y, P x → lv x y = i + 1 → tr x y → P y) (hXY : X < Y) (hX : P X) (h : RL lv tr P i X Y lvc) (h1 : lvc X Y = i + 1) (ht : tr X Y) : lvc Y X = i + 1 ∧ tr Y X ∧ RL lv tr P i X (Y + 1) (set2 lvc X Y (i + 2)) := by
  obtain ⟨e1, e2⟩ := rl_at hXY h
  have hs := hw.1 X Y
  have ht2 : tr Y X := hw.2.2.2 X Y (by omega) ht
  have hY : P Y := hc X Y hX (by omega) ht
  refine ⟨by omega, ht2, fun a b => ?_⟩
  by_cases q : (a = X ∧ b = Y) ∨ (a = Y ∧ b = X)
  · rw [set2_in q]
    refine ⟨fun _ => rfl, fun z => absurd ?_ z⟩
    rcases q with q | q
    · rw [q.1, q.2]; exact ⟨by omega, ht, hX, by unfold dn; omega⟩
    · rw [q.1, q.2]; exact ⟨by omega, ht2, hY, by unfold dn; omega⟩
  · rw [set2_out q]
    have hd : dn X (Y + 1) a b ↔ dn X Y a b := by unfold dn; omega
    rw [hd]
    exact h a b
theorem rl_end (hw : WF lv tr) (h : RL lv tr P i 12 0 lvc) : raised lv tr P i lvc := fun a b => ⟨fun q => (h a b).1 ⟨q.1, q.2.1, q.2.2, by have := hw.2.1 a b (by omega); unfold dn; omega⟩, fun q => (h a b).2 (fun z => q ⟨z.1, z.2.1, z.2.2.1⟩)⟩
theorem raised_wf (hw : WF lv tr) (hc : ∀ x y, P x → lv x y = i + 1 → tr x y → P y) (h : raised lv tr P i lvc) : WF lvc tr := by
  have h0 : ∀ x y, lvc x y ≠ 0 ↔ lv x y ≠ 0 := fun x y => by
    by_cases q : lv x y = i + 1 ∧ tr x y ∧ P x
    · have := (h x y).1 q; omega
    · have := (h x y).2 q; omega
  have sw : ∀ x y, (lv x y = i + 1 ∧ tr x y ∧ P x) → (lv y x = i + 1 ∧ tr y x ∧ P y) := fun x y q => ⟨by rw [hw.1 y x]; exact q.1, hw.2.2.2 x y (by omega) q.2.1, hc x y q.2.2 q.1 q.2.1⟩
  refine ⟨fun x y => ?_, fun x y q => hw.2.1 x y ((h0 x y).mp q), fun x => ?_, fun x y q => hw.2.2.2 x y ((h0 x y).mp q)⟩
  · by_cases q : lv x y = i + 1 ∧ tr x y ∧ P x
    · rw [(h x y).1 q, (h y x).1 (sw x y q)]
    · rw [(h x y).2 q, (h y x).2 (fun z => q (sw y x z)), hw.1]
  · have := h0 x x
    have := hw.2.2.1 x
    omega
theorem raised_le {b : Nat} (hle : ∀ x y, lv x y ≤ b) (hi : i + 2 ≤ b) (h : raised lv tr P i lvc) (x y : Nat) : lvc x y ≤ b := by
  by_cases q : lv x y = i + 1 ∧ tr x y ∧ P x
  · have := (h x y).1 q; omega
  · have := (h x y).2 q; have := hle x y; omega
/-! the search -/
def SL (lv : Nat → Nat → Nat) (tr : Nat → Nat → Prop) (P : Nat → Prop) (i X Y : Nat) (lvc : Nat → Nat → Nat) : Prop := (∀ a b, lvc a b = lvc b a) ∧ (∀ a b, lvc a b = lv a b ∨ (lv a b = i + 1 ∧ ¬ tr a b ∧ P a ∧ P b ∧ lvc a b = i + 2)) ∧
  ∀ a b, lv a b = i + 1 → ¬ tr a b → P a → (a < X ∨ (a = X ∧ b < Y)) → (P b ∧ lvc a b = i + 2)
theorem sl_0 (hw : WF lv tr) : SL lv tr P i 0 0 lv := ⟨hw.1, fun _ _ => Or.inl rfl, fun a b _ _ _ q => by omega⟩
theorem sl_out (hw : WF lv tr) (h : SL lv tr P i X 12 lvc) : SL lv tr P i (X + 1) 0 lvc := ⟨h.1, h.2.1, fun a b e t p q => h.2.2 a b e t p (by have := WF_y hw (x := a) (y := b) (by omega); omega)⟩
theorem sl_skip (hX : ¬ P X) (h : SL lv tr P i X 0 lvc) : SL lv tr P i (X + 1) 0 lvc := by
  refine ⟨h.1, h.2.1, fun a b e t p q => h.2.2 a b e t p ?_⟩
  have h1 : a ≠ X := fun z => hX (by rw [← z]; exact p)
  omega
theorem sl_no (h : SL lv tr P i X Y lvc) (hn : ¬ (lvc X Y = i + 1 ∧ ¬ tr X Y)) : SL lv tr P i X (Y + 1) lvc := by
  refine ⟨h.1, h.2.1, fun a b e t p q => ?_⟩
  by_cases z : a = X ∧ b = Y
  · rcases h.2.1 a b with r | r
    · exact absurd ⟨by rw [← z.1, ← z.2]; omega, by rw [← z.1, ← z.2]; exact t⟩ hn
    · exact ⟨r.2.2.2.1, r.2.2.2.2⟩
  · exact h.2.2 a b e t p (by omega)
theorem sl_at (h : SL lv tr P i X Y lvc) (h1 : lvc X Y = i + 1) : lv X Y = i + 1 := by
  rcases h.2.1 X Y with r | r <;> omega
theorem sl_yes (hw : WF lv tr) (hX : P X) (hY : P Y) (h : SL lv tr P i X Y lvc) (h1 : lvc X Y = i + 1) (ht : ¬ tr X Y) : SL lv tr P i X (Y + 1) (set2 lvc X Y (i + 2)) := by
  have e1 := sl_at h h1
  have hs := hw.1 X Y
  have ht2 : ¬ tr Y X := fun q => ht (hw.2.2.2 Y X (by omega) q)
  refine ⟨set2_sy h.1, fun a b => ?_, fun a b e t p q => ?_⟩
  · by_cases z : (a = X ∧ b = Y) ∨ (a = Y ∧ b = X)
    · rw [set2_in z]
      rcases z with z | z
      · rw [z.1, z.2]; exact Or.inr ⟨e1, ht, hX, hY, rfl⟩
      · rw [z.1, z.2]; exact Or.inr ⟨by omega, ht2, hY, hX, rfl⟩
    · rw [set2_out z]; exact h.2.1 a b
  · by_cases z : (a = X ∧ b = Y) ∨ (a = Y ∧ b = X)
    · rw [set2_in z]
      rcases z with z | z
      · rw [z.2]; exact ⟨hY, rfl⟩
      · rw [z.2]; exact ⟨hX, rfl⟩
    · rw [set2_out z]; exact h.2.2 a b e t p (by omega)
theorem sl_end (hw : WF lv tr) (h : SL lv tr P i 12 0 lvc) : srch lv tr P i False lvc tr := ⟨h.1, h.2.1, Or.inl ⟨fun q => q, rfl, fun a b e t p => h.2.2 a b e t p (by have := hw.2.1 a b (by omega); omega)⟩⟩
theorem sl_found (hX : P X) (hY : ¬ P Y) (h : SL lv tr P i X Y lvc) (h1 : lvc X Y = i + 1) (ht : ¬ tr X Y) : srch lv tr P i True lvc (set2 tr X Y True) := ⟨h.1, h.2.1, Or.inr ⟨trivial, X, Y, hX, hY, sl_at h h1, ht, rfl⟩⟩
end PASS
end
section
/-! at the start: no edges -/
abbrev lv0 : Nat → Nat → Nat := fun _ _ => 0
abbrev tr0 : Nat → Nat → Prop := fun _ _ => False
theorem ctP_one {a n : Nat} (ha : a < n) : ctP (fun k => k = a) n = 1 := by
  have h := ctP_add (P := fun _ => False) (Q := fun k => k = a) (n := n) ha (fun q => q) rfl (fun k hk => ⟨fun e => hk e, fun q => q.elim⟩)
  have h0 := ctP_0 (P := fun _ => False) (n := n) (fun _ _ q => q)
  omega
theorem cn_none {R : Nat → Nat → Prop} (h : ∀ x y, ¬ R x y) {a b : Nat} (c : cn R a b) : b = a := cn_cl (S := fun z => z = a) (fun u v _ r => absurd r (h u v)) rfl c
theorem hi_0 : HI lv0 tr0 := by
  refine ⟨⟨fun _ _ => rfl, fun x y q => absurd rfl q, fun _ => rfl, fun x y q => absurd rfl q⟩, fun x y q => absurd q.1 (Nat.lt_irrefl _), fun x y l q => absurd (show 0 = l + 1 from q) (by omega), fun l x hx => ?_⟩
  have h := ctP_sub (P := cn (FI lv0 tr0 l) x) (Q := fun k => k = x) (n := 12) (fun k _ c => cn_none (fun u v r => r.2) c)
  rw [ctP_one hx] at h
  exact Or.inl h
theorem EE_0 : EE lv0 = fun _ _ => False := by
  funext x y
  exact propext ⟨fun q => q rfl, fun q => q.elim⟩
theorem gr_none : gr (fun _ _ => False) := ⟨fun _ _ q => q, fun _ _ q => q.elim, fun _ q => q⟩
end
section
/-! the two objects' pictures and their rows -/
abbrev vwCl : List vw_C := [(RX0, TX0, 6), (RX1, TX1, 2)]
abbrev XT (cB cZ cS cI : ClassId) : List (ClassId × FieldType) := [(cB, .byte), (cZ, .boolean), (cS, .short), (cI, .int)]
abbrev PXr (h0 aL aZ aT aO : Nat) (cB cZ cS : ClassId) (ec pt : Int32) (gL gZ gT gO : Nat → Int32) : va_W := [(h0, .inr (0, [.int ec, .int pt, .ref aL, .ref aZ, .ref aT, .ref aO])), (aL, .inl (cB, 144, .inl gL)), (aZ, .inl (cZ, 144, .inl gZ)), (aT, .inl (cS, 48, .inl gT)), (aO, .inl (cS, 48, .inl gO))]
abbrev PMr (h1 aN aK : Nat) (cI : ClassId) (gN gK : Nat → Int32) : va_W := [(h1, .inr (1, [.ref aN, .ref aK])), (aN, .inl (cI, 12, .inl gN)), (aK, .inl (cI, 12, .inl gK))]
def XD (A : Nat → Prop) (h0 aL aZ aT aO : Nat) (cB cZ cS : ClassId) : Prop := ∀ ec pt gL gZ gT gO, va_D A (PXr h0 aL aZ aT aO cB cZ cS ec pt gL gZ gT gO)
def MD (A : Nat → Prop) (h1 aN aK : Nat) (cI : ClassId) : Prop := ∀ gN gK, va_D A (PMr h1 aN aK cI gN gK)
noncomputable def fL (lv : Nat → Nat → Nat) : Nat → Int32 := fun k => nI (lv (k / 12) (k % 12)) - 1
noncomputable def fZ (tr : Nat → Nat → Prop) : Nat → Int32 := fun k => b01 (tr (k / 12) (k % 12))
noncomputable def fT (lv : Nat → Nat → Nat) (tr : Nat → Nat → Prop) : Nat → Int32 := fun k => bm (fun y => lv (k % 12) y = k / 12 + 1 ∧ tr (k % 12) y)
noncomputable def fO (lv : Nat → Nat → Nat) (tr : Nat → Nat → Prop) : Nat → Int32 := fun k => bm (fun y => lv (k % 12) y = k / 12 + 1 ∧ ¬ tr (k % 12) y)
noncomputable def fN (E : Nat → Nat → Prop) : Nat → Int32 := fun k => bm (E k)
noncomputable abbrev PX (h0 aL aZ aT aO : Nat) (cB cZ cS : ClassId) (ec pt : Int32) (lv : Nat → Nat → Nat) (tr : Nat → Nat → Prop) : va_W := PXr h0 aL aZ aT aO cB cZ cS ec pt (fL lv) (fZ tr) (fT lv tr) (fO lv tr)
noncomputable abbrev PM (h1 aN aK : Nat) (cI : ClassId) (E : Nat → Nat → Prop) (gK : Nat → Int32) : va_W := PMr h1 aN aK cI (fN E) gK
/-- contracts' starts and ends -/
def cPc (D : va_G) (T : List (ClassId × FieldType)) (ws : va_W) (as : List Value) : Array Value → State → Prop := va_Pc as (fun U => va_P D vwCl ws U.heap ∧ va_K D vwCl T U)
def cQi (D : va_G) {S : Type} (A : Nat → Prop) (post : Int32 → S → Prop) (Pic : S → va_W) : Array Value → State → Outcome → State → Prop := va_Qi post (fun u t => va_P D vwCl (Pic u) t.heap) A
def cQv (D : va_G) {S : Type} (A : Nat → Prop) (post : S → Prop) (Pic : S → va_W) : Array Value → State → Outcome → State → Prop := va_Qv post (fun u t => va_P D vwCl (Pic u) t.heap) A
abbrev rmd (d : Nat) : Room := { frames := d, cells := 0, slots := 0, locals := 30 * d }
theorem ix12 (a b : Nat) : (12 : Int32) * nI a + nI b = nI (12 * a + b) := by
  rw [show (12 : Int32) = nI 12 from by decide +kernel, pk_mul, nI_add]
theorem dv12 {a b : Nat} (hb : b < 12) : (12 * a + b) / 12 = a := by omega
theorem md12 {a b : Nat} (hb : b < 12) : (12 * a + b) % 12 = b := by omega
theorem fL_at (lv : Nat → Nat → Nat) {a b : Nat} (hb : b < 12) : fL lv (12 * a + b) = nI (lv a b) - 1 := by unfold fL; rw [dv12 hb, md12 hb]
theorem fZ_at (tr : Nat → Nat → Prop) {a b : Nat} (hb : b < 12) : fZ tr (12 * a + b) = b01 (tr a b) := by unfold fZ; rw [dv12 hb, md12 hb]
theorem fT_at (lv : Nat → Nat → Nat) (tr : Nat → Nat → Prop) {i x : Nat} (hx : x < 12) : fT lv tr (12 * i + x) = bm (fun y => lv x y = i + 1 ∧ tr x y) := by unfold fT; rw [dv12 hx, md12 hx]
theorem fO_at (lv : Nat → Nat → Nat) (tr : Nat → Nat → Prop) {i x : Nat} (hx : x < 12) : fO lv tr (12 * i + x) = bm (fun y => lv x y = i + 1 ∧ ¬ tr x y) := by unfold fO; rw [dv12 hx, md12 hx]
theorem upd_in {f : Nat → Int32} {k : Nat} {v : Int32} : upd f k v k = v := if_pos rfl
theorem upd_out {f : Nat → Int32} {k j : Nat} {v : Int32} (h : j ≠ k) : upd f k v j = f j := if_neg h
/-! ===== place and unplace on the arrays ===== -/
theorem k12 (k : Nat) : k = 12 * (k / 12) + k % 12 := by omega
theorem up2 {f g : Nat → Int32} {a b c d : Nat} {v w : Int32} (hb : b < 12) (hd : d < 12) (h1 : g (12 * a + b) = v ∨ (a = c ∧ b = d)) (h2 : g (12 * c + d) = w) (h3 : ∀ x y, y < 12 → ¬ (x = a ∧ y = b) → ¬ (x = c ∧ y = d) → g (12 * x + y) = f (12 * x + y)) : upd (upd f (12 * a + b) v) (12 * c + d) w = g := by
  funext k
  by_cases q2 : k = 12 * c + d
  · rw [q2, upd_in, h2]
  · rw [upd_out q2]
    by_cases q1 : k = 12 * a + b
    · rw [q1, upd_in]
      rcases h1 with h1 | h1
      · exact h1.symm
      · exact absurd (by rw [q1, h1.1, h1.2]) q2
    · rw [upd_out q1, k12 k]
      exact (h3 (k / 12) (k % 12) (by omega) (fun z => q1 (by rw [← z.1, ← z.2]; exact k12 k)) (fun z => q2 (by rw [← z.1, ← z.2]; exact k12 k))).symm
theorem pl_L {lv : Nat → Nat → Nat} {a b v : Nat} {w : Int32} (ha : a < 12) (hb : b < 12) (hw : nI v - 1 = w) : upd (upd (fL lv) (12 * a + b) w) (12 * b + a) w = fL (set2 lv a b v) := by
  refine up2 hb ha (Or.inl ?_) ?_ ?_
  · rw [fL_at _ hb, set2_ab]; exact hw
  · rw [fL_at _ ha, set2_ba]; exact hw
  · intro x y hy q1 q2
    rw [fL_at _ hy, fL_at _ hy, set2_out (fun z => z.elim q1 q2)]
theorem pl_Z {tr : Nat → Nat → Prop} {a b : Nat} {t : Prop} (ha : a < 12) (hb : b < 12) : upd (upd (fZ tr) (12 * a + b) (b01 t)) (12 * b + a) (b01 t) = fZ (set2 tr a b t) := by
  refine up2 hb ha (Or.inl ?_) ?_ ?_
  · rw [fZ_at _ hb, set2_ab]
  · rw [fZ_at _ ha, set2_ba]
  · intro x y hy q1 q2
    rw [fZ_at _ hy, fZ_at _ hy, set2_out (fun z => z.elim q1 q2)]
/-- what a row of neighbours becomes, in general -/
theorem row_e {P Q : Nat → Prop} {b : Nat} {v : Prop} (h1 : P b ↔ v) (h2 : ∀ y, y ≠ b → (P y ↔ Q y)) : bm P = bm (fun y => (Q y ∧ y ≠ b) ∨ (y = b ∧ v)) := bm_cong fun y _ => by
  by_cases e : y = b
  · subst e
    exact ⟨fun p => Or.inr ⟨rfl, h1.mp p⟩, fun q => q.elim (fun z => absurd rfl z.2) (fun z => h1.mpr z.2)⟩
  · exact ⟨fun p => Or.inl ⟨(h2 y e).mp p, e⟩, fun q => q.elim (fun z => (h2 y e).mpr z.1) (fun z => absurd z.1 e)⟩
theorem pl_T {lv : Nat → Nat → Nat} {tr : Nat → Nat → Prop} {a b v : Nat} (ha : a < 12) (hb : b < 12) (hab : a ≠ b) (h1 : lv a b = 0) (h2 : lv b a = 0) :
    upd (upd (fT lv tr) (12 * v + a) (bm (fun y => (lv a y = v + 1 ∧ tr a y) ∨ y = b))) (12 * v + b) (bm (fun y => (lv b y = v + 1 ∧ tr b y) ∨ y = a)) = fT (set2 lv a b (v + 1)) (set2 tr a b True) := by
  have out : ∀ {x y : Nat}, x ≠ a → x ≠ b → ¬ ((x = a ∧ y = b) ∨ (x = b ∧ y = a)) := fun h1 h2 z => z.elim (fun z => h1 z.1) (fun z => h2 z.1)
  refine up2 ha hb (Or.inl ?_) ?_ ?_
  · rw [fT_at _ _ ha]
    refine bm_cong fun y _ => ?_
    by_cases e : y = b
    · subst e; rw [set2_ab, set2_ab]; exact ⟨fun _ => Or.inr rfl, fun _ => ⟨rfl, trivial⟩⟩
    · rw [set2_out (fun z => z.elim (fun z => e z.2) (fun z => hab z.1)), set2_out (fun z => z.elim (fun z => e z.2) (fun z => hab z.1))]
      exact ⟨fun q => Or.inl q, fun q => q.elim id (fun z => absurd z e)⟩
  · rw [fT_at _ _ hb]
    refine bm_cong fun y _ => ?_
    by_cases e : y = a
    · subst e; rw [set2_ba, set2_ba]; exact ⟨fun _ => Or.inr rfl, fun _ => ⟨rfl, trivial⟩⟩
    · rw [set2_out (fun z => z.elim (fun z => hab z.1.symm) (fun z => e z.2)), set2_out (fun z => z.elim (fun z => hab z.1.symm) (fun z => e z.2))]
      exact ⟨fun q => Or.inl q, fun q => q.elim id (fun z => absurd z e)⟩
  · intro i x hx q1 q2
    rw [fT_at _ _ hx, fT_at _ _ hx]
    refine bm_cong fun y _ => ?_
    by_cases e : (x = a ∧ y = b) ∨ (x = b ∧ y = a)
    · rw [set2_in e]
      have e0 : lv x y = 0 := by rcases e with e | e <;> rw [e.1, e.2] <;> assumption
      rcases e with e | e
      · exact ⟨fun z => absurd ⟨by omega, e.1⟩ q1, fun z => by omega⟩
      · exact ⟨fun z => absurd ⟨by omega, e.1⟩ q2, fun z => by omega⟩
    · rw [set2_out e, set2_out e]
theorem pl_O {lv : Nat → Nat → Nat} {tr : Nat → Nat → Prop} {a b v : Nat} (ha : a < 12) (hb : b < 12) (hab : a ≠ b) (h1 : lv a b = 0) (h2 : lv b a = 0) :
    upd (upd (fO lv tr) (12 * v + a) (bm (fun y => (lv a y = v + 1 ∧ ¬ tr a y) ∨ y = b))) (12 * v + b) (bm (fun y => (lv b y = v + 1 ∧ ¬ tr b y) ∨ y = a)) = fO (set2 lv a b (v + 1)) (set2 tr a b False) := by
  refine up2 ha hb (Or.inl ?_) ?_ ?_
  · rw [fO_at _ _ ha]
    refine bm_cong fun y _ => ?_
    by_cases e : y = b
    · subst e; rw [set2_ab, set2_ab]; exact ⟨fun _ => Or.inr rfl, fun _ => ⟨rfl, fun z => z⟩⟩
    · rw [set2_out (fun z => z.elim (fun z => e z.2) (fun z => hab z.1)), set2_out (fun z => z.elim (fun z => e z.2) (fun z => hab z.1))]
      exact ⟨fun q => Or.inl q, fun q => q.elim id (fun z => absurd z e)⟩
  · rw [fO_at _ _ hb]
    refine bm_cong fun y _ => ?_
    by_cases e : y = a
    · subst e; rw [set2_ba, set2_ba]; exact ⟨fun _ => Or.inr rfl, fun _ => ⟨rfl, fun z => z⟩⟩
    · rw [set2_out (fun z => z.elim (fun z => hab z.1.symm) (fun z => e z.2)), set2_out (fun z => z.elim (fun z => hab z.1.symm) (fun z => e z.2))]
      exact ⟨fun q => Or.inl q, fun q => q.elim id (fun z => absurd z e)⟩
  · intro i x hx q1 q2
    rw [fO_at _ _ hx, fO_at _ _ hx]
    refine bm_cong fun y _ => ?_
    by_cases e : (x = a ∧ y = b) ∨ (x = b ∧ y = a)
    · rw [set2_in e]
      have e0 : lv x y = 0 := by rcases e with e | e <;> rw [e.1, e.2] <;> assumption
      rcases e with e | e
      · exact ⟨fun z => absurd ⟨by omega, e.1⟩ q1, fun z => by omega⟩
      · exact ⟨fun z => absurd ⟨by omega, e.1⟩ q2, fun z => by omega⟩
    · rw [set2_out e, set2_out e]
/-- the other table stays -/
theorem pl_To {lv : Nat → Nat → Nat} {tr : Nat → Nat → Prop} {a b v : Nat} (h1 : lv a b = 0) (h2 : lv b a = 0) : fT lv tr = fT (set2 lv a b (v + 1)) (set2 tr a b False) := by
  funext k
  refine bm_cong fun y _ => ?_
  by_cases e : (k % 12 = a ∧ y = b) ∨ (k % 12 = b ∧ y = a)
  · rw [set2_in e, set2_in e]
    have e0 : lv (k % 12) y = 0 := by rcases e with e | e <;> rw [e.1, e.2] <;> assumption
    exact ⟨fun z => by omega, fun z => z.2.elim⟩
  · rw [set2_out e, set2_out e]
theorem pl_Oo {lv : Nat → Nat → Nat} {tr : Nat → Nat → Prop} {a b v : Nat} (h1 : lv a b = 0) (h2 : lv b a = 0) : fO lv tr = fO (set2 lv a b (v + 1)) (set2 tr a b True) := by
  funext k
  refine bm_cong fun y _ => ?_
  by_cases e : (k % 12 = a ∧ y = b) ∨ (k % 12 = b ∧ y = a)
  · rw [set2_in e, set2_in e]
    have e0 : lv (k % 12) y = 0 := by rcases e with e | e <;> rw [e.1, e.2] <;> assumption
    exact ⟨fun z => by omega, fun z => absurd trivial z.2⟩
  · rw [set2_out e, set2_out e]
theorem un_T {lv : Nat → Nat → Nat} {tr : Nat → Nat → Prop} {a b v : Nat} (ha : a < 12) (hb : b < 12) (hab : a ≠ b) (h1 : lv a b = v + 1) (h2 : lv b a = v + 1) :
    upd (upd (fT lv tr) (12 * v + a) (bm (fun y => (lv a y = v + 1 ∧ tr a y) ∧ ¬ y = b))) (12 * v + b) (bm (fun y => (lv b y = v + 1 ∧ tr b y) ∧ ¬ y = a)) = fT (set2 lv a b 0) tr := by
  refine up2 ha hb (Or.inl ?_) ?_ ?_
  · rw [fT_at _ _ ha]
    refine bm_cong fun y _ => ?_
    by_cases e : y = b
    · subst e; rw [set2_ab]; exact ⟨fun q => by omega, fun q => absurd rfl q.2⟩
    · rw [set2_out (fun z => z.elim (fun z => e z.2) (fun z => hab z.1))]
      exact ⟨fun q => ⟨q, e⟩, fun q => q.1⟩
  · rw [fT_at _ _ hb]
    refine bm_cong fun y _ => ?_
    by_cases e : y = a
    · subst e; rw [set2_ba]; exact ⟨fun q => by omega, fun q => absurd rfl q.2⟩
    · rw [set2_out (fun z => z.elim (fun z => hab z.1.symm) (fun z => e z.2))]
      exact ⟨fun q => ⟨q, e⟩, fun q => q.1⟩
  · intro i x hx q1 q2
    rw [fT_at _ _ hx, fT_at _ _ hx]
    refine bm_cong fun y _ => ?_
    by_cases e : (x = a ∧ y = b) ∨ (x = b ∧ y = a)
    · rw [set2_in e]
      have e0 : lv x y = v + 1 := by rcases e with e | e <;> rw [e.1, e.2] <;> assumption
      rcases e with e | e
      · exact ⟨fun z => by omega, fun z => absurd ⟨by omega, e.1⟩ q1⟩
      · exact ⟨fun z => by omega, fun z => absurd ⟨by omega, e.1⟩ q2⟩
    · rw [set2_out e]
theorem un_O {lv : Nat → Nat → Nat} {tr : Nat → Nat → Prop} {a b v : Nat} (ha : a < 12) (hb : b < 12) (hab : a ≠ b) (h1 : lv a b = v + 1) (h2 : lv b a = v + 1) :
    upd (upd (fO lv tr) (12 * v + a) (bm (fun y => (lv a y = v + 1 ∧ ¬ tr a y) ∧ ¬ y = b))) (12 * v + b) (bm (fun y => (lv b y = v + 1 ∧ ¬ tr b y) ∧ ¬ y = a)) = fO (set2 lv a b 0) tr := by
  refine up2 ha hb (Or.inl ?_) ?_ ?_
  · rw [fO_at _ _ ha]
    refine bm_cong fun y _ => ?_
    by_cases e : y = b
    · subst e; rw [set2_ab]; exact ⟨fun q => by omega, fun q => absurd rfl q.2⟩
    · rw [set2_out (fun z => z.elim (fun z => e z.2) (fun z => hab z.1))]
      exact ⟨fun q => ⟨q, e⟩, fun q => q.1⟩
  · rw [fO_at _ _ hb]
    refine bm_cong fun y _ => ?_
    by_cases e : y = a
    · subst e; rw [set2_ba]; exact ⟨fun q => by omega, fun q => absurd rfl q.2⟩
    · rw [set2_out (fun z => z.elim (fun z => hab z.1.symm) (fun z => e z.2))]
      exact ⟨fun q => ⟨q, e⟩, fun q => q.1⟩
  · intro i x hx q1 q2
    rw [fO_at _ _ hx, fO_at _ _ hx]
    refine bm_cong fun y _ => ?_
    by_cases e : (x = a ∧ y = b) ∨ (x = b ∧ y = a)
    · rw [set2_in e]
      have e0 : lv x y = v + 1 := by rcases e with e | e <;> rw [e.1, e.2] <;> assumption
      rcases e with e | e
      · exact ⟨fun z => by omega, fun z => absurd ⟨by omega, e.1⟩ q1⟩
      · exact ⟨fun z => by omega, fun z => absurd ⟨by omega, e.1⟩ q2⟩
    · rw [set2_out e]
/-! ===== the rows ===== -/
section XR
variable {p : Program} {l : Launch} {e : Env} {R : Room} {s : State} {m : MethodId} {args : Array Value} {below : List Frame} {meth : Method} {c : Code} {H : Heap} {locs : List Loc} {cells slots : Nat} {Q : State → Prop}
variable {cc : ByteArray} {nL pc : Nat} {ls : Array Slot} {rest : List Value} {D : va_G} {A : Nat → Prop} {T : List (ClassId × FieldType)} {own : String} {i x v : Int32} {k : Nat}
/-- what holds all through a method -/
abbrev FX (p : Program) (s : State) (m : MethodId) (c : Code) (cc : ByteArray) (nL : Nat) (args : Array Value) (D : va_G) (T : List (ClassId × FieldType)) (own : String) : Prop := CallFix p m c cc nL s args lw_all own ∧ va_K D vwCl T s
theorem g_calli {S : Type} {Pic : S → va_W} {ws0 : va_W} {post : Int32 → S → Prop} {rm : Room} {wsm : List Cond} {y : MethodName} {bytes : ByteArray} {maxL n index ci : Nat} {ret : Option FieldType} {C : String} {qq : u_T × Nat} {As st fs : List Value} {b : Nat} {A1 : Nat → Prop}
    (F : FX p s m c cc nL args D T own) (hM : Met l y wsm rm (cPc D T ws0 (.ref b :: As)) (cQi D A1 post Pic) 0 0 A1) (cw : CallW R s args own C index y bytes maxL ret wsm rm 0 0 n) (hP : va_P D vwCl ws0 H) (hS : va_S A s.heap H locs) (hAA : ∀ q, A1 q → A q)
    (hc : vwCl[ci]? = some (C, qq)) (he : ws0[0]? = some (b, .inr (ci, fs))) (hn : As.length = n) (hsz : ls.size = nL) (hst : st = As.reverse ++ .ref b :: rest) (hW : (rest.map fun v => v.category).sum ≤ 8) (hdg : decode cc pc = .ok (.invokevirtual index, 3)) (hf : cells ≤ R.cells ∧ slots ≤ R.slots)
    (kk : ∀ (r : Int32) (u : S) (H1 : Heap) (locs1 : List Loc), post r u → va_P D vwCl (Pic u) H1 → va_S A s.heap H1 locs1 → (∀ q : Nat, q < H.size → ¬ A1 q → H1[q]? = H[q]?) → W p l e R s m args below meth c H1 locs1 cells slots Q (F0 m (pc + 3) ls (.int r :: rest))) : W p l e R s m args below meth c H locs cells slots Q (F0 m pc ls st) := by
  refine va_calli (va_runV (As := As) (rest := rest) F.1 hM cw ⟨fun a U g mk q => by obtain ⟨q0, qP, qK⟩ := q; exact ⟨q0, qP, va_K.moved (u := U) (U := U.calling g mk a) (Vm.Alike.refl U.vm) qK⟩, va_recv F.2 hP hc he, fun U hU hW => ⟨rfl, by rw [hU]; exact hP, va_K.moved hW.alike F.2⟩⟩ rfl hn hsz hst (lv_room hW) hdg hf) hS (fun q _ h => hAA q h) hAA (fun r u t H1 locs1 ht hvm hp hB hz hk hS1 => kk r u H1 locs1 hp (by rw [← ht]; exact hB) hS1 hk)
theorem g_callv {S : Type} {Pic : S → va_W} {ws0 : va_W} {post : S → Prop} {rm : Room} {wsm : List Cond} {y : MethodName} {bytes : ByteArray} {maxL n index ci : Nat} {ret : Option FieldType} {C : String} {qq : u_T × Nat} {As st fs : List Value} {b : Nat} {A1 : Nat → Prop}
    (F : FX p s m c cc nL args D T own) (hM : Met l y wsm rm (cPc D T ws0 (.ref b :: As)) (cQv D A1 post Pic) 0 0 A1) (cw : CallW R s args own C index y bytes maxL ret wsm rm 0 0 n) (hP : va_P D vwCl ws0 H) (hS : va_S A s.heap H locs) (hAA : ∀ q, A1 q → A q)
    (hc : vwCl[ci]? = some (C, qq)) (he : ws0[0]? = some (b, .inr (ci, fs))) (hn : As.length = n) (hsz : ls.size = nL) (hst : st = As.reverse ++ .ref b :: rest) (hW : (rest.map fun v => v.category).sum ≤ 8) (hdg : decode cc pc = .ok (.invokevirtual index, 3)) (hf : cells ≤ R.cells ∧ slots ≤ R.slots)
    (kk : ∀ (u : S) (H1 : Heap) (locs1 : List Loc), post u → va_P D vwCl (Pic u) H1 → va_S A s.heap H1 locs1 → (∀ q : Nat, q < H.size → ¬ A1 q → H1[q]? = H[q]?) → W p l e R s m args below meth c H1 locs1 cells slots Q (F0 m (pc + 3) ls rest)) : W p l e R s m args below meth c H locs cells slots Q (F0 m pc ls st) := by
  refine va_callv (va_runV (As := As) (rest := rest) F.1 hM cw ⟨fun a U g mk q => by obtain ⟨q0, qP, qK⟩ := q; exact ⟨q0, qP, va_K.moved (u := U) (U := U.calling g mk a) (Vm.Alike.refl U.vm) qK⟩, va_recv F.2 hP hc he, fun U hU hW => ⟨rfl, by rw [hU]; exact hP, va_K.moved hW.alike F.2⟩⟩ rfl hn hsz hst (lv_room hW) hdg hf) hS (fun q _ h => hAA q h) hAA (fun u t H1 locs1 ht hvm hp hB hz hk hS1 => kk u H1 locs1 hp (by rw [← ht]; exact hB) hS1 hk)
theorem r_i {S : Type} {Pic : S → va_W} {post : Int32 → S → Prop} (u : S) (F : FX p s m c cc nL args D T own) (hr : meth.sig.returnType = some .int) (hlk : meth.locks = false) (hP : va_P D vwCl (Pic u) H) (hS : va_S A s.heap H locs) (hpost : post v u) (hdg : decode cc pc = .ok (.ireturn, 1)) : W p l e R s m args below meth c H locs 0 0 (MQ below (cQi D A post Pic) args s 0 0 A) (F0 m pc ls [.int v]) :=
  W.iret F.1.1 F.1.2.1 hr (fun t ht _ => ⟨⟨v, u, rfl, hpost, (by show va_P D vwCl (Pic u) t.heap; rw [ht]; exact hP)⟩, hS.F ht⟩) hS.2.2 hdg hlk
theorem r_z {S : Type} {Pic : S → va_W} {post : Int32 → S → Prop} (u : S) (F : FX p s m c cc nL args D T own) (hr : meth.sig.returnType = some .boolean) (hlk : meth.locks = false) (hn : narrow .boolean (.int v) = .int v) (hP : va_P D vwCl (Pic u) H) (hS : va_S A s.heap H locs) (hpost : post v u) (hdg : decode cc pc = .ok (.ireturn, 1)) : W p l e R s m args below meth c H locs 0 0 (MQ below (cQi D A post Pic) args s 0 0 A) (F0 m pc ls [.int v]) :=
  W.zret F.1.1 F.1.2.1 hr hn (fun t ht _ => ⟨⟨v, u, rfl, hpost, (by show va_P D vwCl (Pic u) t.heap; rw [ht]; exact hP)⟩, hS.F ht⟩) hS.2.2 hdg hlk
theorem r_v {S : Type} {Pic : S → va_W} {post : S → Prop} (u : S) (F : FX p s m c cc nL args D T own) (hr : meth.sig.returnType = none) (hlk : meth.locks = false) (hP : va_P D vwCl (Pic u) H) (hS : va_S A s.heap H locs) (hpost : post u) (hdg : decode cc pc = .ok (.return_, 1)) : W p l e R s m args below meth c H locs 0 0 (MQ below (cQv D A post Pic) args s 0 0 A) (F0 m pc ls []) :=
  W.vret F.1.1 F.1.2.1 hr (fun t ht _ => ⟨⟨u, rfl, hpost, (by show va_P D vwCl (Pic u) t.heap; rw [ht]; exact hP)⟩, hS.F ht⟩) hS.2.2 hdg hlk
/-- the head of any method -/
theorem g_head {y : MethodName} {rm : Room} {Qc : Array Value → State → Outcome → State → Prop} {maxL : Nat} {ret : Option FieldType} {ws0 : va_W} {as : List Value} {mc ms : Nat} (hy : plainName y.cls = true) (hyc : y.cls = own) (hlen : (lg_sl as).length ≤ maxL)
    (body : ∀ (p : Program) (e : Env) (s : State) (m : MethodId) (below : List Frame) (meth : Method) (c : Code) (ls : Array Slot), FX p s m c cc maxL as.toArray D T own → p.tables.exec = Jvm.exec → c.code = cc → meth.sig.returnType = ret → meth.locks = false → meth.name = y.name → va_P D vwCl ws0 s.heap → va_S A s.heap s.heap [] → lv_has ls maxL (lv_args 0 as) →
      W p l e (headSpec (ws_ y cc maxL ret) rm).room s m as.toArray below meth c s.heap [] 0 0 (MQ below Qc as.toArray s mc ms A) (F0 m 0 ls [])) : Met l y (ws_ y cc maxL ret) rm (cPc D T ws0 as) Qc mc ms A := by
  refine Met.ofW (cc := cc) (maxL := maxL) (ret := ret) hy rfl ?_
  intro p e s m args below meth c s₁ B hml hv
  obtain ⟨rfl, hP, hK⟩ := hv
  have hts := atoms_spec (ws := ws_ y cc maxL ret) B.pre
  have hts : ∀ w ∈ lw_all, w.before _ s = true := fun w h => hts w (List.mem_cons_of_mem _ h)
  have hown : s.vm.findClass own = some m.cls := hyc ▸ findClass_of_methodNamed B.named
  have hl := lv_entry as (n := maxL) hlen
  rw [lg_entry_eq]
  exact body p e s m below meth c _ ⟨⟨B.exec, B.bytes, hml, hown, hts⟩, hK⟩ B.exec B.bytes B.returns B.notSynchronized (name_of_methodNamed B.named B.method).1 hP va_S.rf hl
section X0
variable {h0 aL aZ aT aO : Nat} {cB cZ cS cI : ClassId} {ec pt : Int32} {gL gZ gT gO : Nat → Int32}
theorem x_get0 (F : FX p s m c cc nL args D (XT cB cZ cS cI) RX0) (hP : va_P D vwCl (PXr h0 aL aZ aT aO cB cZ cS ec pt gL gZ gT gO) H) (hdg : decode cc pc = .ok (.getfield 35, 3)) (kk : W p l e R s m args below meth c H locs cells slots Q (F0 m (pc + 3) ls (.int ec :: rest))) : W p l e R s m args below meth c H locs cells slots Q (F0 m pc ls (.ref h0 :: rest)) :=
  va_get (D := D) (ci := 0) (v := .int ec) (C := RX0) (T := TX0) (N := 6) F.1.1 F.1.2.1 F.1.2.2.2.2 in_X0 F.1.2.2.2.1 F.2 hP 0 rfl rfl 0 (by decide) (F.1.2.2.2.2 _ q27) (fun _ h9 => h9) rfl hdg kk
theorem x_get1 (F : FX p s m c cc nL args D (XT cB cZ cS cI) RX0) (hP : va_P D vwCl (PXr h0 aL aZ aT aO cB cZ cS ec pt gL gZ gT gO) H) (hdg : decode cc pc = .ok (.getfield 24, 3)) (kk : W p l e R s m args below meth c H locs cells slots Q (F0 m (pc + 3) ls (.int pt :: rest))) : W p l e R s m args below meth c H locs cells slots Q (F0 m pc ls (.ref h0 :: rest)) :=
  va_get (D := D) (ci := 0) (v := .int pt) (C := RX0) (T := TX0) (N := 6) F.1.1 F.1.2.1 F.1.2.2.2.2 in_X0 F.1.2.2.2.1 F.2 hP 0 rfl rfl 1 (by decide) (F.1.2.2.2.2 _ q28) (fun _ h9 => h9) rfl hdg kk
theorem x_get2 (F : FX p s m c cc nL args D (XT cB cZ cS cI) RX0) (hP : va_P D vwCl (PXr h0 aL aZ aT aO cB cZ cS ec pt gL gZ gT gO) H) (hdg : decode cc pc = .ok (.getfield 7, 3)) (kk : W p l e R s m args below meth c H locs cells slots Q (F0 m (pc + 3) ls (.ref aL :: rest))) : W p l e R s m args below meth c H locs cells slots Q (F0 m pc ls (.ref h0 :: rest)) :=
  va_get (D := D) (ci := 0) (v := .ref aL) (C := RX0) (T := TX0) (N := 6) F.1.1 F.1.2.1 F.1.2.2.2.2 in_X0 F.1.2.2.2.1 F.2 hP 0 rfl rfl 2 (by decide) (F.1.2.2.2.2 _ q29) (fun _ h9 => h9) rfl hdg kk
theorem x_get3 (F : FX p s m c cc nL args D (XT cB cZ cS cI) RX0) (hP : va_P D vwCl (PXr h0 aL aZ aT aO cB cZ cS ec pt gL gZ gT gO) H) (hdg : decode cc pc = .ok (.getfield 13, 3)) (kk : W p l e R s m args below meth c H locs cells slots Q (F0 m (pc + 3) ls (.ref aZ :: rest))) : W p l e R s m args below meth c H locs cells slots Q (F0 m pc ls (.ref h0 :: rest)) :=
  va_get (D := D) (ci := 0) (v := .ref aZ) (C := RX0) (T := TX0) (N := 6) F.1.1 F.1.2.1 F.1.2.2.2.2 in_X0 F.1.2.2.2.1 F.2 hP 0 rfl rfl 3 (by decide) (F.1.2.2.2.2 _ q30) (fun _ h9 => h9) rfl hdg kk
theorem x_get4 (F : FX p s m c cc nL args D (XT cB cZ cS cI) RX0) (hP : va_P D vwCl (PXr h0 aL aZ aT aO cB cZ cS ec pt gL gZ gT gO) H) (hdg : decode cc pc = .ok (.getfield 17, 3)) (kk : W p l e R s m args below meth c H locs cells slots Q (F0 m (pc + 3) ls (.ref aT :: rest))) : W p l e R s m args below meth c H locs cells slots Q (F0 m pc ls (.ref h0 :: rest)) :=
  va_get (D := D) (ci := 0) (v := .ref aT) (C := RX0) (T := TX0) (N := 6) F.1.1 F.1.2.1 F.1.2.2.2.2 in_X0 F.1.2.2.2.1 F.2 hP 0 rfl rfl 4 (by decide) (F.1.2.2.2.2 _ q31) (fun _ h9 => h9) rfl hdg kk
theorem x_get5 (F : FX p s m c cc nL args D (XT cB cZ cS cI) RX0) (hP : va_P D vwCl (PXr h0 aL aZ aT aO cB cZ cS ec pt gL gZ gT gO) H) (hdg : decode cc pc = .ok (.getfield 21, 3)) (kk : W p l e R s m args below meth c H locs cells slots Q (F0 m (pc + 3) ls (.ref aO :: rest))) : W p l e R s m args below meth c H locs cells slots Q (F0 m pc ls (.ref h0 :: rest)) :=
  va_get (D := D) (ci := 0) (v := .ref aO) (C := RX0) (T := TX0) (N := 6) F.1.1 F.1.2.1 F.1.2.2.2.2 in_X0 F.1.2.2.2.1 F.2 hP 0 rfl rfl 5 (by decide) (F.1.2.2.2.2 _ q32) (fun _ h9 => h9) rfl hdg kk
theorem x_put0 (F : FX p s m c cc nL args D (XT cB cZ cS cI) RX0) (hD : XD A h0 aL aZ aT aO cB cZ cS) (hP : va_P D vwCl (PXr h0 aL aZ aT aO cB cZ cS ec pt gL gZ gT gO) H) (hS : va_S A s.heap H locs) (hdg : decode cc pc = .ok (.putfield 35, 3))
    (kk : ∀ (H1 : Heap) (locs1 : List Loc), va_P D vwCl (PXr h0 aL aZ aT aO cB cZ cS v pt gL gZ gT gO) H1 → va_S A s.heap H1 locs1 → W p l e R s m args below meth c H1 locs1 cells slots Q (F0 m (pc + 3) ls rest)) : W p l e R s m args below meth c H locs cells slots Q (F0 m pc ls (.int v :: .ref h0 :: rest)) :=
  va_put (D := D) (ci := 0) (v := .int v) (ty := .int) (C := RX0) (T := TX0) (N := 6) F.1.1 F.1.2.1 F.1.2.2.2.2 in_X0 tyX0 tyX0_ok nmX0 F.1.2.2.2.1 F.2 hP (hD _ _ _ _ _ _) hS 0 rfl rfl 0 (by decide) (F.1.2.2.2.2 _ q27) (fun _ h9 => h9) rfl (by decide +kernel) rfl rfl (Nat.le_of_ble_eq_true rfl) hdg (fun H1 locs1 hP1 _ hS1 => kk H1 locs1 hP1 hS1)
theorem x_put1 (F : FX p s m c cc nL args D (XT cB cZ cS cI) RX0) (hD : XD A h0 aL aZ aT aO cB cZ cS) (hP : va_P D vwCl (PXr h0 aL aZ aT aO cB cZ cS ec pt gL gZ gT gO) H) (hS : va_S A s.heap H locs) (hdg : decode cc pc = .ok (.putfield 24, 3))
    (kk : ∀ (H1 : Heap) (locs1 : List Loc), va_P D vwCl (PXr h0 aL aZ aT aO cB cZ cS ec v gL gZ gT gO) H1 → va_S A s.heap H1 locs1 → W p l e R s m args below meth c H1 locs1 cells slots Q (F0 m (pc + 3) ls rest)) : W p l e R s m args below meth c H locs cells slots Q (F0 m pc ls (.int v :: .ref h0 :: rest)) :=
  va_put (D := D) (ci := 0) (v := .int v) (ty := .int) (C := RX0) (T := TX0) (N := 6) F.1.1 F.1.2.1 F.1.2.2.2.2 in_X0 tyX0 tyX0_ok nmX0 F.1.2.2.2.1 F.2 hP (hD _ _ _ _ _ _) hS 0 rfl rfl 1 (by decide) (F.1.2.2.2.2 _ q28) (fun _ h9 => h9) rfl (by decide +kernel) rfl rfl (Nat.le_of_ble_eq_true rfl) hdg (fun H1 locs1 hP1 _ hS1 => kk H1 locs1 hP1 hS1)
theorem x_ldL (F : FX p s m c cc nL args D (XT cB cZ cS cI) own) (hP : va_P D vwCl (PXr h0 aL aZ aT aO cB cZ cS ec pt gL gZ gT gO) H) (hi : i = nI k) (hk : k < 144) (hv : gL k = v) (hdg : decode cc pc = .ok (.baload, 1)) (kk : W p l e R s m args below meth c H locs cells slots Q (F0 m (pc + 1) ls (.int v :: rest))) : W p l e R s m args below meth c H locs cells slots Q (F0 m pc ls (.int i :: .ref aL :: rest)) := by
  subst hi
  refine va_bald F.1.1 F.1.2.1 F.2 hP 1 0 rfl rfl (vp_in_nI hk (by omega)) hdg ?_
  rw [nI_clamp (by omega), hv]
  exact kk
theorem x_ldZ (F : FX p s m c cc nL args D (XT cB cZ cS cI) own) (hP : va_P D vwCl (PXr h0 aL aZ aT aO cB cZ cS ec pt gL gZ gT gO) H) (hi : i = nI k) (hk : k < 144) (hv : gZ k = v) (hdg : decode cc pc = .ok (.baload, 1)) (kk : W p l e R s m args below meth c H locs cells slots Q (F0 m (pc + 1) ls (.int v :: rest))) : W p l e R s m args below meth c H locs cells slots Q (F0 m pc ls (.int i :: .ref aZ :: rest)) := by
  subst hi
  refine va_zald F.1.1 F.1.2.1 F.2 hP 2 1 rfl rfl (vp_in_nI hk (by omega)) hdg ?_
  rw [nI_clamp (by omega), hv]
  exact kk
theorem x_ldT (F : FX p s m c cc nL args D (XT cB cZ cS cI) own) (hP : va_P D vwCl (PXr h0 aL aZ aT aO cB cZ cS ec pt gL gZ gT gO) H) (hi : i = nI k) (hk : k < 48) (hv : gT k = v) (hdg : decode cc pc = .ok (.saload, 1)) (kk : W p l e R s m args below meth c H locs cells slots Q (F0 m (pc + 1) ls (.int v :: rest))) : W p l e R s m args below meth c H locs cells slots Q (F0 m pc ls (.int i :: .ref aT :: rest)) := by
  subst hi
  refine va_sald F.1.1 F.1.2.1 F.2 hP 3 2 rfl rfl (vp_in_nI hk (by omega)) hdg ?_
  rw [nI_clamp (by omega), hv]
  exact kk
theorem x_ldO (F : FX p s m c cc nL args D (XT cB cZ cS cI) own) (hP : va_P D vwCl (PXr h0 aL aZ aT aO cB cZ cS ec pt gL gZ gT gO) H) (hi : i = nI k) (hk : k < 48) (hv : gO k = v) (hdg : decode cc pc = .ok (.saload, 1)) (kk : W p l e R s m args below meth c H locs cells slots Q (F0 m (pc + 1) ls (.int v :: rest))) : W p l e R s m args below meth c H locs cells slots Q (F0 m pc ls (.int i :: .ref aO :: rest)) := by
  subst hi
  refine va_sald F.1.1 F.1.2.1 F.2 hP 4 2 rfl rfl (vp_in_nI hk (by omega)) hdg ?_
  rw [nI_clamp (by omega), hv]
  exact kk
theorem x_stL (F : FX p s m c cc nL args D (XT cB cZ cS cI) own) (hD : XD A h0 aL aZ aT aO cB cZ cS) (hP : va_P D vwCl (PXr h0 aL aZ aT aO cB cZ cS ec pt gL gZ gT gO) H) (hS : va_S A s.heap H locs) (hi : i = nI k) (hk : k < 144) (hv : vp_nar .byte x = v) (hdg : decode cc pc = .ok (.bastore, 1))
    (kk : ∀ (H1 : Heap) (locs1 : List Loc), va_P D vwCl (PXr h0 aL aZ aT aO cB cZ cS ec pt (upd gL k v) gZ gT gO) H1 → va_S A s.heap H1 locs1 → W p l e R s m args below meth c H1 locs1 cells slots Q (F0 m (pc + 1) ls rest)) : W p l e R s m args below meth c H locs cells slots Q (F0 m pc ls (.int x :: .int i :: .ref aL :: rest)) := by
  subst hi
  refine va_bast F.1.1 F.1.2.1 F.2 hP (hD _ _ _ _ _ _) hS 1 0 rfl rfl (vp_in_nI hk (by omega)) hdg ?_
  rw [nI_clamp (by omega), hv]
  exact fun H1 locs1 hP1 _ hS1 => kk H1 locs1 hP1 hS1
theorem x_stZ (F : FX p s m c cc nL args D (XT cB cZ cS cI) own) (hD : XD A h0 aL aZ aT aO cB cZ cS) (hP : va_P D vwCl (PXr h0 aL aZ aT aO cB cZ cS ec pt gL gZ gT gO) H) (hS : va_S A s.heap H locs) (hi : i = nI k) (hk : k < 144) (hv : vp_nar .boolean x = v) (hdg : decode cc pc = .ok (.bastore, 1))
    (kk : ∀ (H1 : Heap) (locs1 : List Loc), va_P D vwCl (PXr h0 aL aZ aT aO cB cZ cS ec pt gL (upd gZ k v) gT gO) H1 → va_S A s.heap H1 locs1 → W p l e R s m args below meth c H1 locs1 cells slots Q (F0 m (pc + 1) ls rest)) : W p l e R s m args below meth c H locs cells slots Q (F0 m pc ls (.int x :: .int i :: .ref aZ :: rest)) := by
  subst hi
  refine va_zast F.1.1 F.1.2.1 F.2 hP (hD _ _ _ _ _ _) hS 2 1 rfl rfl (vp_in_nI hk (by omega)) hdg ?_
  rw [nI_clamp (by omega), hv]
  exact fun H1 locs1 hP1 _ hS1 => kk H1 locs1 hP1 hS1
theorem x_stT (F : FX p s m c cc nL args D (XT cB cZ cS cI) own) (hD : XD A h0 aL aZ aT aO cB cZ cS) (hP : va_P D vwCl (PXr h0 aL aZ aT aO cB cZ cS ec pt gL gZ gT gO) H) (hS : va_S A s.heap H locs) (hi : i = nI k) (hk : k < 48) (hv : vp_nar .short x = v) (hdg : decode cc pc = .ok (.sastore, 1))
    (kk : ∀ (H1 : Heap) (locs1 : List Loc), va_P D vwCl (PXr h0 aL aZ aT aO cB cZ cS ec pt gL gZ (upd gT k v) gO) H1 → va_S A s.heap H1 locs1 → W p l e R s m args below meth c H1 locs1 cells slots Q (F0 m (pc + 1) ls rest)) : W p l e R s m args below meth c H locs cells slots Q (F0 m pc ls (.int x :: .int i :: .ref aT :: rest)) := by
  subst hi
  refine va_sast F.1.1 F.1.2.1 F.2 hP (hD _ _ _ _ _ _) hS 3 2 rfl rfl (vp_in_nI hk (by omega)) hdg ?_
  rw [nI_clamp (by omega), hv]
  exact fun H1 locs1 hP1 _ hS1 => kk H1 locs1 hP1 hS1
theorem x_stO (F : FX p s m c cc nL args D (XT cB cZ cS cI) own) (hD : XD A h0 aL aZ aT aO cB cZ cS) (hP : va_P D vwCl (PXr h0 aL aZ aT aO cB cZ cS ec pt gL gZ gT gO) H) (hS : va_S A s.heap H locs) (hi : i = nI k) (hk : k < 48) (hv : vp_nar .short x = v) (hdg : decode cc pc = .ok (.sastore, 1))
    (kk : ∀ (H1 : Heap) (locs1 : List Loc), va_P D vwCl (PXr h0 aL aZ aT aO cB cZ cS ec pt gL gZ gT (upd gO k v)) H1 → va_S A s.heap H1 locs1 → W p l e R s m args below meth c H1 locs1 cells slots Q (F0 m (pc + 1) ls rest)) : W p l e R s m args below meth c H locs cells slots Q (F0 m pc ls (.int x :: .int i :: .ref aO :: rest)) := by
  subst hi
  refine va_sast F.1.1 F.1.2.1 F.2 hP (hD _ _ _ _ _ _) hS 4 2 rfl rfl (vp_in_nI hk (by omega)) hdg ?_
  rw [nI_clamp (by omega), hv]
  exact fun H1 locs1 hP1 _ hS1 => kk H1 locs1 hP1 hS1
end X0
section M0
variable {h1 aN aK : Nat} {cB cZ cS cI : ClassId} {gN gK : Nat → Int32}
theorem m_get0 (F : FX p s m c cc nL args D (XT cB cZ cS cI) RX1) (hP : va_P D vwCl (PMr h1 aN aK cI gN gK) H) (hdg : decode cc pc = .ok (.getfield 7, 3)) (kk : W p l e R s m args below meth c H locs cells slots Q (F0 m (pc + 3) ls (.ref aN :: rest))) : W p l e R s m args below meth c H locs cells slots Q (F0 m pc ls (.ref h1 :: rest)) :=
  va_get (D := D) (ci := 1) (v := .ref aN) (C := RX1) (T := TX1) (N := 2) F.1.1 F.1.2.1 F.1.2.2.2.2 in_X1 F.1.2.2.2.1 F.2 hP 0 rfl rfl 0 (by decide) (F.1.2.2.2.2 _ q142) (fun _ h9 => h9) rfl hdg kk
theorem m_get1 (F : FX p s m c cc nL args D (XT cB cZ cS cI) RX1) (hP : va_P D vwCl (PMr h1 aN aK cI gN gK) H) (hdg : decode cc pc = .ok (.getfield 13, 3)) (kk : W p l e R s m args below meth c H locs cells slots Q (F0 m (pc + 3) ls (.ref aK :: rest))) : W p l e R s m args below meth c H locs cells slots Q (F0 m pc ls (.ref h1 :: rest)) :=
  va_get (D := D) (ci := 1) (v := .ref aK) (C := RX1) (T := TX1) (N := 2) F.1.1 F.1.2.1 F.1.2.2.2.2 in_X1 F.1.2.2.2.1 F.2 hP 0 rfl rfl 1 (by decide) (F.1.2.2.2.2 _ q143) (fun _ h9 => h9) rfl hdg kk
theorem m_ldN (F : FX p s m c cc nL args D (XT cB cZ cS cI) own) (hP : va_P D vwCl (PMr h1 aN aK cI gN gK) H) (hi : i = nI k) (hk : k < 12) (hv : gN k = v) (hdg : decode cc pc = .ok (.iaload, 1)) (kk : W p l e R s m args below meth c H locs cells slots Q (F0 m (pc + 1) ls (.int v :: rest))) : W p l e R s m args below meth c H locs cells slots Q (F0 m pc ls (.int i :: .ref aN :: rest)) := by
  subst hi
  refine va_iald F.1.1 F.1.2.1 F.2 hP 1 3 rfl rfl (vp_in_nI hk (by omega)) hdg ?_
  rw [nI_clamp (by omega), hv]
  exact kk
theorem m_ldK (F : FX p s m c cc nL args D (XT cB cZ cS cI) own) (hP : va_P D vwCl (PMr h1 aN aK cI gN gK) H) (hi : i = nI k) (hk : k < 12) (hv : gK k = v) (hdg : decode cc pc = .ok (.iaload, 1)) (kk : W p l e R s m args below meth c H locs cells slots Q (F0 m (pc + 1) ls (.int v :: rest))) : W p l e R s m args below meth c H locs cells slots Q (F0 m pc ls (.int i :: .ref aK :: rest)) := by
  subst hi
  refine va_iald F.1.1 F.1.2.1 F.2 hP 2 3 rfl rfl (vp_in_nI hk (by omega)) hdg ?_
  rw [nI_clamp (by omega), hv]
  exact kk
theorem m_stN (F : FX p s m c cc nL args D (XT cB cZ cS cI) own) (hD : MD A h1 aN aK cI) (hP : va_P D vwCl (PMr h1 aN aK cI gN gK) H) (hS : va_S A s.heap H locs) (hi : i = nI k) (hk : k < 12) (hv : x = v) (hdg : decode cc pc = .ok (.iastore, 1))
    (kk : ∀ (H1 : Heap) (locs1 : List Loc), va_P D vwCl (PMr h1 aN aK cI (upd gN k v) gK) H1 → va_S A s.heap H1 locs1 → W p l e R s m args below meth c H1 locs1 cells slots Q (F0 m (pc + 1) ls rest)) : W p l e R s m args below meth c H locs cells slots Q (F0 m pc ls (.int x :: .int i :: .ref aN :: rest)) := by
  subst hi
  refine va_iast F.1.1 F.1.2.1 F.2 hP (hD _ _) hS 1 3 rfl rfl (vp_in_nI hk (by omega)) hdg ?_
  rw [nI_clamp (by omega), hv]
  exact fun H1 locs1 hP1 _ hS1 => kk H1 locs1 hP1 hS1
theorem m_stK (F : FX p s m c cc nL args D (XT cB cZ cS cI) own) (hD : MD A h1 aN aK cI) (hP : va_P D vwCl (PMr h1 aN aK cI gN gK) H) (hS : va_S A s.heap H locs) (hi : i = nI k) (hk : k < 12) (hv : x = v) (hdg : decode cc pc = .ok (.iastore, 1))
    (kk : ∀ (H1 : Heap) (locs1 : List Loc), va_P D vwCl (PMr h1 aN aK cI gN (upd gK k v)) H1 → va_S A s.heap H1 locs1 → W p l e R s m args below meth c H1 locs1 cells slots Q (F0 m (pc + 1) ls rest)) : W p l e R s m args below meth c H locs cells slots Q (F0 m pc ls (.int x :: .int i :: .ref aK :: rest)) := by
  subst hi
  refine va_iast F.1.1 F.1.2.1 F.2 hP (hD _ _) hS 2 3 rfl rfl (vp_in_nI hk (by omega)) hdg ?_
  rw [nI_clamp (by omega), hv]
  exact fun H1 locs1 hP1 _ hS1 => kk H1 locs1 hP1 hS1
end M0
end XR
/-- the number on top by another name -/
theorem g_top {p : Program} {l : Launch} {e : Env} {R : Room} {s : State} {m : MethodId} {args : Array Value} {below : List Frame} {meth : Method} {c : Code} {H : Heap} {locs : List Loc} {cells slots : Nat} {Q : State → Prop} {pc : Nat} {ls : Array Slot} {rest : List Value} {x y : Int32} (h : x = y) (k : W p l e R s m args below meth c H locs cells slots Q (F0 m pc ls (.int y :: rest))) : W p l e R s m args below meth c H locs cells slots Q (F0 m pc ls (.int x :: rest)) := by
  rw [h]; exact k
end
section
/-! LevelForests: the leaves -/
def ispt (x : Int32) : Prop := ∃ j : Nat, j < 12 ∧ x = nI j
theorem ispt_neg {x : Int32} (h : x < 0) : ¬ ispt x := by
  rintro ⟨j, hj, rfl⟩
  exact nI_pos (by omega) h
theorem n12 : (12 : Int32) = nI 12 := by decide +kernel
theorem ispt_big {x : Int32} (h : (12 : Int32) ≤ x) : ¬ ispt x := by
  rintro ⟨j, hj, rfl⟩
  rw [n12] at h
  exact nI_ge hj (by omega) h
theorem ispt_in {x : Int32} (h1 : ¬ x < 0) (h2 : ¬ (12 : Int32) ≤ x) : ispt x := by
  rcases pk_ix x (n := 12) (by omega) with h | h | h
  · exact absurd h h1
  · rw [← n12] at h; exact absurd h h2
  · exact h
theorem ispt_n {a : Nat} (h : a < 12) : ispt (nI a) := ⟨a, h, rfl⟩
theorem le12 {k : Nat} (h : k ≤ 12) (c : (12 : Int32) ≤ nI k) : k = 12 := by
  rcases Nat.lt_or_ge k 12 with q | q
  · rw [n12] at c; exact absurd c (nI_ge q (by omega))
  · omega
theorem lt12 {k : Nat} (h : k ≤ 12) (c : ¬ (12 : Int32) ≤ nI k) : k < 12 := by
  rcases Nat.lt_or_ge k 12 with q | q
  · exact q
  · rw [n12] at c; exact absurd (nI_le q (by omega)) c
theorem ct_step (P : Nat → Prop) (k : Nat) : nI (ctP P k) + b01 (P k) = nI (ctP P (k + 1)) := by
  by_cases h : P k
  · rw [b01_t h, ctP_t h, nI_1]
  · rw [b01_f h, ctP_f h]; simp
theorem i8 : ∀ v, v < 8 → (nI v).toInt8.toInt32 = nI v := by decide +kernel
theorem i8n {v : Nat} (h : v < 8) : vp_nar .byte (nI v) = nI v := by rw [vp_nar_byte, i8 v h]
theorem i8m : vp_nar .byte (-1) = -1 := by decide +kernel

set_option maxHeartbeats 4000000 in
set_option maxRecDepth 100000 in
/-- isPoint(x) -/
theorem mX_isPoint (l : Launch) {D : va_G} {A : Nat → Prop} {h0 aL aZ aT aO : Nat} {cB cZ cS cI : ClassId} (hD : XD A h0 aL aZ aT aO cB cZ cS) {ec pt : Int32} {lv : Nat → Nat → Nat} {tr : Nat → Nat → Prop} (x : Int32) : Met l yX0_isPoint (ws_ yX0_isPoint cX0_isPoint 2 (some .boolean)) (rmd 0) (cPc D (XT cB cZ cS cI) (PX h0 aL aZ aT aO cB cZ cS ec pt lv tr) [.ref h0, .int x]) (cQi D A (fun (r : Int32) (u : Unit) => r = b01 (ispt x)) (fun (u : Unit) => PX h0 aL aZ aT aO cB cZ cS ec pt lv tr)) 0 0 A := by
  refine g_head (own := RX0) (by decide) rfl (Nat.le_of_ble_eq_true rfl) ?_
  intro p e s m below meth c ls F hx hb hr hlk _ hP hS hl
  have hl : lv_has ls 2 [(0, .ref h0), (1, .int x)] := hl
  refine lv_iload_n hx hb dX0_isPoint_0 rfl (lv_at hl 1 rfl) ?_
  refine lv_if_lt (tgt := 14) hx hb dX0_isPoint_1 (by decide) (fun c1 => ?_) (fun c1 => ?_)
  · refine lv_iconst (v := 0) hx hb dX0_isPoint_14 (by decide +kernel) ?_
    exact r_z (()) F hr hlk rfl hP hS ((b01_f (ispt_neg c1)).symm) dX0_isPoint_15
  · refine lv_iload_n hx hb dX0_isPoint_4 rfl (lv_at hl 1 rfl) ?_
    refine lv_bipush (v := 12) hx hb dX0_isPoint_5 (by decide +kernel) ?_
    refine lv_icmp_ge (tgt := 14) hx hb dX0_isPoint_7 (by decide) (fun c2 => ?_) (fun c2 => ?_)
    · refine lv_iconst (v := 0) hx hb dX0_isPoint_14 (by decide +kernel) ?_
      exact r_z (()) F hr hlk rfl hP hS ((b01_f (ispt_big c2)).symm) dX0_isPoint_15
    · refine lv_iconst (v := 1) hx hb dX0_isPoint_10 (by decide +kernel) ?_
      refine lv_goto (tgt := 15) hx hb dX0_isPoint_11 (by decide) ?_
      exact r_z (()) F hr hlk rfl hP hS ((b01_t (ispt_in c1 c2)).symm) dX0_isPoint_15

set_option maxHeartbeats 4000000 in
set_option maxRecDepth 100000 in
/-- isCouple(x, y) -/
theorem mX_isCouple (l : Launch) {D : va_G} {A : Nat → Prop} {h0 aL aZ aT aO : Nat} {cB cZ cS cI : ClassId} (hD : XD A h0 aL aZ aT aO cB cZ cS) {ec pt : Int32} {lv : Nat → Nat → Nat} {tr : Nat → Nat → Prop} (x y : Int32) : Met l yX0_isCouple (ws_ yX0_isCouple cX0_isCouple 3 (some .boolean)) (rmd 1) (cPc D (XT cB cZ cS cI) (PX h0 aL aZ aT aO cB cZ cS ec pt lv tr) [.ref h0, .int x, .int y]) (cQi D A (fun (r : Int32) (u : Unit) => r = b01 (ispt x ∧ ispt y ∧ x ≠ y)) (fun (u : Unit) => PX h0 aL aZ aT aO cB cZ cS ec pt lv tr)) 0 0 A := by
  refine g_head (own := RX0) (by decide) rfl (Nat.le_of_ble_eq_true rfl) ?_
  intro p e s m below meth c ls F hx hb hr hlk _ hP hS hl
  have hl : lv_has ls 3 [(0, .ref h0), (1, .int x), (2, .int y)] := hl
  refine lv_aload_n hx hb dX0_isCouple_0 rfl (lv_at hl 0 rfl) ?_
  refine lv_iload_n hx hb dX0_isCouple_1 rfl (lv_at hl 1 rfl) ?_
  refine g_calli F (mX_isPoint l hD x) (cwV 1 F.1.2.2.2.2 (lw_V q57 q59 qs1 q17 q60) rfl rfl rfl (by decide +kernel) ⟨Nat.le_of_ble_eq_true rfl, Nat.le_of_ble_eq_true rfl⟩) hP hS (fun _ h => h) (ci := 0) rfl rfl rfl hl.1 rfl (by decide) dX0_isCouple_2 ⟨Nat.zero_le _, Nat.zero_le _⟩ (fun r1 u H locs h1 hP hS _ => ?_)
  have hP : va_P D vwCl (PX h0 aL aZ aT aO cB cZ cS ec pt lv tr) H := hP
  refine lv_if_eq (tgt := 25) hx hb dX0_isCouple_5 (by decide) (fun c1 => ?_) (fun c1 => ?_)
  · have c1 := b01_e (h1 ▸ c1)
    refine lv_iconst (v := 0) hx hb dX0_isCouple_25 (by decide +kernel) ?_
    exact r_z (()) F hr hlk rfl hP hS ((b01_f (fun q => c1 q.1)).symm) dX0_isCouple_26
  · have c1 := b01_n (h1 ▸ c1)
    refine lv_aload_n hx hb dX0_isCouple_8 rfl (lv_at hl 0 rfl) ?_
    refine lv_iload_n hx hb dX0_isCouple_9 rfl (lv_at hl 2 rfl) ?_
    refine g_calli F (mX_isPoint l hD y) (cwV 1 F.1.2.2.2.2 (lw_V q57 q59 qs1 q17 q60) rfl rfl rfl (by decide +kernel) ⟨Nat.le_of_ble_eq_true rfl, Nat.le_of_ble_eq_true rfl⟩) hP hS (fun _ h => h) (ci := 0) rfl rfl rfl hl.1 rfl (by decide) dX0_isCouple_10 ⟨Nat.zero_le _, Nat.zero_le _⟩ (fun r2 u H locs h2 hP hS _ => ?_)
    have hP : va_P D vwCl (PX h0 aL aZ aT aO cB cZ cS ec pt lv tr) H := hP
    refine lv_if_eq (tgt := 25) hx hb dX0_isCouple_13 (by decide) (fun c2 => ?_) (fun c2 => ?_)
    · have c2 := b01_e (h2 ▸ c2)
      refine lv_iconst (v := 0) hx hb dX0_isCouple_25 (by decide +kernel) ?_
      exact r_z (()) F hr hlk rfl hP hS ((b01_f (fun q => c2 q.2.1)).symm) dX0_isCouple_26
    · have c2 := b01_n (h2 ▸ c2)
      refine lv_iload_n hx hb dX0_isCouple_16 rfl (lv_at hl 1 rfl) ?_
      refine lv_iload_n hx hb dX0_isCouple_17 rfl (lv_at hl 2 rfl) ?_
      refine lv_icmp_eq (tgt := 25) hx hb dX0_isCouple_18 (by decide) (fun c3 => ?_) (fun c3 => ?_)
      · refine lv_iconst (v := 0) hx hb dX0_isCouple_25 (by decide +kernel) ?_
        exact r_z (()) F hr hlk rfl hP hS ((b01_f (fun q => q.2.2 c3)).symm) dX0_isCouple_26
      · refine lv_iconst (v := 1) hx hb dX0_isCouple_21 (by decide +kernel) ?_
        refine lv_goto (tgt := 26) hx hb dX0_isCouple_22 (by decide) ?_
        exact r_z (()) F hr hlk rfl hP hS ((b01_t ⟨c1, c2, c3⟩).symm) dX0_isCouple_26

set_option maxHeartbeats 4000000 in
set_option maxRecDepth 100000 in
/-- bitsIn(set) -/
theorem mX_bitsIn (l : Launch) {D : va_G} {A : Nat → Prop} {h0 aL aZ aT aO : Nat} {cB cZ cS cI : ClassId} (hD : XD A h0 aL aZ aT aO cB cZ cS) {ec pt : Int32} {lv : Nat → Nat → Nat} {tr : Nat → Nat → Prop} (P : Nat → Prop) : Met l yX0_bitsIn (ws_ yX0_bitsIn cX0_bitsIn 4 (some .int)) (rmd 0) (cPc D (XT cB cZ cS cI) (PX h0 aL aZ aT aO cB cZ cS ec pt lv tr) [.ref h0, .int (bm P)]) (cQi D A (fun (r : Int32) (u : Unit) => r = nI (ctP P 12)) (fun (u : Unit) => PX h0 aL aZ aT aO cB cZ cS ec pt lv tr)) 0 0 A := by
  refine g_head (own := RX0) (by decide) rfl (Nat.le_of_ble_eq_true rfl) ?_
  intro p e s m below meth c ls F hx hb hr hlk _ hP hS hl
  have hl : lv_has ls 4 [(0, .ref h0), (1, .int (bm P))] := hl
  have loop : ∀ (n k : Nat), k ≤ 12 → 12 < k + n → ∀ (ls : Array Slot), lv_has ls 4 [(0, .ref h0), (1, .int (bm P)), (2, .int (nI (ctP P k))), (3, .int (nI k))] → W p l e (headSpec (ws_ yX0_bitsIn cX0_bitsIn 4 (some .int)) (rmd 0)).room s m ([.ref h0, .int (bm P)] : List Value).toArray below meth c s.heap [] 0 0 (MQ below (cQi D A (fun (r : Int32) (u : Unit) => r = nI (ctP P 12)) (fun (u : Unit) => PX h0 aL aZ aT aO cB cZ cS ec pt lv tr)) ([.ref h0, .int (bm P)] : List Value).toArray s 0 0 A) (F0 m 4 ls []) := by
    intro n
    induction n with
    | zero => intro k h1 h2; exact absurd h2 (by omega)
    | succ n ih =>
      intro k hk hn ls hl
      refine lv_iload_n hx hb dX0_bitsIn_4 rfl (lv_at hl 3 rfl) ?_
      refine lv_bipush (v := 12) hx hb dX0_bitsIn_5 (by decide +kernel) ?_
      refine lv_icmp_ge (tgt := 24) hx hb dX0_bitsIn_7 (by decide) (fun c1 => ?_) (fun c1 => ?_)
      · have e := le12 hk c1
        subst e
        refine lv_iload_n hx hb dX0_bitsIn_24 rfl (lv_at hl 2 rfl) ?_
        exact r_i (()) F hr hlk hP hS (rfl) dX0_bitsIn_25
      · have hk := lt12 hk c1
        refine lv_iload_n hx hb dX0_bitsIn_10 rfl (lv_at hl 2 rfl) ?_
        refine lv_iload_n hx hb dX0_bitsIn_11 rfl (lv_at hl 1 rfl) ?_
        refine lv_iload_n hx hb dX0_bitsIn_12 rfl (lv_at hl 3 rfl) ?_
        refine lv_ishr hx hb dX0_bitsIn_13 ?_
        refine lv_iconst (v := 1) hx hb dX0_bitsIn_14 (by decide +kernel) ?_
        refine lv_iand hx hb dX0_bitsIn_15 ?_
        refine g_top (y := b01 (P k)) (bm_bit P hk) ?_
        refine lv_iadd hx hb dX0_bitsIn_16 ?_
        refine g_top (y := nI (ctP P (k + 1))) (ct_step P k) ?_
        refine lv_istore_n (lv' := [(2, .int (nI (ctP P (k + 1)))), (0, .ref h0), (1, .int (bm P)), (3, .int (nI k))]) hx hb dX0_bitsIn_17 rfl hl (by decide) rfl (fun ls hl => ?_)
        refine lv_iinc (v := nI (k + 1)) (lv' := [(3, .int (nI (k + 1))), (2, .int (nI (ctP P (k + 1)))), (0, .ref h0), (1, .int (bm P))]) hx hb dX0_bitsIn_18 hl (k := 3) rfl (nI_1 k) (by decide) rfl (fun ls hl => ?_)
        refine lv_goto (tgt := 4) hx hb dX0_bitsIn_21 (by decide) ?_
        exact ih (k + 1) hk (by omega) ls (lv_sub hl [2, 3, 1, 0] rfl)
  refine lv_iconst (v := nI (ctP P 0)) hx hb dX0_bitsIn_0 (rfl) ?_
  refine lv_istore_n (lv' := [(2, .int (nI (ctP P 0))), (0, .ref h0), (1, .int (bm P))]) hx hb dX0_bitsIn_1 rfl hl (by decide) rfl (fun ls hl => ?_)
  refine lv_iconst (v := nI 0) hx hb dX0_bitsIn_2 (by decide +kernel) ?_
  refine lv_istore_n (lv' := [(3, .int (nI 0)), (2, .int (nI (ctP P 0))), (0, .ref h0), (1, .int (bm P))]) hx hb dX0_bitsIn_3 rfl hl (by decide) rfl (fun ls hl => ?_)
  exact loop 13 0 (by omega) (by omega) ls (lv_sub hl [2, 3, 1, 0] rfl)

set_option maxHeartbeats 4000000 in
set_option maxRecDepth 100000 in
/-- place(a, b, v, t) -/
theorem mX_place (l : Launch) {D : va_G} {A : Nat → Prop} {h0 aL aZ aT aO : Nat} {cB cZ cS cI : ClassId} (hD : XD A h0 aL aZ aT aO cB cZ cS) {ec pt : Int32} {lv : Nat → Nat → Nat} {tr : Nat → Nat → Prop} {a b v : Nat} {t : Prop} (ha : a < 12) (hb1 : b < 12) (hab : a ≠ b) (hv : v < 4) (h1 : lv a b = 0) (h2 : lv b a = 0) : Met l yX0_place (ws_ yX0_place cX0_place 5 none) (rmd 0) (cPc D (XT cB cZ cS cI) (PX h0 aL aZ aT aO cB cZ cS ec pt lv tr) [.ref h0, .int (nI a), .int (nI b), .int (nI v), .int (b01 t)]) (cQv D A (fun (u : Unit) => True) (fun (u : Unit) => PX h0 aL aZ aT aO cB cZ cS ec pt (set2 lv a b (v + 1)) (set2 tr a b t))) 0 0 A := by
  refine g_head (own := RX0) (by decide) rfl (Nat.le_of_ble_eq_true rfl) ?_
  intro p e s m below meth c ls F hx hb hr hlk _ hP hS hl
  have hl : lv_has ls 5 [(0, .ref h0), (1, .int (nI a)), (2, .int (nI b)), (3, .int (nI v)), (4, .int (b01 t))] := hl
  refine lv_aload_n hx hb dX0_place_0 rfl (lv_at hl 0 rfl) ?_
  refine x_get2 F hP dX0_place_1 ?_
  refine lv_bipush (v := 12) hx hb dX0_place_4 (by decide +kernel) ?_
  refine lv_iload_n hx hb dX0_place_6 rfl (lv_at hl 1 rfl) ?_
  refine lv_imul hx hb dX0_place_7 ?_
  refine lv_iload_n hx hb dX0_place_8 rfl (lv_at hl 2 rfl) ?_
  refine lv_iadd hx hb dX0_place_9 ?_
  refine lv_iload_n hx hb dX0_place_10 rfl (lv_at hl 3 rfl) ?_
  refine lv_i2b (v := nI v) hx hb dX0_place_11 (i8 v (by omega)) ?_
  refine x_stL F hD hP hS (k := 12 * a + b) (v := nI v) (ix12 a b) (by omega) (i8n (by omega)) dX0_place_12 (fun H locs hP hS => ?_)
  have hP : va_P D vwCl (PXr h0 aL aZ aT aO cB cZ cS ec pt (upd (fL lv) (12 * a + b) (nI v)) (fZ tr) (fT lv tr) (fO lv tr)) H := hP
  refine lv_aload_n hx hb dX0_place_13 rfl (lv_at hl 0 rfl) ?_
  refine x_get2 F hP dX0_place_14 ?_
  refine lv_bipush (v := 12) hx hb dX0_place_17 (by decide +kernel) ?_
  refine lv_iload_n hx hb dX0_place_19 rfl (lv_at hl 2 rfl) ?_
  refine lv_imul hx hb dX0_place_20 ?_
  refine lv_iload_n hx hb dX0_place_21 rfl (lv_at hl 1 rfl) ?_
  refine lv_iadd hx hb dX0_place_22 ?_
  refine lv_iload_n hx hb dX0_place_23 rfl (lv_at hl 3 rfl) ?_
  refine lv_i2b (v := nI v) hx hb dX0_place_24 (i8 v (by omega)) ?_
  refine x_stL F hD hP hS (k := 12 * b + a) (v := nI v) (ix12 b a) (by omega) (i8n (by omega)) dX0_place_25 (fun H locs hP hS => ?_)
  have hP : va_P D vwCl (PXr h0 aL aZ aT aO cB cZ cS ec pt (upd (upd (fL lv) (12 * a + b) (nI v)) (12 * b + a) (nI v)) (fZ tr) (fT lv tr) (fO lv tr)) H := hP
  rw [pl_L (v := v + 1) ha hb1 (nI_pred v)] at hP
  refine lv_aload_n hx hb dX0_place_26 rfl (lv_at hl 0 rfl) ?_
  refine x_get3 F hP dX0_place_27 ?_
  refine lv_bipush (v := 12) hx hb dX0_place_30 (by decide +kernel) ?_
  refine lv_iload_n hx hb dX0_place_32 rfl (lv_at hl 1 rfl) ?_
  refine lv_imul hx hb dX0_place_33 ?_
  refine lv_iload_n hx hb dX0_place_34 rfl (lv_at hl 2 rfl) ?_
  refine lv_iadd hx hb dX0_place_35 ?_
  refine lv_iload hx hb dX0_place_36 (lv_at hl 4 rfl) ?_
  refine x_stZ F hD hP hS (k := 12 * a + b) (v := b01 t) (ix12 a b) (by omega) (b01_vp t) dX0_place_38 (fun H locs hP hS => ?_)
  have hP : va_P D vwCl (PXr h0 aL aZ aT aO cB cZ cS ec pt (fL (set2 lv a b (v + 1))) (upd (fZ tr) (12 * a + b) (b01 t)) (fT lv tr) (fO lv tr)) H := hP
  refine lv_aload_n hx hb dX0_place_39 rfl (lv_at hl 0 rfl) ?_
  refine x_get3 F hP dX0_place_40 ?_
  refine lv_bipush (v := 12) hx hb dX0_place_43 (by decide +kernel) ?_
  refine lv_iload_n hx hb dX0_place_45 rfl (lv_at hl 2 rfl) ?_
  refine lv_imul hx hb dX0_place_46 ?_
  refine lv_iload_n hx hb dX0_place_47 rfl (lv_at hl 1 rfl) ?_
  refine lv_iadd hx hb dX0_place_48 ?_
  refine lv_iload hx hb dX0_place_49 (lv_at hl 4 rfl) ?_
  refine x_stZ F hD hP hS (k := 12 * b + a) (v := b01 t) (ix12 b a) (by omega) (b01_vp t) dX0_place_51 (fun H locs hP hS => ?_)
  have hP : va_P D vwCl (PXr h0 aL aZ aT aO cB cZ cS ec pt (fL (set2 lv a b (v + 1))) (upd (upd (fZ tr) (12 * a + b) (b01 t)) (12 * b + a) (b01 t)) (fT lv tr) (fO lv tr)) H := hP
  rw [pl_Z ha hb1] at hP
  refine lv_iload hx hb dX0_place_52 (lv_at hl 4 rfl) ?_
  refine lv_if_eq (tgt := 96) hx hb dX0_place_54 (by decide) (fun c1 => ?_) (fun c1 => ?_)
  · have c1 := b01_e c1
    obtain rfl : t = False := propext ⟨fun q => c1 q, fun q => q.elim⟩
    refine lv_aload_n hx hb dX0_place_96 rfl (lv_at hl 0 rfl) ?_
    refine x_get5 F hP dX0_place_97 ?_
    refine lv_bipush (v := 12) hx hb dX0_place_100 (by decide +kernel) ?_
    refine lv_iload_n hx hb dX0_place_102 rfl (lv_at hl 3 rfl) ?_
    refine lv_imul hx hb dX0_place_103 ?_
    refine lv_iload_n hx hb dX0_place_104 rfl (lv_at hl 1 rfl) ?_
    refine lv_iadd hx hb dX0_place_105 ?_
    refine lv_dup2_11 hx hb dX0_place_106 rfl rfl ?_
    refine x_ldO (v := bm (fun y => lv a y = v + 1 ∧ ¬ tr a y)) F hP (ix12 v a) (by omega) (fO_at lv tr ha) dX0_place_107 ?_
    refine lv_iconst (v := 1) hx hb dX0_place_108 (by decide +kernel) ?_
    refine lv_iload_n hx hb dX0_place_109 rfl (lv_at hl 2 rfl) ?_
    refine lv_ishl hx hb dX0_place_110 ?_
    refine g_top (y := bm (fun y => y = b)) (bm_one hb1) ?_
    refine lv_ior hx hb dX0_place_111 ?_
    refine g_top (y := bm (fun y => (lv a y = v + 1 ∧ ¬ tr a y) ∨ y = b)) (bm_or _ _) ?_
    refine lv_i2s (v := bm (fun y => (lv a y = v + 1 ∧ ¬ tr a y) ∨ y = b)) hx hb dX0_place_112 (bm_i2s _) ?_
    refine x_stO F hD hP hS (k := 12 * v + a) (v := bm (fun y => (lv a y = v + 1 ∧ ¬ tr a y) ∨ y = b)) (ix12 v a) (by omega) (bm_vps _) dX0_place_113 (fun H locs hP hS => ?_)
    have hP : va_P D vwCl (PXr h0 aL aZ aT aO cB cZ cS ec pt (fL (set2 lv a b (v + 1))) (fZ (set2 tr a b False)) (fT lv tr) (upd (fO lv tr) (12 * v + a) (bm (fun y => (lv a y = v + 1 ∧ ¬ tr a y) ∨ y = b)))) H := hP
    refine lv_aload_n hx hb dX0_place_114 rfl (lv_at hl 0 rfl) ?_
    refine x_get5 F hP dX0_place_115 ?_
    refine lv_bipush (v := 12) hx hb dX0_place_118 (by decide +kernel) ?_
    refine lv_iload_n hx hb dX0_place_120 rfl (lv_at hl 3 rfl) ?_
    refine lv_imul hx hb dX0_place_121 ?_
    refine lv_iload_n hx hb dX0_place_122 rfl (lv_at hl 2 rfl) ?_
    refine lv_iadd hx hb dX0_place_123 ?_
    refine lv_dup2_11 hx hb dX0_place_124 rfl rfl ?_
    refine x_ldO (v := bm (fun y => lv b y = v + 1 ∧ ¬ tr b y)) F hP (ix12 v b) (by omega) ((upd_out (by omega)).trans (fO_at lv tr hb1)) dX0_place_125 ?_
    refine lv_iconst (v := 1) hx hb dX0_place_126 (by decide +kernel) ?_
    refine lv_iload_n hx hb dX0_place_127 rfl (lv_at hl 1 rfl) ?_
    refine lv_ishl hx hb dX0_place_128 ?_
    refine g_top (y := bm (fun y => y = a)) (bm_one ha) ?_
    refine lv_ior hx hb dX0_place_129 ?_
    refine g_top (y := bm (fun y => (lv b y = v + 1 ∧ ¬ tr b y) ∨ y = a)) (bm_or _ _) ?_
    refine lv_i2s (v := bm (fun y => (lv b y = v + 1 ∧ ¬ tr b y) ∨ y = a)) hx hb dX0_place_130 (bm_i2s _) ?_
    refine x_stO F hD hP hS (k := 12 * v + b) (v := bm (fun y => (lv b y = v + 1 ∧ ¬ tr b y) ∨ y = a)) (ix12 v b) (by omega) (bm_vps _) dX0_place_131 (fun H locs hP hS => ?_)
    have hP : va_P D vwCl (PXr h0 aL aZ aT aO cB cZ cS ec pt (fL (set2 lv a b (v + 1))) (fZ (set2 tr a b False)) (fT lv tr) (upd (upd (fO lv tr) (12 * v + a) (bm (fun y => (lv a y = v + 1 ∧ ¬ tr a y) ∨ y = b))) (12 * v + b) (bm (fun y => (lv b y = v + 1 ∧ ¬ tr b y) ∨ y = a)))) H := hP
    rw [pl_O ha hb1 hab h1 h2, pl_To (v := v) h1 h2] at hP
    exact r_v (()) F hr hlk hP hS (trivial) dX0_place_132
  · have c1 := b01_n c1
    obtain rfl : t = True := propext ⟨fun _ => trivial, fun _ => c1⟩
    refine lv_aload_n hx hb dX0_place_57 rfl (lv_at hl 0 rfl) ?_
    refine x_get4 F hP dX0_place_58 ?_
    refine lv_bipush (v := 12) hx hb dX0_place_61 (by decide +kernel) ?_
    refine lv_iload_n hx hb dX0_place_63 rfl (lv_at hl 3 rfl) ?_
    refine lv_imul hx hb dX0_place_64 ?_
    refine lv_iload_n hx hb dX0_place_65 rfl (lv_at hl 1 rfl) ?_
    refine lv_iadd hx hb dX0_place_66 ?_
    refine lv_dup2_11 hx hb dX0_place_67 rfl rfl ?_
    refine x_ldT (v := bm (fun y => lv a y = v + 1 ∧ tr a y)) F hP (ix12 v a) (by omega) (fT_at lv tr ha) dX0_place_68 ?_
    refine lv_iconst (v := 1) hx hb dX0_place_69 (by decide +kernel) ?_
    refine lv_iload_n hx hb dX0_place_70 rfl (lv_at hl 2 rfl) ?_
    refine lv_ishl hx hb dX0_place_71 ?_
    refine g_top (y := bm (fun y => y = b)) (bm_one hb1) ?_
    refine lv_ior hx hb dX0_place_72 ?_
    refine g_top (y := bm (fun y => (lv a y = v + 1 ∧ tr a y) ∨ y = b)) (bm_or _ _) ?_
    refine lv_i2s (v := bm (fun y => (lv a y = v + 1 ∧ tr a y) ∨ y = b)) hx hb dX0_place_73 (bm_i2s _) ?_
    refine x_stT F hD hP hS (k := 12 * v + a) (v := bm (fun y => (lv a y = v + 1 ∧ tr a y) ∨ y = b)) (ix12 v a) (by omega) (bm_vps _) dX0_place_74 (fun H locs hP hS => ?_)
    have hP : va_P D vwCl (PXr h0 aL aZ aT aO cB cZ cS ec pt (fL (set2 lv a b (v + 1))) (fZ (set2 tr a b True)) (upd (fT lv tr) (12 * v + a) (bm (fun y => (lv a y = v + 1 ∧ tr a y) ∨ y = b))) (fO lv tr)) H := hP
    refine lv_aload_n hx hb dX0_place_75 rfl (lv_at hl 0 rfl) ?_
    refine x_get4 F hP dX0_place_76 ?_
    refine lv_bipush (v := 12) hx hb dX0_place_79 (by decide +kernel) ?_
    refine lv_iload_n hx hb dX0_place_81 rfl (lv_at hl 3 rfl) ?_
    refine lv_imul hx hb dX0_place_82 ?_
    refine lv_iload_n hx hb dX0_place_83 rfl (lv_at hl 2 rfl) ?_
    refine lv_iadd hx hb dX0_place_84 ?_
    refine lv_dup2_11 hx hb dX0_place_85 rfl rfl ?_
    refine x_ldT (v := bm (fun y => lv b y = v + 1 ∧ tr b y)) F hP (ix12 v b) (by omega) ((upd_out (by omega)).trans (fT_at lv tr hb1)) dX0_place_86 ?_
    refine lv_iconst (v := 1) hx hb dX0_place_87 (by decide +kernel) ?_
    refine lv_iload_n hx hb dX0_place_88 rfl (lv_at hl 1 rfl) ?_
    refine lv_ishl hx hb dX0_place_89 ?_
    refine g_top (y := bm (fun y => y = a)) (bm_one ha) ?_
    refine lv_ior hx hb dX0_place_90 ?_
    refine g_top (y := bm (fun y => (lv b y = v + 1 ∧ tr b y) ∨ y = a)) (bm_or _ _) ?_
    refine lv_i2s (v := bm (fun y => (lv b y = v + 1 ∧ tr b y) ∨ y = a)) hx hb dX0_place_91 (bm_i2s _) ?_
    refine x_stT F hD hP hS (k := 12 * v + b) (v := bm (fun y => (lv b y = v + 1 ∧ tr b y) ∨ y = a)) (ix12 v b) (by omega) (bm_vps _) dX0_place_92 (fun H locs hP hS => ?_)
    have hP : va_P D vwCl (PXr h0 aL aZ aT aO cB cZ cS ec pt (fL (set2 lv a b (v + 1))) (fZ (set2 tr a b True)) (upd (upd (fT lv tr) (12 * v + a) (bm (fun y => (lv a y = v + 1 ∧ tr a y) ∨ y = b))) (12 * v + b) (bm (fun y => (lv b y = v + 1 ∧ tr b y) ∨ y = a))) (fO lv tr)) H := hP
    rw [pl_T ha hb1 hab h1 h2, pl_Oo (v := v) h1 h2] at hP
    refine lv_goto (tgt := 132) hx hb dX0_place_93 (by decide) ?_
    exact r_v (()) F hr hlk hP hS (trivial) dX0_place_132

set_option maxHeartbeats 4000000 in
set_option maxRecDepth 100000 in
/-- unplace(a, b) -/
theorem mX_unplace (l : Launch) {D : va_G} {A : Nat → Prop} {h0 aL aZ aT aO : Nat} {cB cZ cS cI : ClassId} (hD : XD A h0 aL aZ aT aO cB cZ cS) {ec pt : Int32} {lv : Nat → Nat → Nat} {tr : Nat → Nat → Prop} {a b v : Nat} (ha : a < 12) (hb1 : b < 12) (hab : a ≠ b) (hv : v < 4) (h1 : lv a b = v + 1) (h2 : lv b a = v + 1) : Met l yX0_unplace (ws_ yX0_unplace cX0_unplace 4 none) (rmd 0) (cPc D (XT cB cZ cS cI) (PX h0 aL aZ aT aO cB cZ cS ec pt lv tr) [.ref h0, .int (nI a), .int (nI b)]) (cQv D A (fun (u : Unit) => True) (fun (u : Unit) => PX h0 aL aZ aT aO cB cZ cS ec pt (set2 lv a b 0) tr)) 0 0 A := by
  refine g_head (own := RX0) (by decide) rfl (Nat.le_of_ble_eq_true rfl) ?_
  intro p e s m below meth c ls F hx hb hr hlk _ hP hS hl
  have hl : lv_has ls 4 [(0, .ref h0), (1, .int (nI a)), (2, .int (nI b))] := hl
  refine lv_aload_n hx hb dX0_unplace_0 rfl (lv_at hl 0 rfl) ?_
  refine x_get2 F hP dX0_unplace_1 ?_
  refine lv_bipush (v := 12) hx hb dX0_unplace_4 (by decide +kernel) ?_
  refine lv_iload_n hx hb dX0_unplace_6 rfl (lv_at hl 1 rfl) ?_
  refine lv_imul hx hb dX0_unplace_7 ?_
  refine lv_iload_n hx hb dX0_unplace_8 rfl (lv_at hl 2 rfl) ?_
  refine lv_iadd hx hb dX0_unplace_9 ?_
  refine x_ldL (v := nI v) F hP (ix12 a b) (by omega) ((fL_at lv hb1).trans (by rw [h1]; exact nI_pred v)) dX0_unplace_10 ?_
  refine lv_istore_n (lv' := [(3, .int (nI v)), (0, .ref h0), (1, .int (nI a)), (2, .int (nI b))]) hx hb dX0_unplace_11 rfl hl (by decide) rfl (fun ls hl => ?_)
  refine lv_aload_n hx hb dX0_unplace_12 rfl (lv_at hl 1 rfl) ?_
  refine x_get2 F hP dX0_unplace_13 ?_
  refine lv_bipush (v := 12) hx hb dX0_unplace_16 (by decide +kernel) ?_
  refine lv_iload_n hx hb dX0_unplace_18 rfl (lv_at hl 2 rfl) ?_
  refine lv_imul hx hb dX0_unplace_19 ?_
  refine lv_iload_n hx hb dX0_unplace_20 rfl (lv_at hl 3 rfl) ?_
  refine lv_iadd hx hb dX0_unplace_21 ?_
  refine lv_iconst (v := (-1)) hx hb dX0_unplace_22 (by decide +kernel) ?_
  refine x_stL F hD hP hS (k := 12 * a + b) (v := (-1)) (ix12 a b) (by omega) (i8m) dX0_unplace_23 (fun H locs hP hS => ?_)
  have hP : va_P D vwCl (PXr h0 aL aZ aT aO cB cZ cS ec pt (upd (fL lv) (12 * a + b) (-1)) (fZ tr) (fT lv tr) (fO lv tr)) H := hP
  refine lv_aload_n hx hb dX0_unplace_24 rfl (lv_at hl 1 rfl) ?_
  refine x_get2 F hP dX0_unplace_25 ?_
  refine lv_bipush (v := 12) hx hb dX0_unplace_28 (by decide +kernel) ?_
  refine lv_iload_n hx hb dX0_unplace_30 rfl (lv_at hl 3 rfl) ?_
  refine lv_imul hx hb dX0_unplace_31 ?_
  refine lv_iload_n hx hb dX0_unplace_32 rfl (lv_at hl 2 rfl) ?_
  refine lv_iadd hx hb dX0_unplace_33 ?_
  refine lv_iconst (v := (-1)) hx hb dX0_unplace_34 (by decide +kernel) ?_
  refine x_stL F hD hP hS (k := 12 * b + a) (v := (-1)) (ix12 b a) (by omega) (i8m) dX0_unplace_35 (fun H locs hP hS => ?_)
  have hP : va_P D vwCl (PXr h0 aL aZ aT aO cB cZ cS ec pt (upd (upd (fL lv) (12 * a + b) (-1)) (12 * b + a) (-1)) (fZ tr) (fT lv tr) (fO lv tr)) H := hP
  rw [pl_L (v := 0) ha hb1 (by decide +kernel)] at hP
  refine lv_aload_n hx hb dX0_unplace_36 rfl (lv_at hl 1 rfl) ?_
  refine x_get4 F hP dX0_unplace_37 ?_
  refine lv_bipush (v := 12) hx hb dX0_unplace_40 (by decide +kernel) ?_
  refine lv_iload_n hx hb dX0_unplace_42 rfl (lv_at hl 0 rfl) ?_
  refine lv_imul hx hb dX0_unplace_43 ?_
  refine lv_iload_n hx hb dX0_unplace_44 rfl (lv_at hl 2 rfl) ?_
  refine lv_iadd hx hb dX0_unplace_45 ?_
  refine lv_dup2_11 hx hb dX0_unplace_46 rfl rfl ?_
  refine x_ldT (v := bm (fun y => lv a y = v + 1 ∧ tr a y)) F hP (ix12 v a) (by omega) (fT_at lv tr ha) dX0_unplace_47 ?_
  refine lv_iconst (v := 1) hx hb dX0_unplace_48 (by decide +kernel) ?_
  refine lv_iload_n hx hb dX0_unplace_49 rfl (lv_at hl 3 rfl) ?_
  refine lv_ishl hx hb dX0_unplace_50 ?_
  refine g_top (y := bm (fun y => y = b)) (bm_one hb1) ?_
  refine lv_iconst (v := (-1)) hx hb dX0_unplace_51 (by decide +kernel) ?_
  refine lv_ixor hx hb dX0_unplace_52 ?_
  refine lv_iand hx hb dX0_unplace_53 ?_
  refine g_top (y := bm (fun y => (lv a y = v + 1 ∧ tr a y) ∧ ¬ y = b)) (bm_andn _ _) ?_
  refine lv_i2s (v := bm (fun y => (lv a y = v + 1 ∧ tr a y) ∧ ¬ y = b)) hx hb dX0_unplace_54 (bm_i2s _) ?_
  refine x_stT F hD hP hS (k := 12 * v + a) (v := bm (fun y => (lv a y = v + 1 ∧ tr a y) ∧ ¬ y = b)) (ix12 v a) (by omega) (bm_vps _) dX0_unplace_55 (fun H locs hP hS => ?_)
  have hP : va_P D vwCl (PXr h0 aL aZ aT aO cB cZ cS ec pt (fL (set2 lv a b 0)) (fZ tr) (upd (fT lv tr) (12 * v + a) (bm (fun y => (lv a y = v + 1 ∧ tr a y) ∧ ¬ y = b))) (fO lv tr)) H := hP
  refine lv_aload_n hx hb dX0_unplace_56 rfl (lv_at hl 1 rfl) ?_
  refine x_get4 F hP dX0_unplace_57 ?_
  refine lv_bipush (v := 12) hx hb dX0_unplace_60 (by decide +kernel) ?_
  refine lv_iload_n hx hb dX0_unplace_62 rfl (lv_at hl 0 rfl) ?_
  refine lv_imul hx hb dX0_unplace_63 ?_
  refine lv_iload_n hx hb dX0_unplace_64 rfl (lv_at hl 3 rfl) ?_
  refine lv_iadd hx hb dX0_unplace_65 ?_
  refine lv_dup2_11 hx hb dX0_unplace_66 rfl rfl ?_
  refine x_ldT (v := bm (fun y => lv b y = v + 1 ∧ tr b y)) F hP (ix12 v b) (by omega) ((upd_out (by omega)).trans (fT_at lv tr hb1)) dX0_unplace_67 ?_
  refine lv_iconst (v := 1) hx hb dX0_unplace_68 (by decide +kernel) ?_
  refine lv_iload_n hx hb dX0_unplace_69 rfl (lv_at hl 2 rfl) ?_
  refine lv_ishl hx hb dX0_unplace_70 ?_
  refine g_top (y := bm (fun y => y = a)) (bm_one ha) ?_
  refine lv_iconst (v := (-1)) hx hb dX0_unplace_71 (by decide +kernel) ?_
  refine lv_ixor hx hb dX0_unplace_72 ?_
  refine lv_iand hx hb dX0_unplace_73 ?_
  refine g_top (y := bm (fun y => (lv b y = v + 1 ∧ tr b y) ∧ ¬ y = a)) (bm_andn _ _) ?_
  refine lv_i2s (v := bm (fun y => (lv b y = v + 1 ∧ tr b y) ∧ ¬ y = a)) hx hb dX0_unplace_74 (bm_i2s _) ?_
  refine x_stT F hD hP hS (k := 12 * v + b) (v := bm (fun y => (lv b y = v + 1 ∧ tr b y) ∧ ¬ y = a)) (ix12 v b) (by omega) (bm_vps _) dX0_unplace_75 (fun H locs hP hS => ?_)
  have hP : va_P D vwCl (PXr h0 aL aZ aT aO cB cZ cS ec pt (fL (set2 lv a b 0)) (fZ tr) (upd (upd (fT lv tr) (12 * v + a) (bm (fun y => (lv a y = v + 1 ∧ tr a y) ∧ ¬ y = b))) (12 * v + b) (bm (fun y => (lv b y = v + 1 ∧ tr b y) ∧ ¬ y = a))) (fO lv tr)) H := hP
  rw [un_T ha hb1 hab h1 h2] at hP
  refine lv_aload_n hx hb dX0_unplace_76 rfl (lv_at hl 1 rfl) ?_
  refine x_get5 F hP dX0_unplace_77 ?_
  refine lv_bipush (v := 12) hx hb dX0_unplace_80 (by decide +kernel) ?_
  refine lv_iload_n hx hb dX0_unplace_82 rfl (lv_at hl 0 rfl) ?_
  refine lv_imul hx hb dX0_unplace_83 ?_
  refine lv_iload_n hx hb dX0_unplace_84 rfl (lv_at hl 2 rfl) ?_
  refine lv_iadd hx hb dX0_unplace_85 ?_
  refine lv_dup2_11 hx hb dX0_unplace_86 rfl rfl ?_
  refine x_ldO (v := bm (fun y => lv a y = v + 1 ∧ ¬ tr a y)) F hP (ix12 v a) (by omega) (fO_at lv tr ha) dX0_unplace_87 ?_
  refine lv_iconst (v := 1) hx hb dX0_unplace_88 (by decide +kernel) ?_
  refine lv_iload_n hx hb dX0_unplace_89 rfl (lv_at hl 3 rfl) ?_
  refine lv_ishl hx hb dX0_unplace_90 ?_
  refine g_top (y := bm (fun y => y = b)) (bm_one hb1) ?_
  refine lv_iconst (v := (-1)) hx hb dX0_unplace_91 (by decide +kernel) ?_
  refine lv_ixor hx hb dX0_unplace_92 ?_
  refine lv_iand hx hb dX0_unplace_93 ?_
  refine g_top (y := bm (fun y => (lv a y = v + 1 ∧ ¬ tr a y) ∧ ¬ y = b)) (bm_andn _ _) ?_
  refine lv_i2s (v := bm (fun y => (lv a y = v + 1 ∧ ¬ tr a y) ∧ ¬ y = b)) hx hb dX0_unplace_94 (bm_i2s _) ?_
  refine x_stO F hD hP hS (k := 12 * v + a) (v := bm (fun y => (lv a y = v + 1 ∧ ¬ tr a y) ∧ ¬ y = b)) (ix12 v a) (by omega) (bm_vps _) dX0_unplace_95 (fun H locs hP hS => ?_)
  have hP : va_P D vwCl (PXr h0 aL aZ aT aO cB cZ cS ec pt (fL (set2 lv a b 0)) (fZ tr) (fT (set2 lv a b 0) tr) (upd (fO lv tr) (12 * v + a) (bm (fun y => (lv a y = v + 1 ∧ ¬ tr a y) ∧ ¬ y = b)))) H := hP
  refine lv_aload_n hx hb dX0_unplace_96 rfl (lv_at hl 1 rfl) ?_
  refine x_get5 F hP dX0_unplace_97 ?_
  refine lv_bipush (v := 12) hx hb dX0_unplace_100 (by decide +kernel) ?_
  refine lv_iload_n hx hb dX0_unplace_102 rfl (lv_at hl 0 rfl) ?_
  refine lv_imul hx hb dX0_unplace_103 ?_
  refine lv_iload_n hx hb dX0_unplace_104 rfl (lv_at hl 3 rfl) ?_
  refine lv_iadd hx hb dX0_unplace_105 ?_
  refine lv_dup2_11 hx hb dX0_unplace_106 rfl rfl ?_
  refine x_ldO (v := bm (fun y => lv b y = v + 1 ∧ ¬ tr b y)) F hP (ix12 v b) (by omega) ((upd_out (by omega)).trans (fO_at lv tr hb1)) dX0_unplace_107 ?_
  refine lv_iconst (v := 1) hx hb dX0_unplace_108 (by decide +kernel) ?_
  refine lv_iload_n hx hb dX0_unplace_109 rfl (lv_at hl 2 rfl) ?_
  refine lv_ishl hx hb dX0_unplace_110 ?_
  refine g_top (y := bm (fun y => y = a)) (bm_one ha) ?_
  refine lv_iconst (v := (-1)) hx hb dX0_unplace_111 (by decide +kernel) ?_
  refine lv_ixor hx hb dX0_unplace_112 ?_
  refine lv_iand hx hb dX0_unplace_113 ?_
  refine g_top (y := bm (fun y => (lv b y = v + 1 ∧ ¬ tr b y) ∧ ¬ y = a)) (bm_andn _ _) ?_
  refine lv_i2s (v := bm (fun y => (lv b y = v + 1 ∧ ¬ tr b y) ∧ ¬ y = a)) hx hb dX0_unplace_114 (bm_i2s _) ?_
  refine x_stO F hD hP hS (k := 12 * v + b) (v := bm (fun y => (lv b y = v + 1 ∧ ¬ tr b y) ∧ ¬ y = a)) (ix12 v b) (by omega) (bm_vps _) dX0_unplace_115 (fun H locs hP hS => ?_)
  have hP : va_P D vwCl (PXr h0 aL aZ aT aO cB cZ cS ec pt (fL (set2 lv a b 0)) (fZ tr) (fT (set2 lv a b 0) tr) (upd (upd (fO lv tr) (12 * v + a) (bm (fun y => (lv a y = v + 1 ∧ ¬ tr a y) ∧ ¬ y = b))) (12 * v + b) (bm (fun y => (lv b y = v + 1 ∧ ¬ tr b y) ∧ ¬ y = a)))) H := hP
  rw [un_O ha hb1 hab h1 h2] at hP
  exact r_v (()) F hr hlk hP hS (trivial) dX0_unplace_116

set_option maxHeartbeats 4000000 in
set_option maxRecDepth 100000 in
/-- lift(a, b, t) -/
theorem mX_lift (l : Launch) {D : va_G} {A : Nat → Prop} {h0 aL aZ aT aO : Nat} {cB cZ cS cI : ClassId} (hD : XD A h0 aL aZ aT aO cB cZ cS) {ec pt : Int32} {lv : Nat → Nat → Nat} {tr : Nat → Nat → Prop} {a b v : Nat} {t : Prop} (ha : a < 12) (hb1 : b < 12) (hab : a ≠ b) (hv : v < 3) (h1 : lv a b = v + 1) (h2 : lv b a = v + 1) : Met l yX0_lift (ws_ yX0_lift cX0_lift 5 none) (rmd 1) (cPc D (XT cB cZ cS cI) (PX h0 aL aZ aT aO cB cZ cS ec pt lv tr) [.ref h0, .int (nI a), .int (nI b), .int (b01 t)]) (cQv D A (fun (u : Unit) => True) (fun (u : Unit) => PX h0 aL aZ aT aO cB cZ cS ec pt (set2 lv a b (v + 2)) (set2 tr a b t))) 0 0 A := by
  refine g_head (own := RX0) (by decide) rfl (Nat.le_of_ble_eq_true rfl) ?_
  intro p e s m below meth c ls F hx hb hr hlk _ hP hS hl
  have hl : lv_has ls 5 [(0, .ref h0), (1, .int (nI a)), (2, .int (nI b)), (3, .int (b01 t))] := hl
  refine lv_aload_n hx hb dX0_lift_0 rfl (lv_at hl 0 rfl) ?_
  refine x_get2 F hP dX0_lift_1 ?_
  refine lv_bipush (v := 12) hx hb dX0_lift_4 (by decide +kernel) ?_
  refine lv_iload_n hx hb dX0_lift_6 rfl (lv_at hl 1 rfl) ?_
  refine lv_imul hx hb dX0_lift_7 ?_
  refine lv_iload_n hx hb dX0_lift_8 rfl (lv_at hl 2 rfl) ?_
  refine lv_iadd hx hb dX0_lift_9 ?_
  refine x_ldL (v := nI v) F hP (ix12 a b) (by omega) ((fL_at lv hb1).trans (by rw [h1]; exact nI_pred v)) dX0_lift_10 ?_
  refine lv_iconst (v := 1) hx hb dX0_lift_11 (by decide +kernel) ?_
  refine lv_iadd hx hb dX0_lift_12 ?_
  refine g_top (y := nI (v + 1)) (nI_1 v) ?_
  refine lv_istore (lv' := [(4, .int (nI (v + 1))), (0, .ref h0), (1, .int (nI a)), (2, .int (nI b)), (3, .int (b01 t))]) hx hb dX0_lift_13 hl (by decide) rfl (fun ls hl => ?_)
  refine lv_aload_n hx hb dX0_lift_15 rfl (lv_at hl 1 rfl) ?_
  refine lv_iload_n hx hb dX0_lift_16 rfl (lv_at hl 2 rfl) ?_
  refine lv_iload_n hx hb dX0_lift_17 rfl (lv_at hl 3 rfl) ?_
  refine g_callv F (mX_unplace l hD ha hb1 hab (show v < 4 by omega) h1 h2) (cwV 2 F.1.2.2.2.2 (lw_V q81 q83 qs4 q17 q84) rfl rfl rfl (by decide +kernel) ⟨Nat.le_of_ble_eq_true rfl, Nat.le_of_ble_eq_true rfl⟩) hP hS (fun _ h => h) (ci := 0) rfl rfl rfl hl.1 rfl (by decide) dX0_lift_18 ⟨Nat.zero_le _, Nat.zero_le _⟩ (fun u H locs hq hP hS _ => ?_)
  have hP : va_P D vwCl (PX h0 aL aZ aT aO cB cZ cS ec pt (set2 lv a b 0) tr) H := hP
  refine lv_aload_n hx hb dX0_lift_21 rfl (lv_at hl 1 rfl) ?_
  refine lv_iload_n hx hb dX0_lift_22 rfl (lv_at hl 2 rfl) ?_
  refine lv_iload_n hx hb dX0_lift_23 rfl (lv_at hl 3 rfl) ?_
  refine lv_iload hx hb dX0_lift_24 (lv_at hl 0 rfl) ?_
  refine lv_iload_n hx hb dX0_lift_26 rfl (lv_at hl 4 rfl) ?_
  refine g_callv F (mX_place l hD (t := t) ha hb1 hab (show v + 1 < 4 by omega) (set2_ab lv a b 0) (set2_ba lv a b 0)) (cwV 4 F.1.2.2.2.2 (lw_V q73 q75 qs3 q17 q76) rfl rfl rfl (by decide +kernel) ⟨Nat.le_of_ble_eq_true rfl, Nat.le_of_ble_eq_true rfl⟩) hP hS (fun _ h => h) (ci := 0) rfl rfl rfl hl.1 rfl (by decide) dX0_lift_27 ⟨Nat.zero_le _, Nat.zero_le _⟩ (fun u H locs hq hP hS _ => ?_)
  have hP : va_P D vwCl (PX h0 aL aZ aT aO cB cZ cS ec pt (set2 (set2 lv a b 0) a b (v + 1 + 1)) (set2 tr a b t)) H := hP
  rw [set2_2] at hP
  exact r_v (()) F hr hlk hP hS (trivial) dX0_lift_30
end
section
/-! LevelForests: what reads -/
def onP (Q : Nat → Nat → Prop) (x y : Int32) : Prop := ∃ a b : Nat, a < 12 ∧ b < 12 ∧ x = nI a ∧ y = nI b ∧ Q a b
theorem nI_12 {a b : Nat} (ha : a < 12) (hb : b < 12) : nI a = nI b ↔ a = b := nI_eq (by omega) (by omega)
theorem onP_n {Q : Nat → Nat → Prop} {a b : Nat} (ha : a < 12) (hb : b < 12) : onP Q (nI a) (nI b) ↔ Q a b := by
  constructor
  · rintro ⟨a', b', ha', hb', e1, e2, q⟩
    rw [(nI_12 ha ha').mp e1, (nI_12 hb hb').mp e2]
    exact q
  · exact fun q => ⟨a, b, ha, hb, rfl, rfl, q⟩
theorem onP_l {Q : Nat → Nat → Prop} {x y : Int32} (h : ¬ ispt x) : ¬ onP Q x y := fun ⟨a, _, ha, _, e, _, _⟩ => h ⟨a, ha, e⟩
theorem onP_r {Q : Nat → Nat → Prop} {x y : Int32} (h : ¬ ispt y) : ¬ onP Q x y := fun ⟨_, b, _, hb, _, e, _⟩ => h ⟨b, hb, e⟩
theorem HI_eq {lv : Nat → Nat → Nat} {tr : Nat → Nat → Prop} (h : HI lv tr) : cn (FI lv tr 0) = cn (EE lv) := by
  funext x y
  exact propext (HI_E h)
theorem FI_x {lv : Nat → Nat → Nat} {tr : Nat → Nat → Prop} (h : WF lv tr) {i : Nat} : ∀ x y, FI lv tr i x y → x < 12 := fun x y q => h.2.1 x y (FI_E x y q)
theorem gt3 {j : Nat} (h : j ≤ 4) (c : (3 : Int32) < nI j) : j = 4 := by
  rcases Nat.lt_or_ge j 4 with q | q
  · rw [show (3 : Int32) = nI 3 by decide +kernel] at c; exact absurd c (nI_nlt (by omega) (by omega))
  · omega
theorem le3 {j : Nat} (h : j ≤ 4) (c : ¬ (3 : Int32) < nI j) : j < 4 := by
  rcases Nat.lt_or_ge j 4 with q | q
  · exact q
  · rw [show (3 : Int32) = nI 3 by decide +kernel] at c; exact absurd (nI_lt (by omega) (by omega)) c
theorem lvneg : ∀ v, v < 8 → (nI v - 1 < 0 ↔ v = 0) := by decide +kernel
noncomputable def aPart (E : Nat → Nat → Prop) (x : Int32) : Int32 := cif (ispt x) (bm (fun y => ∃ a, a < 12 ∧ x = nI a ∧ cn E a y)) (-1)
theorem aPart_n {E : Nat → Nat → Prop} {a : Nat} (ha : a < 12) : aPart E (nI a) = bm (cn E a) := by
  unfold aPart
  rw [cif_t (ispt_n ha)]
  exact bm_cong fun y _ => ⟨fun ⟨a', h1, h2, h3⟩ => by rw [(nI_12 ha h1).mp h2]; exact h3, fun q => ⟨a, ha, rfl, q⟩⟩
noncomputable def szE (E : Nat → Nat → Prop) (u : Nat) : Nat := ctP (cn E u) 12
theorem mx_le {f : Nat → Nat} {k : Nat} (h : f k ≤ mxN f k) : mxN f (k + 1) = mxN f k := by
  show (if mxN f k < f k then f k else mxN f k) = _
  rw [if_neg (by omega)]
theorem mx_gt {f : Nat → Nat} {k : Nat} (h : mxN f k < f k) : mxN f (k + 1) = f k := by
  show (if mxN f k < f k then f k else mxN f k) = _
  rw [if_pos h]
theorem szE_le (E : Nat → Nat → Prop) (u : Nat) : szE E u ≤ 12 := ctP_le _ _
theorem mxE_le (E : Nat → Nat → Prop) (n : Nat) : mxN (szE E) n ≤ 12 := mxN_le fun k _ => szE_le E k
theorem szE_eq {E : Nat → Nat → Prop} (sy : ∀ x y, E x y → E y x) {x y : Nat} (c : cn E x y) : szE E y = szE E x := ctP_cong fun k _ => ⟨fun q => cn_tr c q, fun q => cn_tr (cn_sy sy c) q⟩
/-- the points reached from below k -/
def seenE (E : Nat → Nat → Prop) (k y : Nat) : Prop := ∃ x, x < k ∧ cn E x y

set_option maxHeartbeats 4000000 in
set_option maxRecDepth 100000 in
/-- pieceOf(a, i) -/
theorem mX_pieceOf (l : Launch) {D : va_G} {A : Nat → Prop} {h0 aL aZ aT aO : Nat} {cB cZ cS cI : ClassId} (hD : XD A h0 aL aZ aT aO cB cZ cS) {ec pt : Int32} {lv : Nat → Nat → Nat} {tr : Nat → Nat → Prop} {a i : Nat} (hw : WF lv tr) (hle : ∀ x y, lv x y ≤ 4) (ha : a < 12) (hi : i ≤ 3) : Met l yX0_pieceOf (ws_ yX0_pieceOf cX0_pieceOf 9 (some .int)) (rmd 0) (cPc D (XT cB cZ cS cI) (PX h0 aL aZ aT aO cB cZ cS ec pt lv tr) [.ref h0, .int (nI a), .int (nI i)]) (cQi D A (fun (r : Int32) (u : Unit) => r = bm (cn (FI lv tr i) a)) (fun (u : Unit) => PX h0 aL aZ aT aO cB cZ cS ec pt lv tr)) 0 0 A := by
  refine g_head (own := RX0) (by decide) rfl (Nat.le_of_ble_eq_true rfl) ?_
  intro p e s m below meth c ls F hx hb hr hlk _ hP hS hl
  have hl : lv_has ls 9 [(0, .ref h0), (1, .int (nI a)), (2, .int (nI i))] := hl
  have hR := FI_x hw (i := i)
  have jloop : ∀ (P S N : Nat → Prop) (rd x : Nat), x < 12 → (∀ ls : Array Slot, lv_has ls 9 [(0, .ref h0), (1, .int (nI a)), (2, .int (nI i)), (3, .int (bm P)), (4, .int (bm S)), (5, .int (nI rd)), (6, .int (bm (fun y => N y ∨ rowj lv tr i 4 x y))), (7, .int (nI x))] → W p l e (headSpec (ws_ yX0_pieceOf cX0_pieceOf 9 (some .int)) (rmd 0)).room s m ([.ref h0, .int (nI a), .int (nI i)] : List Value).toArray below meth c s.heap [] 0 0 (MQ below (cQi D A (fun (r : Int32) (u : Unit) => r = bm (cn (FI lv tr i) a)) (fun (u : Unit) => PX h0 aL aZ aT aO cB cZ cS ec pt lv tr)) ([.ref h0, .int (nI a), .int (nI i)] : List Value).toArray s 0 0 A) (F0 m 81 ls [])) → ∀ n j, i ≤ j → j ≤ 4 → 4 < j + n → ∀ ls : Array Slot, lv_has ls 9 [(0, .ref h0), (1, .int (nI a)), (2, .int (nI i)), (3, .int (bm P)), (4, .int (bm S)), (5, .int (nI rd)), (6, .int (bm (fun y => N y ∨ rowj lv tr i j x y))), (7, .int (nI x)), (8, .int (nI j))] → W p l e (headSpec (ws_ yX0_pieceOf cX0_pieceOf 9 (some .int)) (rmd 0)).room s m ([.ref h0, .int (nI a), .int (nI i)] : List Value).toArray below meth c s.heap [] 0 0 (MQ below (cQi D A (fun (r : Int32) (u : Unit) => r = bm (cn (FI lv tr i) a)) (fun (u : Unit) => PX h0 aL aZ aT aO cB cZ cS ec pt lv tr)) ([.ref h0, .int (nI a), .int (nI i)] : List Value).toArray s 0 0 A) (F0 m 51 ls []) := by
    intro P S N rd x hx1 kont n
    induction n with
    | zero => intro j h1 h2 h3; exact absurd h3 (by omega)
    | succ n ih =>
      intro j hij hj hn ls hl
      refine lv_iload hx hb dX0_pieceOf_51 (lv_at hl 8 rfl) ?_
      refine lv_iconst (v := 3) hx hb dX0_pieceOf_53 (by decide +kernel) ?_
      refine lv_icmp_gt (tgt := 81) hx hb dX0_pieceOf_54 (by decide) (fun c1 => ?_) (fun c1 => ?_)
      · have e := gt3 hj c1
        subst e
        exact kont ls (lv_sub hl [0, 1, 2, 3, 4, 5, 6, 7] rfl)
      · have hj := le3 hj c1
        refine lv_iload hx hb dX0_pieceOf_57 (lv_at hl 6 rfl) ?_
        refine lv_aload_n hx hb dX0_pieceOf_59 rfl (lv_at hl 0 rfl) ?_
        refine x_get4 F hP dX0_pieceOf_60 ?_
        refine lv_bipush (v := 12) hx hb dX0_pieceOf_63 (by decide +kernel) ?_
        refine lv_iload hx hb dX0_pieceOf_65 (lv_at hl 8 rfl) ?_
        refine lv_imul hx hb dX0_pieceOf_67 ?_
        refine lv_iload hx hb dX0_pieceOf_68 (lv_at hl 7 rfl) ?_
        refine lv_iadd hx hb dX0_pieceOf_70 ?_
        refine x_ldT (v := bm (fun y => lv x y = j + 1 ∧ tr x y)) F hP (ix12 j x) (by omega) (fT_at lv tr hx1) dX0_pieceOf_71 ?_
        refine lv_ior hx hb dX0_pieceOf_72 ?_
        refine g_top (y := bm (fun y => N y ∨ rowj lv tr i (j + 1) x y)) ((bm_or _ _).trans (bm_cong fun y _ => by rw [rowj_s hij, or_assoc])) ?_
        refine lv_istore (lv' := [(6, .int (bm (fun y => N y ∨ rowj lv tr i (j + 1) x y))), (0, .ref h0), (1, .int (nI a)), (2, .int (nI i)), (3, .int (bm P)), (4, .int (bm S)), (5, .int (nI rd)), (7, .int (nI x)), (8, .int (nI j))]) hx hb dX0_pieceOf_73 hl (by decide) rfl (fun ls hl => ?_)
        refine lv_iinc (v := nI (j + 1)) (lv' := [(8, .int (nI (j + 1))), (6, .int (bm (fun y => N y ∨ rowj lv tr i (j + 1) x y))), (0, .ref h0), (1, .int (nI a)), (2, .int (nI i)), (3, .int (bm P)), (4, .int (bm S)), (5, .int (nI rd)), (7, .int (nI x))]) hx hb dX0_pieceOf_75 hl (k := 8) rfl (nI_1 j) (by decide) rfl (fun ls hl => ?_)
        refine lv_goto (tgt := 51) hx hb dX0_pieceOf_78 (by decide) ?_
        exact ih (j + 1) (by omega) hj (by omega) ls (lv_sub hl [2, 3, 4, 5, 6, 7, 1, 8, 0] rfl)
  have xloop : ∀ (P S : Nat → Prop) (rd : Nat), (∀ ls : Array Slot, lv_has ls 9 [(0, .ref h0), (1, .int (nI a)), (2, .int (nI i)), (3, .int (bm P)), (4, .int (bm S)), (5, .int (nI rd)), (6, .int (bm (nxt (FI lv tr i) S 12)))] → W p l e (headSpec (ws_ yX0_pieceOf cX0_pieceOf 9 (some .int)) (rmd 0)).room s m ([.ref h0, .int (nI a), .int (nI i)] : List Value).toArray below meth c s.heap [] 0 0 (MQ below (cQi D A (fun (r : Int32) (u : Unit) => r = bm (cn (FI lv tr i) a)) (fun (u : Unit) => PX h0 aL aZ aT aO cB cZ cS ec pt lv tr)) ([.ref h0, .int (nI a), .int (nI i)] : List Value).toArray s 0 0 A) (F0 m 87 ls [])) → ∀ n x, x ≤ 12 → 12 < x + n → ∀ ls : Array Slot, lv_has ls 9 [(0, .ref h0), (1, .int (nI a)), (2, .int (nI i)), (3, .int (bm P)), (4, .int (bm S)), (5, .int (nI rd)), (6, .int (bm (nxt (FI lv tr i) S x))), (7, .int (nI x))] → W p l e (headSpec (ws_ yX0_pieceOf cX0_pieceOf 9 (some .int)) (rmd 0)).room s m ([.ref h0, .int (nI a), .int (nI i)] : List Value).toArray below meth c s.heap [] 0 0 (MQ below (cQi D A (fun (r : Int32) (u : Unit) => r = bm (cn (FI lv tr i) a)) (fun (u : Unit) => PX h0 aL aZ aT aO cB cZ cS ec pt lv tr)) ([.ref h0, .int (nI a), .int (nI i)] : List Value).toArray s 0 0 A) (F0 m 28 ls []) := by
    intro P S rd kont n
    induction n with
    | zero => intro x h1 h2; exact absurd h2 (by omega)
    | succ n ih =>
      intro x hx1 hn ls hl
      refine lv_iload hx hb dX0_pieceOf_28 (lv_at hl 7 rfl) ?_
      refine lv_bipush (v := 12) hx hb dX0_pieceOf_30 (by decide +kernel) ?_
      refine lv_icmp_ge (tgt := 87) hx hb dX0_pieceOf_32 (by decide) (fun c1 => ?_) (fun c1 => ?_)
      · have e := le12 hx1 c1
        subst e
        exact kont ls (lv_sub hl [0, 1, 2, 3, 4, 5, 6] rfl)
      · have hx1 := lt12 hx1 c1
        refine lv_iload hx hb dX0_pieceOf_35 (lv_at hl 4 rfl) ?_
        refine lv_iload hx hb dX0_pieceOf_37 (lv_at hl 7 rfl) ?_
        refine lv_ishr hx hb dX0_pieceOf_39 ?_
        refine lv_iconst (v := 1) hx hb dX0_pieceOf_40 (by decide +kernel) ?_
        refine lv_iand hx hb dX0_pieceOf_41 ?_
        refine g_top (y := b01 (S x)) (bm_bit S hx1) ?_
        refine lv_if_ne (tgt := 48) hx hb dX0_pieceOf_42 (by decide) (fun c2 => ?_) (fun c2 => ?_)
        · have c2 := b01_n c2
          refine lv_iload_n hx hb dX0_pieceOf_48 rfl (lv_at hl 2 rfl) ?_
          refine lv_istore (lv' := [(8, .int (nI i)), (0, .ref h0), (1, .int (nI a)), (2, .int (nI i)), (3, .int (bm P)), (4, .int (bm S)), (5, .int (nI rd)), (6, .int (bm (nxt (FI lv tr i) S x))), (7, .int (nI x))]) hx hb dX0_pieceOf_49 hl (by decide) rfl (fun ls hl => ?_)
          rw [show bm (nxt (FI lv tr i) S x) = bm (fun y => nxt (FI lv tr i) S x y ∨ rowj lv tr i i x y) from bm_cong fun y _ => ⟨fun q => Or.inl q, fun q => q.elim id (fun ⟨k, q1, q2, _⟩ => absurd q2 (by omega))⟩] at hl
          refine jloop P S (nxt (FI lv tr i) S x) rd x hx1 (fun ls hl => ?_) 5 i (Nat.le_refl i) (by omega) (by omega) ls (lv_sub hl [1, 2, 3, 4, 5, 6, 7, 8, 0] rfl)
          rw [show bm (fun y => nxt (FI lv tr i) S x y ∨ rowj lv tr i 4 x y) = bm (nxt (FI lv tr i) S (x + 1)) from bm_cong fun y _ => by rw [rowj_4 (hle x y), nxt_t c2]] at hl
          refine lv_iinc (v := nI (x + 1)) (lv' := [(7, .int (nI (x + 1))), (0, .ref h0), (1, .int (nI a)), (2, .int (nI i)), (3, .int (bm P)), (4, .int (bm S)), (5, .int (nI rd)), (6, .int (bm (nxt (FI lv tr i) S (x + 1))))]) hx hb dX0_pieceOf_81 hl (k := 7) rfl (nI_1 x) (by decide) rfl (fun ls hl => ?_)
          refine lv_goto (tgt := 28) hx hb dX0_pieceOf_84 (by decide) ?_
          exact ih (x + 1) hx1 (by omega) ls (lv_sub hl [1, 2, 3, 4, 5, 6, 7, 0] rfl)
        · have c2 := b01_e c2
          refine lv_goto (tgt := 81) hx hb dX0_pieceOf_45 (by decide) ?_
          rw [show bm (nxt (FI lv tr i) S x) = bm (nxt (FI lv tr i) S (x + 1)) from bm_cong fun y _ => by rw [nxt_f c2]] at hl
          refine lv_iinc (v := nI (x + 1)) (lv' := [(7, .int (nI (x + 1))), (0, .ref h0), (1, .int (nI a)), (2, .int (nI i)), (3, .int (bm P)), (4, .int (bm S)), (5, .int (nI rd)), (6, .int (bm (nxt (FI lv tr i) S (x + 1))))]) hx hb dX0_pieceOf_81 hl (k := 7) rfl (nI_1 x) (by decide) rfl (fun ls hl => ?_)
          refine lv_goto (tgt := 28) hx hb dX0_pieceOf_84 (by decide) ?_
          exact ih (x + 1) hx1 (by omega) ls (lv_sub hl [1, 2, 3, 4, 5, 6, 7, 0] rfl)
  have oloop : ∀ n (rd : Nat) (P S : Nat → Prop), rd ≤ 12 → 12 < rd + n → BI (FI lv tr i) a P S rd → ∀ ls : Array Slot, lv_has ls 9 [(0, .ref h0), (1, .int (nI a)), (2, .int (nI i)), (3, .int (bm P)), (4, .int (bm S)), (5, .int (nI rd))] → W p l e (headSpec (ws_ yX0_pieceOf cX0_pieceOf 9 (some .int)) (rmd 0)).room s m ([.ref h0, .int (nI a), .int (nI i)] : List Value).toArray below meth c s.heap [] 0 0 (MQ below (cQi D A (fun (r : Int32) (u : Unit) => r = bm (cn (FI lv tr i) a)) (fun (u : Unit) => PX h0 aL aZ aT aO cB cZ cS ec pt lv tr)) ([.ref h0, .int (nI a), .int (nI i)] : List Value).toArray s 0 0 A) (F0 m 10 ls []) := by
    intro n
    induction n with
    | zero => intro rd P S h1 h2; exact absurd h2 (by omega)
    | succ n ih =>
      intro rd P S hrd hn hB ls hl
      refine lv_iload hx hb dX0_pieceOf_10 (lv_at hl 5 rfl) ?_
      refine lv_bipush (v := 12) hx hb dX0_pieceOf_12 (by decide +kernel) ?_
      refine lv_icmp_ge (tgt := 106) hx hb dX0_pieceOf_14 (by decide) (fun c1 => ?_) (fun c1 => ?_)
      · have e := le12 hrd c1
        refine lv_iload_n hx hb dX0_pieceOf_106 rfl (lv_at hl 3 rfl) ?_
        exact r_i (()) F hr hlk hP hS (bm_cong fun y _ => bi_end hR hB (Or.inl e) y) dX0_pieceOf_107
      · have hrd := lt12 hrd c1
        refine lv_iload hx hb dX0_pieceOf_17 (lv_at hl 4 rfl) ?_
        refine lv_if_eq (tgt := 106) hx hb dX0_pieceOf_19 (by decide) (fun c2 => ?_) (fun c2 => ?_)
        · refine lv_iload_n hx hb dX0_pieceOf_106 rfl (lv_at hl 3 rfl) ?_
          exact r_i (()) F hr hlk hP hS (bm_cong fun y _ => bi_end hR hB (Or.inr (bm_e c2)) y) dX0_pieceOf_107
        · refine lv_iconst (v := bm (nxt (FI lv tr i) S 0)) hx hb dX0_pieceOf_22 ((bm_z fun y _ ⟨x, hx, _⟩ => absurd hx (Nat.not_lt_zero x)).symm) ?_
          refine lv_istore (lv' := [(6, .int (bm (nxt (FI lv tr i) S 0))), (0, .ref h0), (1, .int (nI a)), (2, .int (nI i)), (3, .int (bm P)), (4, .int (bm S)), (5, .int (nI rd))]) hx hb dX0_pieceOf_23 hl (by decide) rfl (fun ls hl => ?_)
          refine lv_iconst (v := nI 0) hx hb dX0_pieceOf_25 (by decide +kernel) ?_
          refine lv_istore (lv' := [(7, .int (nI 0)), (6, .int (bm (nxt (FI lv tr i) S 0))), (0, .ref h0), (1, .int (nI a)), (2, .int (nI i)), (3, .int (bm P)), (4, .int (bm S)), (5, .int (nI rd))]) hx hb dX0_pieceOf_26 hl (by decide) rfl (fun ls hl => ?_)
          refine xloop P S rd (fun ls hl => ?_) 13 0 (by omega) (by omega) ls (lv_sub hl [2, 3, 4, 5, 6, 7, 1, 0] rfl)
          refine lv_iload hx hb dX0_pieceOf_87 (lv_at hl 6 rfl) ?_
          refine lv_iload_n hx hb dX0_pieceOf_89 rfl (lv_at hl 3 rfl) ?_
          refine lv_iconst (v := (-1)) hx hb dX0_pieceOf_90 (by decide +kernel) ?_
          refine lv_ixor hx hb dX0_pieceOf_91 ?_
          refine lv_iand hx hb dX0_pieceOf_92 ?_
          refine g_top (y := bm (fun y => nxt (FI lv tr i) S 12 y ∧ ¬ P y)) (bm_andn _ _) ?_
          refine lv_istore (lv' := [(4, .int (bm (fun y => nxt (FI lv tr i) S 12 y ∧ ¬ P y))), (0, .ref h0), (1, .int (nI a)), (2, .int (nI i)), (3, .int (bm P)), (5, .int (nI rd)), (6, .int (bm (nxt (FI lv tr i) S 12)))]) hx hb dX0_pieceOf_93 hl (by decide) rfl (fun ls hl => ?_)
          refine lv_iload_n hx hb dX0_pieceOf_95 rfl (lv_at hl 4 rfl) ?_
          refine lv_iload hx hb dX0_pieceOf_96 (lv_at hl 0 rfl) ?_
          refine lv_ior hx hb dX0_pieceOf_98 ?_
          refine g_top (y := bm (fun y => P y ∨ (nxt (FI lv tr i) S 12 y ∧ ¬ P y))) (bm_or _ _) ?_
          refine lv_istore_n (lv' := [(3, .int (bm (fun y => P y ∨ (nxt (FI lv tr i) S 12 y ∧ ¬ P y)))), (4, .int (bm (fun y => nxt (FI lv tr i) S 12 y ∧ ¬ P y))), (0, .ref h0), (1, .int (nI a)), (2, .int (nI i)), (5, .int (nI rd)), (6, .int (bm (nxt (FI lv tr i) S 12)))]) hx hb dX0_pieceOf_99 rfl hl (by decide) rfl (fun ls hl => ?_)
          refine lv_iinc (v := nI (rd + 1)) (lv' := [(5, .int (nI (rd + 1))), (3, .int (bm (fun y => P y ∨ (nxt (FI lv tr i) S 12 y ∧ ¬ P y)))), (4, .int (bm (fun y => nxt (FI lv tr i) S 12 y ∧ ¬ P y))), (0, .ref h0), (1, .int (nI a)), (2, .int (nI i)), (6, .int (bm (nxt (FI lv tr i) S 12)))]) hx hb dX0_pieceOf_100 hl (k := 5) rfl (nI_1 rd) (by decide) rfl (fun ls hl => ?_)
          refine lv_goto (tgt := 10) hx hb dX0_pieceOf_103 (by decide) ?_
          exact ih (rd + 1) _ _ hrd (by omega) (bi_st hR hB (bm_ne c2)) ls (lv_sub hl [3, 4, 5, 1, 2, 0] rfl)
  refine lv_iconst (v := 1) hx hb dX0_pieceOf_0 (by decide +kernel) ?_
  refine lv_iload_n hx hb dX0_pieceOf_1 rfl (lv_at hl 1 rfl) ?_
  refine lv_ishl hx hb dX0_pieceOf_2 ?_
  refine g_top (y := bm (fun y => y = a)) (bm_one ha) ?_
  refine lv_istore_n (lv' := [(3, .int (bm (fun y => y = a))), (0, .ref h0), (1, .int (nI a)), (2, .int (nI i))]) hx hb dX0_pieceOf_3 rfl hl (by decide) rfl (fun ls hl => ?_)
  refine lv_iload_n hx hb dX0_pieceOf_4 rfl (lv_at hl 0 rfl) ?_
  refine lv_istore (lv' := [(4, .int (bm (fun y => y = a))), (3, .int (bm (fun y => y = a))), (0, .ref h0), (1, .int (nI a)), (2, .int (nI i))]) hx hb dX0_pieceOf_5 hl (by decide) rfl (fun ls hl => ?_)
  refine lv_iconst (v := nI 0) hx hb dX0_pieceOf_7 (by decide +kernel) ?_
  refine lv_istore (lv' := [(5, .int (nI 0)), (4, .int (bm (fun y => y = a))), (3, .int (bm (fun y => y = a))), (0, .ref h0), (1, .int (nI a)), (2, .int (nI i))]) hx hb dX0_pieceOf_8 hl (by decide) rfl (fun ls hl => ?_)
  exact oloop 13 0 _ _ (by omega) (by omega) (bi_0 ha) ls (lv_sub hl [3, 4, 5, 2, 1, 0] rfl)

set_option maxHeartbeats 4000000 in
set_option maxRecDepth 100000 in
/-- connected(x, y) -/
theorem mX_connected (l : Launch) {D : va_G} {A : Nat → Prop} {h0 aL aZ aT aO : Nat} {cB cZ cS cI : ClassId} (hD : XD A h0 aL aZ aT aO cB cZ cS) {ec pt : Int32} {lv : Nat → Nat → Nat} {tr : Nat → Nat → Prop} (h : HI lv tr) (x y : Int32) : Met l yX0_connected (ws_ yX0_connected cX0_connected 4 (some .boolean)) (rmd 1) (cPc D (XT cB cZ cS cI) (PX h0 aL aZ aT aO cB cZ cS ec pt lv tr) [.ref h0, .int x, .int y]) (cQi D A (fun (r : Int32) (u : Unit) => r = b01 (onP (cn (EE lv)) x y)) (fun (u : Unit) => PX h0 aL aZ aT aO cB cZ cS ec pt lv tr)) 0 0 A := by
  refine g_head (own := RX0) (by decide) rfl (Nat.le_of_ble_eq_true rfl) ?_
  intro p e s m below meth c ls F hx hb hr hlk _ hP hS hl
  have hl : lv_has ls 4 [(0, .ref h0), (1, .int x), (2, .int y)] := hl
  refine lv_aload_n hx hb dX0_connected_0 rfl (lv_at hl 0 rfl) ?_
  refine lv_iload_n hx hb dX0_connected_1 rfl (lv_at hl 1 rfl) ?_
  refine g_calli F (mX_isPoint l hD x) (cwV 1 F.1.2.2.2.2 (lw_V q57 q59 qs1 q17 q60) rfl rfl rfl (by decide +kernel) ⟨Nat.le_of_ble_eq_true rfl, Nat.le_of_ble_eq_true rfl⟩) hP hS (fun _ h => h) (ci := 0) rfl rfl rfl hl.1 rfl (by decide) dX0_connected_2 ⟨Nat.zero_le _, Nat.zero_le _⟩ (fun r1 u H locs h1 hP hS _ => ?_)
  have hP : va_P D vwCl (PX h0 aL aZ aT aO cB cZ cS ec pt lv tr) H := hP
  refine lv_if_eq (tgt := 16) hx hb dX0_connected_5 (by decide) (fun c1 => ?_) (fun c1 => ?_)
  · have c1 := b01_e (h1 ▸ c1)
    refine lv_iconst (v := 0) hx hb dX0_connected_16 (by decide +kernel) ?_
    exact r_z (()) F hr hlk rfl hP hS ((b01_f (onP_l c1)).symm) dX0_connected_17
  · have c1 := b01_n (h1 ▸ c1)
    refine lv_aload_n hx hb dX0_connected_8 rfl (lv_at hl 0 rfl) ?_
    refine lv_iload_n hx hb dX0_connected_9 rfl (lv_at hl 2 rfl) ?_
    refine g_calli F (mX_isPoint l hD y) (cwV 1 F.1.2.2.2.2 (lw_V q57 q59 qs1 q17 q60) rfl rfl rfl (by decide +kernel) ⟨Nat.le_of_ble_eq_true rfl, Nat.le_of_ble_eq_true rfl⟩) hP hS (fun _ h => h) (ci := 0) rfl rfl rfl hl.1 rfl (by decide) dX0_connected_10 ⟨Nat.zero_le _, Nat.zero_le _⟩ (fun r2 u H locs h2 hP hS _ => ?_)
    have hP : va_P D vwCl (PX h0 aL aZ aT aO cB cZ cS ec pt lv tr) H := hP
    refine lv_if_ne (tgt := 18) hx hb dX0_connected_13 (by decide) (fun c2 => ?_) (fun c2 => ?_)
    · obtain ⟨b, hb1, rfl⟩ := b01_n (h2 ▸ c2)
      obtain ⟨a, ha, rfl⟩ := c1
      refine lv_aload_n hx hb dX0_connected_18 rfl (lv_at hl 0 rfl) ?_
      refine lv_iload_n hx hb dX0_connected_19 rfl (lv_at hl 1 rfl) ?_
      refine lv_iconst (v := nI 0) hx hb dX0_connected_20 (by decide +kernel) ?_
      refine g_calli F (mX_pieceOf l hD h.1 (fun x y => Nat.le_succ_of_le (HI_le h x y)) ha (Nat.zero_le 3)) (cwV 2 F.1.2.2.2.2 (lw_V q69 q71 qs2 q17 q72) rfl rfl rfl (by decide +kernel) ⟨Nat.le_of_ble_eq_true rfl, Nat.le_of_ble_eq_true rfl⟩) hP hS (fun _ h => h) (ci := 0) rfl rfl rfl hl.1 rfl (by decide) dX0_connected_21 ⟨Nat.zero_le _, Nat.zero_le _⟩ (fun r3 u H locs h3 hP hS _ => ?_)
      have hP : va_P D vwCl (PX h0 aL aZ aT aO cB cZ cS ec pt lv tr) H := hP
      rw [HI_eq h] at h3
      subst h3
      refine lv_istore_n (lv' := [(3, .int (bm (cn (EE lv) a))), (0, .ref h0), (1, .int (nI a)), (2, .int (nI b))]) hx hb dX0_connected_24 rfl hl (by decide) rfl (fun ls hl => ?_)
      refine lv_iload_n hx hb dX0_connected_25 rfl (lv_at hl 0 rfl) ?_
      refine lv_iload_n hx hb dX0_connected_26 rfl (lv_at hl 3 rfl) ?_
      refine lv_ishr hx hb dX0_connected_27 ?_
      refine lv_iconst (v := 1) hx hb dX0_connected_28 (by decide +kernel) ?_
      refine lv_iand hx hb dX0_connected_29 ?_
      refine g_top (y := b01 (cn (EE lv) a b)) (bm_bit _ hb1) ?_
      refine lv_if_eq (tgt := 37) hx hb dX0_connected_30 (by decide) (fun c4 => ?_) (fun c4 => ?_)
      · refine lv_iconst (v := 0) hx hb dX0_connected_37 (by decide +kernel) ?_
        exact r_z (()) F hr hlk rfl hP hS ((b01_f (fun q => b01_e c4 ((onP_n ha hb1).mp q))).symm) dX0_connected_38
      · refine lv_iconst (v := 1) hx hb dX0_connected_33 (by decide +kernel) ?_
        refine lv_goto (tgt := 38) hx hb dX0_connected_34 (by decide) ?_
        exact r_z (()) F hr hlk rfl hP hS ((b01_t ((onP_n ha hb1).mpr (b01_n c4))).symm) dX0_connected_38
    · have c2 := b01_e (h2 ▸ c2)
      refine lv_iconst (v := 0) hx hb dX0_connected_16 (by decide +kernel) ?_
      exact r_z (()) F hr hlk rfl hP hS ((b01_f (onP_r c2)).symm) dX0_connected_17

set_option maxHeartbeats 4000000 in
set_option maxRecDepth 100000 in
/-- part(x) -/
theorem mX_part (l : Launch) {D : va_G} {A : Nat → Prop} {h0 aL aZ aT aO : Nat} {cB cZ cS cI : ClassId} (hD : XD A h0 aL aZ aT aO cB cZ cS) {ec pt : Int32} {lv : Nat → Nat → Nat} {tr : Nat → Nat → Prop} (h : HI lv tr) (x : Int32) : Met l yX0_part (ws_ yX0_part cX0_part 2 (some .int)) (rmd 1) (cPc D (XT cB cZ cS cI) (PX h0 aL aZ aT aO cB cZ cS ec pt lv tr) [.ref h0, .int x]) (cQi D A (fun (r : Int32) (u : Unit) => r = aPart (EE lv) x) (fun (u : Unit) => PX h0 aL aZ aT aO cB cZ cS ec pt lv tr)) 0 0 A := by
  refine g_head (own := RX0) (by decide) rfl (Nat.le_of_ble_eq_true rfl) ?_
  intro p e s m below meth c ls F hx hb hr hlk _ hP hS hl
  have hl : lv_has ls 2 [(0, .ref h0), (1, .int x)] := hl
  refine lv_aload_n hx hb dX0_part_0 rfl (lv_at hl 0 rfl) ?_
  refine lv_iload_n hx hb dX0_part_1 rfl (lv_at hl 1 rfl) ?_
  refine g_calli F (mX_isPoint l hD x) (cwV 1 F.1.2.2.2.2 (lw_V q57 q59 qs1 q17 q60) rfl rfl rfl (by decide +kernel) ⟨Nat.le_of_ble_eq_true rfl, Nat.le_of_ble_eq_true rfl⟩) hP hS (fun _ h => h) (ci := 0) rfl rfl rfl hl.1 rfl (by decide) dX0_part_2 ⟨Nat.zero_le _, Nat.zero_le _⟩ (fun r1 u H locs h1 hP hS _ => ?_)
  have hP : va_P D vwCl (PX h0 aL aZ aT aO cB cZ cS ec pt lv tr) H := hP
  refine lv_if_eq (tgt := 17) hx hb dX0_part_5 (by decide) (fun c1 => ?_) (fun c1 => ?_)
  · have c1 := b01_e (h1 ▸ c1)
    refine lv_iconst (v := (-1)) hx hb dX0_part_17 (by decide +kernel) ?_
    exact r_i (()) F hr hlk hP hS ((cif_f c1).symm) dX0_part_18
  · obtain ⟨a, ha, rfl⟩ := b01_n (h1 ▸ c1)
    refine lv_aload_n hx hb dX0_part_8 rfl (lv_at hl 0 rfl) ?_
    refine lv_iload_n hx hb dX0_part_9 rfl (lv_at hl 1 rfl) ?_
    refine lv_iconst (v := nI 0) hx hb dX0_part_10 (by decide +kernel) ?_
    refine g_calli F (mX_pieceOf l hD h.1 (fun x y => Nat.le_succ_of_le (HI_le h x y)) ha (Nat.zero_le 3)) (cwV 2 F.1.2.2.2.2 (lw_V q69 q71 qs2 q17 q72) rfl rfl rfl (by decide +kernel) ⟨Nat.le_of_ble_eq_true rfl, Nat.le_of_ble_eq_true rfl⟩) hP hS (fun _ h => h) (ci := 0) rfl rfl rfl hl.1 rfl (by decide) dX0_part_11 ⟨Nat.zero_le _, Nat.zero_le _⟩ (fun r3 u H locs h3 hP hS _ => ?_)
    have hP : va_P D vwCl (PX h0 aL aZ aT aO cB cZ cS ec pt lv tr) H := hP
    rw [HI_eq h] at h3
    subst h3
    refine lv_goto (tgt := 18) hx hb dX0_part_14 (by decide) ?_
    exact r_i (()) F hr hlk hP hS ((aPart_n ha).symm) dX0_part_18

set_option maxHeartbeats 4000000 in
set_option maxRecDepth 100000 in
theorem mX_parts (l : Launch) {D : va_G} {A : Nat → Prop} {h0 aL aZ aT aO : Nat} {cB cZ cS cI : ClassId} (hD : XD A h0 aL aZ aT aO cB cZ cS) {ec pt : Int32} {lv : Nat → Nat → Nat} {tr : Nat → Nat → Prop}  : Met l yX0_parts (ws_ yX0_parts cX0_parts 1 (some .int)) (rmd 0) (cPc D (XT cB cZ cS cI) (PX h0 aL aZ aT aO cB cZ cS ec pt lv tr) [.ref h0]) (cQi D A (fun (r : Int32) (u : Unit) => r = pt) (fun (u : Unit) => PX h0 aL aZ aT aO cB cZ cS ec pt lv tr)) 0 0 A := by
  refine g_head (own := RX0) (by decide) rfl (Nat.le_of_ble_eq_true rfl) ?_
  intro p e s m below meth c ls F hx hb hr hlk _ hP hS hl
  have hl : lv_has ls 1 [(0, .ref h0)] := hl
  refine lv_aload_n hx hb dX0_parts_0 rfl (lv_at hl 0 rfl) ?_
  refine x_get1 F hP dX0_parts_1 ?_
  exact r_i (()) F hr hlk hP hS (rfl) dX0_parts_4

set_option maxHeartbeats 4000000 in
set_option maxRecDepth 100000 in
theorem mX_edges (l : Launch) {D : va_G} {A : Nat → Prop} {h0 aL aZ aT aO : Nat} {cB cZ cS cI : ClassId} (hD : XD A h0 aL aZ aT aO cB cZ cS) {ec pt : Int32} {lv : Nat → Nat → Nat} {tr : Nat → Nat → Prop}  : Met l yX0_edges (ws_ yX0_edges cX0_edges 1 (some .int)) (rmd 0) (cPc D (XT cB cZ cS cI) (PX h0 aL aZ aT aO cB cZ cS ec pt lv tr) [.ref h0]) (cQi D A (fun (r : Int32) (u : Unit) => r = ec) (fun (u : Unit) => PX h0 aL aZ aT aO cB cZ cS ec pt lv tr)) 0 0 A := by
  refine g_head (own := RX0) (by decide) rfl (Nat.le_of_ble_eq_true rfl) ?_
  intro p e s m below meth c ls F hx hb hr hlk _ hP hS hl
  have hl : lv_has ls 1 [(0, .ref h0)] := hl
  refine lv_aload_n hx hb dX0_edges_0 rfl (lv_at hl 0 rfl) ?_
  refine x_get0 F hP dX0_edges_1 ?_
  exact r_i (()) F hr hlk hP hS (rfl) dX0_edges_4

set_option maxHeartbeats 4000000 in
set_option maxRecDepth 100000 in
theorem mX_spare (l : Launch) {D : va_G} {A : Nat → Prop} {h0 aL aZ aT aO : Nat} {cB cZ cS cI : ClassId} (hD : XD A h0 aL aZ aT aO cB cZ cS) {ec pt : Int32} {lv : Nat → Nat → Nat} {tr : Nat → Nat → Prop}  : Met l yX0_spare (ws_ yX0_spare cX0_spare 1 (some .int)) (rmd 0) (cPc D (XT cB cZ cS cI) (PX h0 aL aZ aT aO cB cZ cS ec pt lv tr) [.ref h0]) (cQi D A (fun (r : Int32) (u : Unit) => r = ec - (12 - pt)) (fun (u : Unit) => PX h0 aL aZ aT aO cB cZ cS ec pt lv tr)) 0 0 A := by
  refine g_head (own := RX0) (by decide) rfl (Nat.le_of_ble_eq_true rfl) ?_
  intro p e s m below meth c ls F hx hb hr hlk _ hP hS hl
  have hl : lv_has ls 1 [(0, .ref h0)] := hl
  refine lv_aload_n hx hb dX0_spare_0 rfl (lv_at hl 0 rfl) ?_
  refine x_get0 F hP dX0_spare_1 ?_
  refine lv_bipush (v := 12) hx hb dX0_spare_4 (by decide +kernel) ?_
  refine lv_aload_n hx hb dX0_spare_6 rfl (lv_at hl 0 rfl) ?_
  refine x_get1 F hP dX0_spare_7 ?_
  refine lv_isub hx hb dX0_spare_10 ?_
  refine lv_isub hx hb dX0_spare_11 ?_
  exact r_i (()) F hr hlk hP hS (rfl) dX0_spare_12

set_option maxHeartbeats 4000000 in
set_option maxRecDepth 100000 in
/-- isEdge(x, y) -/
theorem mX_isEdge (l : Launch) {D : va_G} {A : Nat → Prop} {h0 aL aZ aT aO : Nat} {cB cZ cS cI : ClassId} (hD : XD A h0 aL aZ aT aO cB cZ cS) {ec pt : Int32} {lv : Nat → Nat → Nat} {tr : Nat → Nat → Prop} (hw : WF lv tr) (hle : ∀ x y, lv x y ≤ 4) (x y : Int32) : Met l yX0_isEdge (ws_ yX0_isEdge cX0_isEdge 3 (some .boolean)) (rmd 2) (cPc D (XT cB cZ cS cI) (PX h0 aL aZ aT aO cB cZ cS ec pt lv tr) [.ref h0, .int x, .int y]) (cQi D A (fun (r : Int32) (u : Unit) => r = b01 (onP (EE lv) x y)) (fun (u : Unit) => PX h0 aL aZ aT aO cB cZ cS ec pt lv tr)) 0 0 A := by
  refine g_head (own := RX0) (by decide) rfl (Nat.le_of_ble_eq_true rfl) ?_
  intro p e s m below meth c ls F hx hb hr hlk _ hP hS hl
  have hl : lv_has ls 3 [(0, .ref h0), (1, .int x), (2, .int y)] := hl
  refine lv_aload_n hx hb dX0_isEdge_0 rfl (lv_at hl 0 rfl) ?_
  refine lv_iload_n hx hb dX0_isEdge_1 rfl (lv_at hl 1 rfl) ?_
  refine lv_iload_n hx hb dX0_isEdge_2 rfl (lv_at hl 2 rfl) ?_
  refine g_calli F (mX_isCouple l hD x y) (cwV 2 F.1.2.2.2.2 (lw_V q53 q55 qs0 q17 q56) rfl rfl rfl (by decide +kernel) ⟨Nat.le_of_ble_eq_true rfl, Nat.le_of_ble_eq_true rfl⟩) hP hS (fun _ h => h) (ci := 0) rfl rfl rfl hl.1 rfl (by decide) dX0_isEdge_3 ⟨Nat.zero_le _, Nat.zero_le _⟩ (fun r1 u H locs h1 hP hS _ => ?_)
  have hP : va_P D vwCl (PX h0 aL aZ aT aO cB cZ cS ec pt lv tr) H := hP
  refine lv_if_eq (tgt := 27) hx hb dX0_isEdge_6 (by decide) (fun c1 => ?_) (fun c1 => ?_)
  · have c1 := b01_e (h1 ▸ c1)
    refine lv_iconst (v := 0) hx hb dX0_isEdge_27 (by decide +kernel) ?_
    exact r_z (()) F hr hlk rfl hP hS ((b01_f (fun ⟨a, b, ha, hb1, e1, e2, q⟩ => c1 ⟨⟨a, ha, e1⟩, ⟨b, hb1, e2⟩, fun z => WF_ne hw q ((nI_12 ha hb1).mp (by rw [← e1, ← e2]; exact z))⟩)).symm) dX0_isEdge_28
  · obtain ⟨⟨a, ha, rfl⟩, ⟨b, hb1, rfl⟩, -⟩ := b01_n (h1 ▸ c1)
    have hab := hle a b
    refine lv_aload_n hx hb dX0_isEdge_9 rfl (lv_at hl 0 rfl) ?_
    refine x_get2 F hP dX0_isEdge_10 ?_
    refine lv_bipush (v := 12) hx hb dX0_isEdge_13 (by decide +kernel) ?_
    refine lv_iload_n hx hb dX0_isEdge_15 rfl (lv_at hl 1 rfl) ?_
    refine lv_imul hx hb dX0_isEdge_16 ?_
    refine lv_iload_n hx hb dX0_isEdge_17 rfl (lv_at hl 2 rfl) ?_
    refine lv_iadd hx hb dX0_isEdge_18 ?_
    refine x_ldL (v := nI (lv a b) - 1) F hP (ix12 a b) (by omega) (fL_at lv hb1) dX0_isEdge_19 ?_
    refine lv_if_lt (tgt := 27) hx hb dX0_isEdge_20 (by decide) (fun c2 => ?_) (fun c2 => ?_)
    · refine lv_iconst (v := 0) hx hb dX0_isEdge_27 (by decide +kernel) ?_
      exact r_z (()) F hr hlk rfl hP hS ((b01_f (fun q => absurd ((lvneg (lv a b) (by omega)).mp c2) ((onP_n (Q := EE lv) ha hb1).mp q))).symm) dX0_isEdge_28
    · refine lv_iconst (v := 1) hx hb dX0_isEdge_23 (by decide +kernel) ?_
      refine lv_goto (tgt := 28) hx hb dX0_isEdge_24 (by decide) ?_
      exact r_z (()) F hr hlk rfl hP hS ((b01_t ((onP_n ha hb1).mpr (fun q => c2 ((lvneg (lv a b) (by omega)).mpr q)))).symm) dX0_isEdge_28

set_option maxHeartbeats 4000000 in
set_option maxRecDepth 100000 in
/-- greatest() -/
theorem mX_greatest (l : Launch) {D : va_G} {A : Nat → Prop} {h0 aL aZ aT aO : Nat} {cB cZ cS cI : ClassId} (hD : XD A h0 aL aZ aT aO cB cZ cS) {ec pt : Int32} {lv : Nat → Nat → Nat} {tr : Nat → Nat → Prop} (h : HI lv tr) : Met l yX0_greatest (ws_ yX0_greatest cX0_greatest 6 (some .int)) (rmd 1) (cPc D (XT cB cZ cS cI) (PX h0 aL aZ aT aO cB cZ cS ec pt lv tr) [.ref h0]) (cQi D A (fun (r : Int32) (u : Unit) => r = nI (mxN (szE (EE lv)) 12)) (fun (u : Unit) => PX h0 aL aZ aT aO cB cZ cS ec pt lv tr)) 0 0 A := by
  refine g_head (own := RX0) (by decide) rfl (Nat.le_of_ble_eq_true rfl) ?_
  intro p e s m below meth c ls F hx hb hr hlk _ hP hS hl
  have hl : lv_has ls 6 [(0, .ref h0)] := hl
  have sy := (WF_gr h.1).1
  have loop : ∀ n k, k ≤ 12 → 12 < k + n → ∀ (H : Heap) (locs : List Loc), va_P D vwCl (PX h0 aL aZ aT aO cB cZ cS ec pt lv tr) H → va_S A s.heap H locs → ∀ ls : Array Slot, lv_has ls 6 [(0, .ref h0), (1, .int (nI (mxN (szE (EE lv)) k))), (2, .int (bm (seenE (EE lv) k))), (3, .int (nI k))] → W p l e (headSpec (ws_ yX0_greatest cX0_greatest 6 (some .int)) (rmd 1)).room s m ([.ref h0] : List Value).toArray below meth c H locs 0 0 (MQ below (cQi D A (fun (r : Int32) (u : Unit) => r = nI (mxN (szE (EE lv)) 12)) (fun (u : Unit) => PX h0 aL aZ aT aO cB cZ cS ec pt lv tr)) ([.ref h0] : List Value).toArray s 0 0 A) (F0 m 6 ls []) := by
    intro n
    induction n with
    | zero => intro k h1 h2; exact absurd h2 (by omega)
    | succ n ih =>
      intro k hk hn H locs hP hS ls hl
      refine lv_iload_n hx hb dX0_greatest_6 rfl (lv_at hl 3 rfl) ?_
      refine lv_bipush (v := 12) hx hb dX0_greatest_7 (by decide +kernel) ?_
      refine lv_icmp_ge (tgt := 59) hx hb dX0_greatest_9 (by decide) (fun c1 => ?_) (fun c1 => ?_)
      · have e := le12 hk c1
        subst e
        refine lv_iload_n hx hb dX0_greatest_59 rfl (lv_at hl 1 rfl) ?_
        exact r_i (()) F hr hlk hP hS (rfl) dX0_greatest_60
      · have hk := lt12 hk c1
        refine lv_iload_n hx hb dX0_greatest_12 rfl (lv_at hl 2 rfl) ?_
        refine lv_iload_n hx hb dX0_greatest_13 rfl (lv_at hl 3 rfl) ?_
        refine lv_ishr hx hb dX0_greatest_14 ?_
        refine lv_iconst (v := 1) hx hb dX0_greatest_15 (by decide +kernel) ?_
        refine lv_iand hx hb dX0_greatest_16 ?_
        refine g_top (y := b01 (seenE (EE lv) k k)) (bm_bit _ hk) ?_
        refine lv_if_eq (tgt := 23) hx hb dX0_greatest_17 (by decide) (fun c2 => ?_) (fun c2 => ?_)
        · have c2 := b01_e c2
          refine lv_aload_n hx hb dX0_greatest_23 rfl (lv_at hl 0 rfl) ?_
          refine lv_iload_n hx hb dX0_greatest_24 rfl (lv_at hl 3 rfl) ?_
          refine lv_iconst (v := nI 0) hx hb dX0_greatest_25 (by decide +kernel) ?_
          refine g_calli F (mX_pieceOf l hD h.1 (fun x y => Nat.le_succ_of_le (HI_le h x y)) hk (Nat.zero_le 3)) (cwV 2 F.1.2.2.2.2 (lw_V q69 q71 qs2 q17 q72) rfl rfl rfl (by decide +kernel) ⟨Nat.le_of_ble_eq_true rfl, Nat.le_of_ble_eq_true rfl⟩) hP hS (fun _ h => h) (ci := 0) rfl rfl rfl hl.1 rfl (by decide) dX0_greatest_26 ⟨Nat.zero_le _, Nat.zero_le _⟩ (fun r3 u H locs h3 hP hS _ => ?_)
          have hP : va_P D vwCl (PX h0 aL aZ aT aO cB cZ cS ec pt lv tr) H := hP
          rw [HI_eq h] at h3
          subst h3
          refine lv_istore (lv' := [(4, .int (bm (cn (EE lv) k))), (0, .ref h0), (1, .int (nI (mxN (szE (EE lv)) k))), (2, .int (bm (seenE (EE lv) k))), (3, .int (nI k))]) hx hb dX0_greatest_29 hl (by decide) rfl (fun ls hl => ?_)
          refine lv_aload_n hx hb dX0_greatest_31 rfl (lv_at hl 1 rfl) ?_
          refine lv_iload hx hb dX0_greatest_32 (lv_at hl 0 rfl) ?_
          refine g_calli F (mX_bitsIn l hD (cn (EE lv) k)) (cwV 1 F.1.2.2.2.2 (lw_V q89 q91 qs6 q17 q92) rfl rfl rfl (by decide +kernel) ⟨Nat.le_of_ble_eq_true rfl, Nat.le_of_ble_eq_true rfl⟩) hP hS (fun _ h => h) (ci := 0) rfl rfl rfl hl.1 rfl (by decide) dX0_greatest_34 ⟨Nat.zero_le _, Nat.zero_le _⟩ (fun r4 u H locs h4 hP hS _ => ?_)
          have hP : va_P D vwCl (PX h0 aL aZ aT aO cB cZ cS ec pt lv tr) H := hP
          subst h4
          refine g_top (show nI (ctP (cn (EE lv) k) 12) = nI (szE (EE lv) k) from rfl) ?_
          refine lv_istore (lv' := [(5, .int (nI (szE (EE lv) k))), (4, .int (bm (cn (EE lv) k))), (0, .ref h0), (1, .int (nI (mxN (szE (EE lv)) k))), (2, .int (bm (seenE (EE lv) k))), (3, .int (nI k))]) hx hb dX0_greatest_37 hl (by decide) rfl (fun ls hl => ?_)
          refine lv_iload_n hx hb dX0_greatest_39 rfl (lv_at hl 4 rfl) ?_
          refine lv_iload hx hb dX0_greatest_40 (lv_at hl 1 rfl) ?_
          refine lv_ior hx hb dX0_greatest_42 ?_
          refine g_top (y := bm (seenE (EE lv) (k + 1))) ((bm_or _ _).trans (bm_cong fun y _ => ⟨fun q => q.elim (fun ⟨x, q1, q2⟩ => ⟨x, by omega, q2⟩) (fun q => ⟨k, by omega, q⟩), fun ⟨x, q1, q2⟩ => (Nat.lt_or_ge x k).elim (fun z => Or.inl ⟨x, z, q2⟩) (fun z => Or.inr (by rw [show k = x by omega]; exact q2))⟩)) ?_
          have b1 := szE_le (EE lv) k
          have b2 := mxE_le (EE lv) k
          refine lv_istore_n (lv' := [(2, .int (bm (seenE (EE lv) (k + 1)))), (5, .int (nI (szE (EE lv) k))), (4, .int (bm (cn (EE lv) k))), (0, .ref h0), (1, .int (nI (mxN (szE (EE lv)) k))), (3, .int (nI k))]) hx hb dX0_greatest_43 rfl hl (by decide) rfl (fun ls hl => ?_)
          refine lv_iload hx hb dX0_greatest_44 (lv_at hl 1 rfl) ?_
          refine lv_iload_n hx hb dX0_greatest_46 rfl (lv_at hl 4 rfl) ?_
          refine lv_icmp_le (tgt := 53) hx hb dX0_greatest_47 (by decide) (fun c5 => ?_) (fun c5 => ?_)
          · rw [← mx_le ((nI_leI (by omega) (by omega)).mp c5)] at hl
            refine lv_iinc (v := nI (k + 1)) (lv' := [(3, .int (nI (k + 1))), (2, .int (bm (seenE (EE lv) (k + 1)))), (5, .int (nI (szE (EE lv) k))), (4, .int (bm (cn (EE lv) k))), (0, .ref h0), (1, .int (nI (mxN (szE (EE lv)) (k + 1))))]) hx hb dX0_greatest_53 hl (k := 5) rfl (nI_1 k) (by decide) rfl (fun ls hl => ?_)
            refine lv_goto (tgt := 6) hx hb dX0_greatest_56 (by decide) ?_
            exact ih (k + 1) hk (by omega) H locs hP hS ls (lv_sub hl [4, 5, 1, 0] rfl)
          · have c5 : mxN (szE (EE lv)) k < szE (EE lv) k := Nat.not_le.mp (fun z => c5 (nI_le z (by omega)))
            refine lv_iload hx hb dX0_greatest_50 (lv_at hl 1 rfl) ?_
            refine g_top (y := nI (mxN (szE (EE lv)) (k + 1))) (by rw [mx_gt c5]) ?_
            refine lv_istore_n (lv' := [(1, .int (nI (mxN (szE (EE lv)) (k + 1)))), (2, .int (bm (seenE (EE lv) (k + 1)))), (5, .int (nI (szE (EE lv) k))), (4, .int (bm (cn (EE lv) k))), (0, .ref h0), (3, .int (nI k))]) hx hb dX0_greatest_52 rfl hl (by decide) rfl (fun ls hl => ?_)
            refine lv_iinc (v := nI (k + 1)) (lv' := [(3, .int (nI (k + 1))), (1, .int (nI (mxN (szE (EE lv)) (k + 1)))), (2, .int (bm (seenE (EE lv) (k + 1)))), (5, .int (nI (szE (EE lv) k))), (4, .int (bm (cn (EE lv) k))), (0, .ref h0)]) hx hb dX0_greatest_53 hl (k := 5) rfl (nI_1 k) (by decide) rfl (fun ls hl => ?_)
            refine lv_goto (tgt := 6) hx hb dX0_greatest_56 (by decide) ?_
            exact ih (k + 1) hk (by omega) H locs hP hS ls (lv_sub hl [5, 1, 2, 0] rfl)
        · obtain ⟨x0, hx0, cx0⟩ := b01_n c2
          rw [← mx_le (show szE (EE lv) k ≤ mxN (szE (EE lv)) k from by rw [szE_eq sy cx0]; exact mxN_ge hx0), show bm (seenE (EE lv) k) = bm (seenE (EE lv) (k + 1)) from bm_cong fun y _ => ⟨fun ⟨x, q1, q2⟩ => ⟨x, by omega, q2⟩, fun ⟨x, q1, q2⟩ => (Nat.lt_or_ge x k).elim (fun z => ⟨x, z, q2⟩) (fun z => ⟨x0, hx0, cn_tr cx0 (by rw [show k = x by omega]; exact q2)⟩)⟩] at hl
          refine lv_goto (tgt := 53) hx hb dX0_greatest_20 (by decide) ?_
          refine lv_iinc (v := nI (k + 1)) (lv' := [(3, .int (nI (k + 1))), (0, .ref h0), (1, .int (nI (mxN (szE (EE lv)) (k + 1)))), (2, .int (bm (seenE (EE lv) (k + 1))))]) hx hb dX0_greatest_53 hl (k := 3) rfl (nI_1 k) (by decide) rfl (fun ls hl => ?_)
          refine lv_goto (tgt := 6) hx hb dX0_greatest_56 (by decide) ?_
          exact ih (k + 1) hk (by omega) H locs hP hS ls (lv_sub hl [1, 2, 3, 0] rfl)
  refine lv_iconst (v := nI (mxN (szE (EE lv)) 0)) hx hb dX0_greatest_0 (rfl) ?_
  refine lv_istore_n (lv' := [(1, .int (nI (mxN (szE (EE lv)) 0))), (0, .ref h0)]) hx hb dX0_greatest_1 rfl hl (by decide) rfl (fun ls hl => ?_)
  refine lv_iconst (v := bm (seenE (EE lv) 0)) hx hb dX0_greatest_2 ((bm_z fun y _ ⟨x, hx, _⟩ => absurd hx (Nat.not_lt_zero x)).symm) ?_
  refine lv_istore_n (lv' := [(2, .int (bm (seenE (EE lv) 0))), (1, .int (nI (mxN (szE (EE lv)) 0))), (0, .ref h0)]) hx hb dX0_greatest_3 rfl hl (by decide) rfl (fun ls hl => ?_)
  refine lv_iconst (v := nI 0) hx hb dX0_greatest_4 (by decide +kernel) ?_
  refine lv_istore_n (lv' := [(3, .int (nI 0)), (2, .int (bm (seenE (EE lv) 0))), (1, .int (nI (mxN (szE (EE lv)) 0))), (0, .ref h0)]) hx hb dX0_greatest_5 rfl hl (by decide) rfl (fun ls hl => ?_)
  exact loop 13 0 (by omega) (by omega) s.heap [] hP hS ls (lv_sub hl [3, 2, 1, 0] rfl)
end
section
/-! what each call answers and leaves, as functions of the graph E -/
def couple (x y : Int32) : Prop := ispt x ∧ ispt y ∧ x ≠ y
def lk (E : Nat → Nat → Prop) (x y : Int32) : Prop := couple x y ∧ ¬ onP E x y ∧ dgs E ≠ 60
noncomputable def aLink (E : Nat → Nat → Prop) (x y : Int32) : Int32 := cif (¬ couple x y) (-1) (cif (onP E x y) 0 (cif (dgs E = 60) (-2) (cif (onP (cn E) x y) 1 2)))
def eLink (E : Nat → Nat → Prop) (x y : Int32) : Nat → Nat → Prop := fun u v => E u v ∨ (lk E x y ∧ (u < 12 ∧ v < 12) ∧ ((nI u = x ∧ nI v = y) ∨ (nI u = y ∧ nI v = x)))
noncomputable def aCut (E : Nat → Nat → Prop) (x y : Int32) : Int32 := cif (¬ couple x y) (-1) (cif (¬ onP E x y) 0 (cif (onP (fun a b => cn (dl E a b) a b) x y) 1 2))
def eCut (E : Nat → Nat → Prop) (x y : Int32) : Nat → Nat → Prop := fun u v => E u v ∧ ¬ (nI u = x ∧ nI v = y) ∧ ¬ (nI u = y ∧ nI v = x)
def isBr (E : Nat → Nat → Prop) (a b : Nat) : Prop := E a b ∧ ¬ cn (dl E a b) a b
def eIso (E : Nat → Nat → Prop) (x : Int32) : Nat → Nat → Prop := fun u v => E u v ∧ ¬ nI u = x ∧ ¬ nI v = x
noncomputable def aIso (E : Nat → Nat → Prop) (x : Int32) : Int32 := cif (ispt x) (nI (prts (eIso E x)) - nI (prts E)) (-1)
noncomputable def aSpare (E : Nat → Nat → Prop) : Int32 := nI (dgs E / 2) - (12 - nI (prts E))
section ANS
variable {E : Nat → Nat → Prop} {a b : Nat} {x y : Int32}
theorem cp_n (ha : a < 12) (hb : b < 12) (hab : a ≠ b) : couple (nI a) (nI b) := ⟨ispt_n ha, ispt_n hb, fun q => hab ((nI_12 ha hb).mp q)⟩
theorem cp_of (h : gr E) (q : onP E x y) : couple x y := by
  obtain ⟨a, b, ha, hb, rfl, rfl, e⟩ := q
  exact cp_n ha hb (gr_ne h e)
theorem aLink_b (h : ¬ couple x y) : aLink E x y = -1 := cif_t h
theorem aLink_0 (ha : a < 12) (hb : b < 12) (hab : a ≠ b) (e : E a b) : aLink E (nI a) (nI b) = 0 := by
  unfold aLink
  rw [cif_f (fun q => q (cp_n ha hb hab)), cif_t ((onP_n ha hb).mpr e)]
theorem aLink_f (ha : a < 12) (hb : b < 12) (hab : a ≠ b) (e : ¬ E a b) (hd : dgs E = 60) : aLink E (nI a) (nI b) = -2 := by
  unfold aLink
  rw [cif_f (fun q => q (cp_n ha hb hab)), cif_f (fun q => e ((onP_n ha hb).mp q)), cif_t hd]
theorem aLink_1 (ha : a < 12) (hb : b < 12) (hab : a ≠ b) (e : ¬ E a b) (hd : dgs E ≠ 60) (c : cn E a b) : aLink E (nI a) (nI b) = 1 := by
  unfold aLink
  rw [cif_f (fun q => q (cp_n ha hb hab)), cif_f (fun q => e ((onP_n ha hb).mp q)), cif_f hd, cif_t ((onP_n ha hb).mpr c)]
theorem aLink_2 (ha : a < 12) (hb : b < 12) (hab : a ≠ b) (e : ¬ E a b) (hd : dgs E ≠ 60) (c : ¬ cn E a b) : aLink E (nI a) (nI b) = 2 := by
  unfold aLink
  rw [cif_f (fun q => q (cp_n ha hb hab)), cif_f (fun q => e ((onP_n ha hb).mp q)), cif_f hd, cif_f (fun q => c ((onP_n ha hb).mp q))]
theorem eLink_no (h : ¬ lk E x y) : eLink E x y = E := by
  funext u v
  exact propext ⟨fun q => q.elim id (fun z => absurd z.1 h), fun q => Or.inl q⟩
theorem lk_b (h : ¬ couple x y) : ¬ lk E x y := fun q => h q.1
theorem lk_0 (ha : a < 12) (hb : b < 12) (e : E a b) : ¬ lk E (nI a) (nI b) := fun q => q.2.1 ((onP_n ha hb).mpr e)
theorem lk_f (hd : dgs E = 60) : ¬ lk E x y := fun q => q.2.2 hd
theorem eLink_n (ha : a < 12) (hb : b < 12) (hab : a ≠ b) (e : ¬ E a b) (hd : dgs E ≠ 60) : eLink E (nI a) (nI b) = ad E a b := by
  funext u v
  refine propext ⟨fun q => ?_, fun q => ?_⟩
  · rcases q with q | ⟨-, ⟨hu, hv⟩, ⟨e1, e2⟩ | ⟨e1, e2⟩⟩
    · exact Or.inl q
    · exact Or.inr (Or.inl ⟨(nI_12 hu ha).mp e1, (nI_12 hv hb).mp e2⟩)
    · exact Or.inr (Or.inr ⟨(nI_12 hu hb).mp e1, (nI_12 hv ha).mp e2⟩)
  · have hl : lk E (nI a) (nI b) := ⟨cp_n ha hb hab, fun q => e ((onP_n ha hb).mp q), hd⟩
    rcases q with q | ⟨rfl, rfl⟩ | ⟨rfl, rfl⟩
    · exact Or.inl q
    · exact Or.inr ⟨hl, ⟨ha, hb⟩, Or.inl ⟨rfl, rfl⟩⟩
    · exact Or.inr ⟨hl, ⟨hb, ha⟩, Or.inr ⟨rfl, rfl⟩⟩
theorem aCut_b (h : ¬ couple x y) : aCut E x y = -1 := cif_t h
theorem aCut_0 (ha : a < 12) (hb : b < 12) (hab : a ≠ b) (e : ¬ E a b) : aCut E (nI a) (nI b) = 0 := by
  unfold aCut
  rw [cif_f (fun q => q (cp_n ha hb hab)), cif_t (fun q => e ((onP_n ha hb).mp q))]
theorem aCut_1 (ha : a < 12) (hb : b < 12) (hab : a ≠ b) (e : E a b) (c : cn (dl E a b) a b) : aCut E (nI a) (nI b) = 1 := by
  unfold aCut
  rw [cif_f (fun q => q (cp_n ha hb hab)), cif_f (fun q => q ((onP_n ha hb).mpr e)), cif_t ((onP_n (Q := fun a b => cn (dl E a b) a b) ha hb).mpr c)]
theorem aCut_2 (ha : a < 12) (hb : b < 12) (hab : a ≠ b) (e : E a b) (c : ¬ cn (dl E a b) a b) : aCut E (nI a) (nI b) = 2 := by
  unfold aCut
  rw [cif_f (fun q => q (cp_n ha hb hab)), cif_f (fun q => q ((onP_n ha hb).mpr e)), cif_f (fun q => c ((onP_n (Q := fun a b => cn (dl E a b) a b) ha hb).mp q))]
theorem eCut_no (h : gr E) (k : ¬ onP E x y) : eCut E x y = E := by
  funext u v
  refine propext ⟨fun q => q.1, fun q => ⟨q, fun z => k ?_, fun z => k ?_⟩⟩
  · exact ⟨u, v, h.2.1 u v q, gr_y h q, z.1.symm, z.2.symm, q⟩
  · exact ⟨v, u, gr_y h q, h.2.1 u v q, z.2.symm, z.1.symm, h.1 u v q⟩
theorem eCut_b (h : gr E) (k : ¬ couple x y) : eCut E x y = E := eCut_no h (fun q => k (cp_of h q))
theorem eCut_n (h : gr E) (ha : a < 12) (hb : b < 12) : eCut E (nI a) (nI b) = dl E a b := by
  funext u v
  refine propext ⟨fun q => ⟨q.1, fun z => q.2.1 ⟨by rw [z.1], by rw [z.2]⟩, fun z => q.2.2 ⟨by rw [z.1], by rw [z.2]⟩⟩, fun q => ⟨q.1, fun z => q.2.1 ?_, fun z => q.2.2 ?_⟩⟩
  · exact ⟨(nI_12 (h.2.1 u v q.1) ha).mp z.1, (nI_12 (gr_y h q.1) hb).mp z.2⟩
  · exact ⟨(nI_12 (h.2.1 u v q.1) hb).mp z.1, (nI_12 (gr_y h q.1) ha).mp z.2⟩
/-- the edges at a, towards points below v, gone -/
def isoE (E : Nat → Nat → Prop) (a v : Nat) : Nat → Nat → Prop := fun u w => E u w ∧ ¬ (u = a ∧ w < v) ∧ ¬ (w = a ∧ u < v)
theorem isoE_0 (E : Nat → Nat → Prop) (a : Nat) : isoE E a 0 = E := by
  funext u w
  exact propext ⟨fun q => q.1, fun q => ⟨q, by omega, by omega⟩⟩
theorem isoE_gr (h : gr E) (a v : Nat) : gr (isoE E a v) := ⟨fun x y q => ⟨h.1 x y q.1, q.2.2, q.2.1⟩, fun x y q => h.2.1 x y q.1, fun x q => h.2.2 x q.1⟩
theorem isoE_no (h : gr E) {v : Nat} (k : ¬ isoE E a v a v) : isoE E a (v + 1) = isoE E a v := by
  have k2 : E a v → False := fun e => k ⟨e, by omega, by have := gr_ne h e; omega⟩
  funext u w
  refine propext ⟨fun q => ⟨q.1, by have := q.2.1; omega, by have := q.2.2; omega⟩, fun q => ⟨q.1, fun z => ?_, fun z => ?_⟩⟩
  · have h1 := q.2.1
    have e : w = v := by omega
    exact k2 (by rw [← e, ← z.1]; exact q.1)
  · have h1 := q.2.2
    have e : u = v := by omega
    exact k2 (by rw [← e, ← z.1]; exact h.1 _ _ q.1)
theorem isoE_dl (h : gr E) {v : Nat} : isoE E a (v + 1) = dl (isoE E a v) a v := by
  funext u w
  refine propext ⟨fun q => ⟨⟨q.1, by have := q.2.1; omega, by have := q.2.2; omega⟩, by have := q.2.1; omega, by have := q.2.2; omega⟩, fun q => ⟨q.1.1, ?_, ?_⟩⟩
  · have h1 := q.1.2.1
    have h2 := q.2.1
    omega
  · have h1 := q.1.2.2
    have h2 := q.2.2
    omega
theorem isoE_12 (h : gr E) (ha : a < 12) : isoE E a 12 = eIso E (nI a) := by
  funext u w
  refine propext ⟨fun q => ⟨q.1, fun z => q.2.1 ?_, fun z => q.2.2 ?_⟩, fun q => ⟨q.1, fun z => q.2.1 (by rw [z.1]), fun z => q.2.2 (by rw [z.1])⟩⟩
  · exact ⟨(nI_12 (h.2.1 u w q.1) ha).mp z, gr_y h q.1⟩
  · exact ⟨(nI_12 (gr_y h q.1) ha).mp z, h.2.1 u w q.1⟩
theorem eIso_no (h : gr E) (k : ¬ ispt x) : eIso E x = E := by
  funext u w
  exact propext ⟨fun q => q.1, fun q => ⟨q, fun z => k ⟨u, h.2.1 u w q, z.symm⟩, fun z => k ⟨w, gr_y h q, z.symm⟩⟩⟩
theorem aIso_n (ha : a < 12) : aIso E (nI a) = nI (prts (eIso E (nI a))) - nI (prts E) := cif_t (ispt_n ha)
theorem aIso_b (h : ¬ ispt x) : aIso E x = -1 := cif_f h
end ANS
/-! the component's whole invariant -/
def XI (ec pt : Int32) (lv : Nat → Nat → Nat) (tr : Nat → Nat → Prop) : Prop := HI lv tr ∧ ∃ k, k ≤ 30 ∧ dgs (EE lv) = 2 * k ∧ ec = nI k ∧ pt = nI (prts (EE lv))
section XIS
variable {lv lv' : Nat → Nat → Nat} {tr tr' : Nat → Nat → Prop} {a b k : Nat}
theorem xi_le {ec pt : Int32} (h : XI ec pt lv tr) (x y : Nat) : lv x y ≤ 4 := Nat.le_succ_of_le (HI_le h.1 x y)
theorem xi_gr {ec pt : Int32} (h : XI ec pt lv tr) : gr (EE lv) := WF_gr h.1.1
theorem xi_link1 (h : HI lv tr) (hk : k < 30) (hd : dgs (EE lv) = 2 * k) (ha : a < 12) (hb : b < 12) (hab : a ≠ b) (h0 : lv a b = 0) (c : cn (EE lv) a b) : XI (nI (k + 1)) (nI (prts (EE lv))) (set2 lv a b (0 + 1)) (set2 tr a b (¬ cn (EE lv) a b)) := by
  have g := WF_gr h.1
  have e1 := dgs_ad (E := EE lv) ha hb hab (fun q => q h0) (fun q => q (by rw [h.1.1 b a]; exact h0))
  refine ⟨hi_link h ha hb hab h0, k + 1, by omega, ?_, rfl, ?_⟩
  · rw [EE_ad a b (0 + 1) (by omega), e1]; omega
  · rw [EE_ad a b (0 + 1) (by omega), prts_adc g.1 c]
theorem xi_link2 (h : HI lv tr) (hk : k < 30) (hd : dgs (EE lv) = 2 * k) (ha : a < 12) (hb : b < 12) (hab : a ≠ b) (h0 : lv a b = 0) (c : ¬ cn (EE lv) a b) : XI (nI (k + 1)) (nI (prts (EE lv)) - 1) (set2 lv a b (0 + 1)) (set2 tr a b (¬ cn (EE lv) a b)) := by
  have g := WF_gr h.1
  have e1 := dgs_ad (E := EE lv) ha hb hab (fun q => q h0) (fun q => q (by rw [h.1.1 b a]; exact h0))
  refine ⟨hi_link h ha hb hab h0, k + 1, by omega, ?_, rfl, ?_⟩
  · rw [EE_ad a b (0 + 1) (by omega), e1]; omega
  · rw [EE_ad a b (0 + 1) (by omega), ← prts_ad g.1 ha hb c, nI_pred]
theorem xi_cut1 (hw : WF lv tr) (h' : HI lv' tr') (e : EE lv' = dl (EE lv) a b) (hk : k ≤ 30) (hd : dgs (EE lv) = 2 * k) (h0 : lv a b ≠ 0) (c : cn (dl (EE lv) a b) a b) : XI (nI k - 1) (nI (prts (EE lv))) lv' tr' := by
  have g := WF_gr hw
  have e1 := dgs_dl g (show EE lv a b from h0)
  refine ⟨h', k - 1, by omega, by rw [e]; omega, ?_, ?_⟩
  · have q := nI_pred (k - 1)
    rw [show k - 1 + 1 = k by omega] at q
    exact q
  · rw [e, (prts_dl g h0).1 c]
theorem xi_cut2 (hw : WF lv tr) (h' : HI lv' tr') (e : EE lv' = dl (EE lv) a b) (hk : k ≤ 30) (hd : dgs (EE lv) = 2 * k) (h0 : lv a b ≠ 0) (c : ¬ cn (dl (EE lv) a b) a b) : XI (nI k - 1) (nI (prts (EE lv)) + 1) lv' tr' := by
  have g := WF_gr hw
  have e1 := dgs_dl g (show EE lv a b from h0)
  refine ⟨h', k - 1, by omega, by rw [e]; omega, ?_, ?_⟩
  · have q := nI_pred (k - 1)
    rw [show k - 1 + 1 = k by omega] at q
    exact q
  · rw [e, (prts_dl g h0).2 c, nI_1]
end XIS
theorem im1 (x : Int32) : x + Int32.ofInt (-1) = x - 1 := by
  rw [Int32.sub_eq_add_neg]; rfl
theorem lt30 {k : Nat} (hk : k ≤ 30) (c : ¬ nI k < (30 : Int32)) : k = 30 := by
  rcases Nat.lt_or_ge k 30 with q | q
  · rw [show (30 : Int32) = nI 30 by decide +kernel] at c; exact absurd (nI_lt q (by omega)) c
  · omega
theorem ge30 {k : Nat} (hk : k ≤ 30) (c : nI k < (30 : Int32)) : k < 30 := by
  rcases Nat.lt_or_ge k 30 with q | q
  · exact q
  · rw [show (30 : Int32) = nI 30 by decide +kernel] at c; exact absurd c (nI_nlt q (by omega))
end
section
/-! LevelForests: what writes -/

set_option maxHeartbeats 4000000 in
set_option maxRecDepth 100000 in
/-- raiseTree(P, i) -/
theorem mX_raiseTree (l : Launch) {D : va_G} {A : Nat → Prop} {h0 aL aZ aT aO : Nat} {cB cZ cS cI : ClassId} (hD : XD A h0 aL aZ aT aO cB cZ cS) {ec pt : Int32} {lv : Nat → Nat → Nat} {tr : Nat → Nat → Prop} {P : Nat → Prop} {i : Nat} (hw : WF lv tr) (hi : i ≤ 2) (hc : ∀ x y, P x → lv x y = i + 1 → tr x y → P y) : Met l yX0_raiseTree (ws_ yX0_raiseTree cX0_raiseTree 5 none) (rmd 2) (cPc D (XT cB cZ cS cI) (PX h0 aL aZ aT aO cB cZ cS ec pt lv tr) [.ref h0, .int (bm P), .int (nI i)]) (cQv D A (fun (u : Nat → Nat → Nat) => raised lv tr P i u) (fun (u : Nat → Nat → Nat) => PX h0 aL aZ aT aO cB cZ cS ec pt u tr)) 0 0 A := by
  refine g_head (own := RX0) (by decide) rfl (Nat.le_of_ble_eq_true rfl) ?_
  intro p e s m below meth c ls F hx hb hr hlk _ hP hS hl
  have hl : lv_has ls 5 [(0, .ref h0), (1, .int (bm P)), (2, .int (nI i))] := hl
  have yloop : ∀ X, X < 12 → P X → (∀ lvc, RL lv tr P i X 12 lvc → ∀ (H : Heap) (locs : List Loc), va_P D vwCl (PX h0 aL aZ aT aO cB cZ cS ec pt lvc tr) H → va_S A s.heap H locs → ∀ ls : Array Slot, lv_has ls 5 [(0, .ref h0), (1, .int (bm P)), (2, .int (nI i)), (3, .int (nI X))] → W p l e (headSpec (ws_ yX0_raiseTree cX0_raiseTree 5 none) (rmd 2)).room s m ([.ref h0, .int (bm P), .int (nI i)] : List Value).toArray below meth c H locs 0 0 (MQ below (cQv D A (fun (u : Nat → Nat → Nat) => raised lv tr P i u) (fun (u : Nat → Nat → Nat) => PX h0 aL aZ aT aO cB cZ cS ec pt u tr)) ([.ref h0, .int (bm P), .int (nI i)] : List Value).toArray s 0 0 A) (F0 m 64 ls [])) → ∀ n Y lvc, X < Y → Y ≤ 12 → 12 < Y + n → RL lv tr P i X Y lvc → ∀ (H : Heap) (locs : List Loc), va_P D vwCl (PX h0 aL aZ aT aO cB cZ cS ec pt lvc tr) H → va_S A s.heap H locs → ∀ ls : Array Slot, lv_has ls 5 [(0, .ref h0), (1, .int (bm P)), (2, .int (nI i)), (3, .int (nI X)), (4, .int (nI Y))] → W p l e (headSpec (ws_ yX0_raiseTree cX0_raiseTree 5 none) (rmd 2)).room s m ([.ref h0, .int (bm P), .int (nI i)] : List Value).toArray below meth c H locs 0 0 (MQ below (cQv D A (fun (u : Nat → Nat → Nat) => raised lv tr P i u) (fun (u : Nat → Nat → Nat) => PX h0 aL aZ aT aO cB cZ cS ec pt u tr)) ([.ref h0, .int (bm P), .int (nI i)] : List Value).toArray s 0 0 A) (F0 m 24 ls []) := by
    intro X hX pX kont n
    induction n with
    | zero => intro Y lvc h1 h2 h3; exact absurd h3 (by omega)
    | succ n ih =>
      intro Y lvc hXY hY hn hL H locs hP hS ls hl
      refine lv_iload hx hb dX0_raiseTree_24 (lv_at hl 4 rfl) ?_
      refine lv_bipush (v := 12) hx hb dX0_raiseTree_26 (by decide +kernel) ?_
      refine lv_icmp_ge (tgt := 64) hx hb dX0_raiseTree_28 (by decide) (fun c1 => ?_) (fun c1 => ?_)
      · have e := le12 hY c1
        subst e
        exact kont lvc hL H locs hP hS ls (lv_sub hl [0, 1, 2, 3] rfl)
      · have hY := lt12 hY c1
        refine lv_aload_n hx hb dX0_raiseTree_31 rfl (lv_at hl 0 rfl) ?_
        refine x_get4 F hP dX0_raiseTree_32 ?_
        refine lv_bipush (v := 12) hx hb dX0_raiseTree_35 (by decide +kernel) ?_
        refine lv_iload_n hx hb dX0_raiseTree_37 rfl (lv_at hl 2 rfl) ?_
        refine lv_imul hx hb dX0_raiseTree_38 ?_
        refine lv_iload_n hx hb dX0_raiseTree_39 rfl (lv_at hl 3 rfl) ?_
        refine lv_iadd hx hb dX0_raiseTree_40 ?_
        refine x_ldT (v := bm (fun y => lvc X y = i + 1 ∧ tr X y)) F hP (ix12 i X) (by omega) (fT_at lvc tr hX) dX0_raiseTree_41 ?_
        refine lv_iload hx hb dX0_raiseTree_42 (lv_at hl 4 rfl) ?_
        refine lv_ishr hx hb dX0_raiseTree_44 ?_
        refine lv_iconst (v := 1) hx hb dX0_raiseTree_45 (by decide +kernel) ?_
        refine lv_iand hx hb dX0_raiseTree_46 ?_
        refine g_top (y := b01 (lvc X Y = i + 1 ∧ tr X Y)) (bm_bit (fun y => lvc X y = i + 1 ∧ tr X y) hY) ?_
        refine lv_if_eq (tgt := 58) hx hb dX0_raiseTree_47 (by decide) (fun c2 => ?_) (fun c2 => ?_)
        · have c2 := b01_e c2
          refine lv_iinc (v := nI (Y + 1)) (lv' := [(4, .int (nI (Y + 1))), (0, .ref h0), (1, .int (bm P)), (2, .int (nI i)), (3, .int (nI X))]) hx hb dX0_raiseTree_58 hl (k := 4) rfl (nI_1 Y) (by decide) rfl (fun ls hl => ?_)
          refine lv_goto (tgt := 24) hx hb dX0_raiseTree_61 (by decide) ?_
          exact ih (Y + 1) lvc (by omega) hY (by omega) (rl_no hw hXY hL c2) H locs hP hS ls (lv_sub hl [1, 2, 3, 4, 0] rfl)
        · obtain ⟨e1, t1⟩ := b01_n c2
          obtain ⟨e2, t2, hL⟩ := rl_yes hw hc hXY pX hL e1 t1
          refine lv_aload_n hx hb dX0_raiseTree_50 rfl (lv_at hl 0 rfl) ?_
          refine lv_iload_n hx hb dX0_raiseTree_51 rfl (lv_at hl 3 rfl) ?_
          refine lv_iload hx hb dX0_raiseTree_52 (lv_at hl 4 rfl) ?_
          refine lv_iconst (v := b01 True) hx hb dX0_raiseTree_54 ((b01_t trivial).symm) ?_
          refine g_callv F (mX_lift l hD (t := True) hX hY (Nat.ne_of_lt hXY) (show i < 3 by omega) e1 e2) (cwV 3 F.1.2.2.2.2 (lw_V q97 q99 qs8 q17 q100) rfl rfl rfl (by decide +kernel) ⟨Nat.le_of_ble_eq_true rfl, Nat.le_of_ble_eq_true rfl⟩) hP hS (fun _ h => h) (ci := 0) rfl rfl rfl hl.1 rfl (by decide) dX0_raiseTree_55 ⟨Nat.zero_le _, Nat.zero_le _⟩ (fun u H locs hq hP hS _ => ?_)
          have hP : va_P D vwCl (PX h0 aL aZ aT aO cB cZ cS ec pt (set2 lvc X Y (i + 2)) (set2 tr X Y True)) H := hP
          rw [set2_id (eq_true t1) (eq_true t2)] at hP
          refine lv_iinc (v := nI (Y + 1)) (lv' := [(4, .int (nI (Y + 1))), (0, .ref h0), (1, .int (bm P)), (2, .int (nI i)), (3, .int (nI X))]) hx hb dX0_raiseTree_58 hl (k := 4) rfl (nI_1 Y) (by decide) rfl (fun ls hl => ?_)
          refine lv_goto (tgt := 24) hx hb dX0_raiseTree_61 (by decide) ?_
          exact ih (Y + 1) _ (by omega) hY (by omega) hL H locs hP hS ls (lv_sub hl [1, 2, 3, 4, 0] rfl)
  have xloop : ∀ n X lvc, X ≤ 12 → 12 < X + n → RL lv tr P i X 0 lvc → ∀ (H : Heap) (locs : List Loc), va_P D vwCl (PX h0 aL aZ aT aO cB cZ cS ec pt lvc tr) H → va_S A s.heap H locs → ∀ ls : Array Slot, lv_has ls 5 [(0, .ref h0), (1, .int (bm P)), (2, .int (nI i)), (3, .int (nI X))] → W p l e (headSpec (ws_ yX0_raiseTree cX0_raiseTree 5 none) (rmd 2)).room s m ([.ref h0, .int (bm P), .int (nI i)] : List Value).toArray below meth c H locs 0 0 (MQ below (cQv D A (fun (u : Nat → Nat → Nat) => raised lv tr P i u) (fun (u : Nat → Nat → Nat) => PX h0 aL aZ aT aO cB cZ cS ec pt u tr)) ([.ref h0, .int (bm P), .int (nI i)] : List Value).toArray s 0 0 A) (F0 m 2 ls []) := by
    intro n
    induction n with
    | zero => intro X lvc h1 h2; exact absurd h2 (by omega)
    | succ n ih =>
      intro X lvc hX hn hL H locs hP hS ls hl
      refine lv_iload_n hx hb dX0_raiseTree_2 rfl (lv_at hl 3 rfl) ?_
      refine lv_bipush (v := 12) hx hb dX0_raiseTree_3 (by decide +kernel) ?_
      refine lv_icmp_ge (tgt := 70) hx hb dX0_raiseTree_5 (by decide) (fun c1 => ?_) (fun c1 => ?_)
      · have e := le12 hX c1
        subst e
        exact r_v (lvc) F hr hlk hP hS (rl_end hw hL) dX0_raiseTree_70
      · have hX := lt12 hX c1
        refine lv_iload_n hx hb dX0_raiseTree_8 rfl (lv_at hl 1 rfl) ?_
        refine lv_iload_n hx hb dX0_raiseTree_9 rfl (lv_at hl 3 rfl) ?_
        refine lv_ishr hx hb dX0_raiseTree_10 ?_
        refine lv_iconst (v := 1) hx hb dX0_raiseTree_11 (by decide +kernel) ?_
        refine lv_iand hx hb dX0_raiseTree_12 ?_
        refine g_top (y := b01 (P X)) (bm_bit P hX) ?_
        refine lv_if_ne (tgt := 19) hx hb dX0_raiseTree_13 (by decide) (fun c2 => ?_) (fun c2 => ?_)
        · have c2 := b01_n c2
          refine lv_iload_n hx hb dX0_raiseTree_19 rfl (lv_at hl 3 rfl) ?_
          refine lv_iconst (v := 1) hx hb dX0_raiseTree_20 (by decide +kernel) ?_
          refine lv_iadd hx hb dX0_raiseTree_21 ?_
          refine g_top (y := nI (X + 1)) (nI_1 X) ?_
          refine lv_istore (lv' := [(4, .int (nI (X + 1))), (0, .ref h0), (1, .int (bm P)), (2, .int (nI i)), (3, .int (nI X))]) hx hb dX0_raiseTree_22 hl (by decide) rfl (fun ls hl => ?_)
          refine yloop X hX c2 (fun lvc hL H locs hP hS ls hl => ?_) 12 (X + 1) lvc (by omega) hX (by omega) (rl_in hw hL) H locs hP hS ls (lv_sub hl [1, 2, 3, 4, 0] rfl)
          refine lv_iinc (v := nI (X + 1)) (lv' := [(3, .int (nI (X + 1))), (0, .ref h0), (1, .int (bm P)), (2, .int (nI i))]) hx hb dX0_raiseTree_64 hl (k := 3) rfl (nI_1 X) (by decide) rfl (fun ls hl => ?_)
          refine lv_goto (tgt := 2) hx hb dX0_raiseTree_67 (by decide) ?_
          exact ih (X + 1) lvc hX (by omega) (rl_out hw hL) H locs hP hS ls (lv_sub hl [1, 2, 3, 0] rfl)
        · have c2 := b01_e c2
          refine lv_goto (tgt := 64) hx hb dX0_raiseTree_16 (by decide) ?_
          refine lv_iinc (v := nI (X + 1)) (lv' := [(3, .int (nI (X + 1))), (0, .ref h0), (1, .int (bm P)), (2, .int (nI i))]) hx hb dX0_raiseTree_64 hl (k := 3) rfl (nI_1 X) (by decide) rfl (fun ls hl => ?_)
          refine lv_goto (tgt := 2) hx hb dX0_raiseTree_67 (by decide) ?_
          exact ih (X + 1) lvc hX (by omega) (rl_skip hc c2 hL) H locs hP hS ls (lv_sub hl [1, 2, 3, 0] rfl)
  refine lv_iconst (v := nI 0) hx hb dX0_raiseTree_0 (by decide +kernel) ?_
  refine lv_istore_n (lv' := [(3, .int (nI 0)), (0, .ref h0), (1, .int (bm P)), (2, .int (nI i))]) hx hb dX0_raiseTree_1 rfl hl (by decide) rfl (fun ls hl => ?_)
  exact xloop 13 0 lv (by omega) (by omega) rl_0 s.heap [] hP hS ls (lv_sub hl [1, 2, 3, 0] rfl)

set_option maxHeartbeats 4000000 in
set_option maxRecDepth 100000 in
/-- searchOut(P, i) -/
theorem mX_searchOut (l : Launch) {D : va_G} {A : Nat → Prop} {h0 aL aZ aT aO : Nat} {cB cZ cS cI : ClassId} (hD : XD A h0 aL aZ aT aO cB cZ cS) {ec pt : Int32} {lv : Nat → Nat → Nat} {tr : Nat → Nat → Prop} {P : Nat → Prop} {i : Nat} (hw : WF lv tr) (hi : i ≤ 2) : Met l yX0_searchOut (ws_ yX0_searchOut cX0_searchOut 5 (some .boolean)) (rmd 2) (cPc D (XT cB cZ cS cI) (PX h0 aL aZ aT aO cB cZ cS ec pt lv tr) [.ref h0, .int (bm P), .int (nI i)]) (cQi D A (fun (r : Int32) (u : (Nat → Nat → Nat) × (Nat → Nat → Prop)) => ∃ R : Prop, r = b01 R ∧ srch lv tr P i R u.1 u.2) (fun (u : (Nat → Nat → Nat) × (Nat → Nat → Prop)) => PX h0 aL aZ aT aO cB cZ cS ec pt u.1 u.2)) 0 0 A := by
  refine g_head (own := RX0) (by decide) rfl (Nat.le_of_ble_eq_true rfl) ?_
  intro p e s m below meth c ls F hx hb hr hlk _ hP hS hl
  have hl : lv_has ls 5 [(0, .ref h0), (1, .int (bm P)), (2, .int (nI i))] := hl
  have yloop : ∀ X, X < 12 → P X → (∀ lvc, SL lv tr P i X 12 lvc → ∀ (H : Heap) (locs : List Loc), va_P D vwCl (PX h0 aL aZ aT aO cB cZ cS ec pt lvc tr) H → va_S A s.heap H locs → ∀ ls : Array Slot, lv_has ls 5 [(0, .ref h0), (1, .int (bm P)), (2, .int (nI i)), (3, .int (nI X))] → W p l e (headSpec (ws_ yX0_searchOut cX0_searchOut 5 (some .boolean)) (rmd 2)).room s m ([.ref h0, .int (bm P), .int (nI i)] : List Value).toArray below meth c H locs 0 0 (MQ below (cQi D A (fun (r : Int32) (u : (Nat → Nat → Nat) × (Nat → Nat → Prop)) => ∃ R : Prop, r = b01 R ∧ srch lv tr P i R u.1 u.2) (fun (u : (Nat → Nat → Nat) × (Nat → Nat → Prop)) => PX h0 aL aZ aT aO cB cZ cS ec pt u.1 u.2)) ([.ref h0, .int (bm P), .int (nI i)] : List Value).toArray s 0 0 A) (F0 m 92 ls [])) → ∀ n Y lvc, Y ≤ 12 → 12 < Y + n → SL lv tr P i X Y lvc → ∀ (H : Heap) (locs : List Loc), va_P D vwCl (PX h0 aL aZ aT aO cB cZ cS ec pt lvc tr) H → va_S A s.heap H locs → ∀ ls : Array Slot, lv_has ls 5 [(0, .ref h0), (1, .int (bm P)), (2, .int (nI i)), (3, .int (nI X)), (4, .int (nI Y))] → W p l e (headSpec (ws_ yX0_searchOut cX0_searchOut 5 (some .boolean)) (rmd 2)).room s m ([.ref h0, .int (bm P), .int (nI i)] : List Value).toArray below meth c H locs 0 0 (MQ below (cQi D A (fun (r : Int32) (u : (Nat → Nat → Nat) × (Nat → Nat → Prop)) => ∃ R : Prop, r = b01 R ∧ srch lv tr P i R u.1 u.2) (fun (u : (Nat → Nat → Nat) × (Nat → Nat → Prop)) => PX h0 aL aZ aT aO cB cZ cS ec pt u.1 u.2)) ([.ref h0, .int (bm P), .int (nI i)] : List Value).toArray s 0 0 A) (F0 m 22 ls []) := by
    intro X hX pX kont n
    induction n with
    | zero => intro Y lvc h2 h3; exact absurd h3 (by omega)
    | succ n ih =>
      intro Y lvc hY hn hL H locs hP hS ls hl
      refine lv_iload hx hb dX0_searchOut_22 (lv_at hl 4 rfl) ?_
      refine lv_bipush (v := 12) hx hb dX0_searchOut_24 (by decide +kernel) ?_
      refine lv_icmp_ge (tgt := 92) hx hb dX0_searchOut_26 (by decide) (fun c1 => ?_) (fun c1 => ?_)
      · have e := le12 hY c1
        subst e
        exact kont lvc hL H locs hP hS ls (lv_sub hl [0, 1, 2, 3] rfl)
      · have hY := lt12 hY c1
        refine lv_aload_n hx hb dX0_searchOut_29 rfl (lv_at hl 0 rfl) ?_
        refine x_get5 F hP dX0_searchOut_30 ?_
        refine lv_bipush (v := 12) hx hb dX0_searchOut_33 (by decide +kernel) ?_
        refine lv_iload_n hx hb dX0_searchOut_35 rfl (lv_at hl 2 rfl) ?_
        refine lv_imul hx hb dX0_searchOut_36 ?_
        refine lv_iload_n hx hb dX0_searchOut_37 rfl (lv_at hl 3 rfl) ?_
        refine lv_iadd hx hb dX0_searchOut_38 ?_
        refine x_ldO (v := bm (fun y => lvc X y = i + 1 ∧ ¬ tr X y)) F hP (ix12 i X) (by omega) (fO_at lvc tr hX) dX0_searchOut_39 ?_
        refine lv_iload hx hb dX0_searchOut_40 (lv_at hl 4 rfl) ?_
        refine lv_ishr hx hb dX0_searchOut_42 ?_
        refine lv_iconst (v := 1) hx hb dX0_searchOut_43 (by decide +kernel) ?_
        refine lv_iand hx hb dX0_searchOut_44 ?_
        refine g_top (y := b01 (lvc X Y = i + 1 ∧ ¬ tr X Y)) (bm_bit (fun y => lvc X y = i + 1 ∧ ¬ tr X y) hY) ?_
        refine lv_if_ne (tgt := 51) hx hb dX0_searchOut_45 (by decide) (fun c2 => ?_) (fun c2 => ?_)
        · obtain ⟨e1, t1⟩ := b01_n c2
          have e0 := sl_at hL e1
          have e2 : lvc Y X = i + 1 := by rw [hL.1]; exact e1
          have hne : X ≠ Y := WF_ne hw (x := X) (y := Y) (by omega)
          have t2 : ¬ tr Y X := fun q => t1 (hw.2.2.2 Y X (by rw [hw.1]; omega) q)
          refine lv_iload_n hx hb dX0_searchOut_51 rfl (lv_at hl 1 rfl) ?_
          refine lv_iload hx hb dX0_searchOut_52 (lv_at hl 4 rfl) ?_
          refine lv_ishr hx hb dX0_searchOut_54 ?_
          refine lv_iconst (v := 1) hx hb dX0_searchOut_55 (by decide +kernel) ?_
          refine lv_iand hx hb dX0_searchOut_56 ?_
          refine g_top (y := b01 (P Y)) (bm_bit P hY) ?_
          refine lv_if_ne (tgt := 78) hx hb dX0_searchOut_57 (by decide) (fun c3 => ?_) (fun c3 => ?_)
          · have c3 := b01_n c3
            refine lv_aload_n hx hb dX0_searchOut_78 rfl (lv_at hl 0 rfl) ?_
            refine lv_iload_n hx hb dX0_searchOut_79 rfl (lv_at hl 3 rfl) ?_
            refine lv_iload hx hb dX0_searchOut_80 (lv_at hl 4 rfl) ?_
            refine lv_iconst (v := b01 False) hx hb dX0_searchOut_82 ((b01_f (fun q => q)).symm) ?_
            refine g_callv F (mX_lift l hD (t := False) hX hY hne (show i < 3 by omega) e1 e2) (cwV 3 F.1.2.2.2.2 (lw_V q97 q99 qs8 q17 q100) rfl rfl rfl (by decide +kernel) ⟨Nat.le_of_ble_eq_true rfl, Nat.le_of_ble_eq_true rfl⟩) hP hS (fun _ h => h) (ci := 0) rfl rfl rfl hl.1 rfl (by decide) dX0_searchOut_83 ⟨Nat.zero_le _, Nat.zero_le _⟩ (fun u H locs hq hP hS _ => ?_)
            have hP : va_P D vwCl (PX h0 aL aZ aT aO cB cZ cS ec pt (set2 lvc X Y (i + 2)) (set2 tr X Y False)) H := hP
            rw [set2_id (eq_false t1) (eq_false t2)] at hP
            refine lv_iinc (v := nI (Y + 1)) (lv' := [(4, .int (nI (Y + 1))), (0, .ref h0), (1, .int (bm P)), (2, .int (nI i)), (3, .int (nI X))]) hx hb dX0_searchOut_86 hl (k := 4) rfl (nI_1 Y) (by decide) rfl (fun ls hl => ?_)
            refine lv_goto (tgt := 22) hx hb dX0_searchOut_89 (by decide) ?_
            exact ih (Y + 1) _ hY (by omega) (sl_yes hw pX c3 hL e1 t1) H locs hP hS ls (lv_sub hl [1, 2, 3, 4, 0] rfl)
          · have c3 := b01_e c3
            refine lv_aload_n hx hb dX0_searchOut_60 rfl (lv_at hl 0 rfl) ?_
            refine lv_iload_n hx hb dX0_searchOut_61 rfl (lv_at hl 3 rfl) ?_
            refine lv_iload hx hb dX0_searchOut_62 (lv_at hl 4 rfl) ?_
            refine g_callv F (mX_unplace l hD hX hY hne (show i < 4 by omega) e1 e2) (cwV 2 F.1.2.2.2.2 (lw_V q81 q83 qs4 q17 q84) rfl rfl rfl (by decide +kernel) ⟨Nat.le_of_ble_eq_true rfl, Nat.le_of_ble_eq_true rfl⟩) hP hS (fun _ h => h) (ci := 0) rfl rfl rfl hl.1 rfl (by decide) dX0_searchOut_64 ⟨Nat.zero_le _, Nat.zero_le _⟩ (fun u H locs hq hP hS _ => ?_)
            have hP : va_P D vwCl (PX h0 aL aZ aT aO cB cZ cS ec pt (set2 lvc X Y 0) tr) H := hP
            refine lv_aload_n hx hb dX0_searchOut_67 rfl (lv_at hl 0 rfl) ?_
            refine lv_iload_n hx hb dX0_searchOut_68 rfl (lv_at hl 3 rfl) ?_
            refine lv_iload hx hb dX0_searchOut_69 (lv_at hl 4 rfl) ?_
            refine lv_iload_n hx hb dX0_searchOut_71 rfl (lv_at hl 2 rfl) ?_
            refine lv_iconst (v := b01 True) hx hb dX0_searchOut_72 ((b01_t trivial).symm) ?_
            refine g_callv F (mX_place l hD (t := True) hX hY hne (show i < 4 by omega) (set2_ab lvc X Y 0) (set2_ba lvc X Y 0)) (cwV 4 F.1.2.2.2.2 (lw_V q73 q75 qs3 q17 q76) rfl rfl rfl (by decide +kernel) ⟨Nat.le_of_ble_eq_true rfl, Nat.le_of_ble_eq_true rfl⟩) hP hS (fun _ h => h) (ci := 0) rfl rfl rfl hl.1 rfl (by decide) dX0_searchOut_73 ⟨Nat.zero_le _, Nat.zero_le _⟩ (fun u H locs hq hP hS _ => ?_)
            have hP : va_P D vwCl (PX h0 aL aZ aT aO cB cZ cS ec pt (set2 (set2 lvc X Y 0) X Y (i + 1)) (set2 tr X Y True)) H := hP
            rw [set2_2, set2_id e1 e2] at hP
            refine lv_iconst (v := 1) hx hb dX0_searchOut_76 (by decide +kernel) ?_
            exact r_z (lvc, set2 tr X Y True) F hr hlk rfl hP hS (⟨True, (b01_t trivial).symm, sl_found pX c3 hL e1 t1⟩) dX0_searchOut_77
        · have c2 := b01_e c2
          refine lv_goto (tgt := 86) hx hb dX0_searchOut_48 (by decide) ?_
          refine lv_iinc (v := nI (Y + 1)) (lv' := [(4, .int (nI (Y + 1))), (0, .ref h0), (1, .int (bm P)), (2, .int (nI i)), (3, .int (nI X))]) hx hb dX0_searchOut_86 hl (k := 4) rfl (nI_1 Y) (by decide) rfl (fun ls hl => ?_)
          refine lv_goto (tgt := 22) hx hb dX0_searchOut_89 (by decide) ?_
          exact ih (Y + 1) lvc hY (by omega) (sl_no hL c2) H locs hP hS ls (lv_sub hl [1, 2, 3, 4, 0] rfl)
  have xloop : ∀ n X lvc, X ≤ 12 → 12 < X + n → SL lv tr P i X 0 lvc → ∀ (H : Heap) (locs : List Loc), va_P D vwCl (PX h0 aL aZ aT aO cB cZ cS ec pt lvc tr) H → va_S A s.heap H locs → ∀ ls : Array Slot, lv_has ls 5 [(0, .ref h0), (1, .int (bm P)), (2, .int (nI i)), (3, .int (nI X))] → W p l e (headSpec (ws_ yX0_searchOut cX0_searchOut 5 (some .boolean)) (rmd 2)).room s m ([.ref h0, .int (bm P), .int (nI i)] : List Value).toArray below meth c H locs 0 0 (MQ below (cQi D A (fun (r : Int32) (u : (Nat → Nat → Nat) × (Nat → Nat → Prop)) => ∃ R : Prop, r = b01 R ∧ srch lv tr P i R u.1 u.2) (fun (u : (Nat → Nat → Nat) × (Nat → Nat → Prop)) => PX h0 aL aZ aT aO cB cZ cS ec pt u.1 u.2)) ([.ref h0, .int (bm P), .int (nI i)] : List Value).toArray s 0 0 A) (F0 m 2 ls []) := by
    intro n
    induction n with
    | zero => intro X lvc h1 h2; exact absurd h2 (by omega)
    | succ n ih =>
      intro X lvc hX hn hL H locs hP hS ls hl
      refine lv_iload_n hx hb dX0_searchOut_2 rfl (lv_at hl 3 rfl) ?_
      refine lv_bipush (v := 12) hx hb dX0_searchOut_3 (by decide +kernel) ?_
      refine lv_icmp_ge (tgt := 98) hx hb dX0_searchOut_5 (by decide) (fun c1 => ?_) (fun c1 => ?_)
      · have e := le12 hX c1
        subst e
        refine lv_iconst (v := 0) hx hb dX0_searchOut_98 (by decide +kernel) ?_
        exact r_z (lvc, tr) F hr hlk rfl hP hS (⟨False, (b01_f (fun q => q)).symm, sl_end hw hL⟩) dX0_searchOut_99
      · have hX := lt12 hX c1
        refine lv_iload_n hx hb dX0_searchOut_8 rfl (lv_at hl 1 rfl) ?_
        refine lv_iload_n hx hb dX0_searchOut_9 rfl (lv_at hl 3 rfl) ?_
        refine lv_ishr hx hb dX0_searchOut_10 ?_
        refine lv_iconst (v := 1) hx hb dX0_searchOut_11 (by decide +kernel) ?_
        refine lv_iand hx hb dX0_searchOut_12 ?_
        refine g_top (y := b01 (P X)) (bm_bit P hX) ?_
        refine lv_if_ne (tgt := 19) hx hb dX0_searchOut_13 (by decide) (fun c2 => ?_) (fun c2 => ?_)
        · have c2 := b01_n c2
          refine lv_iconst (v := nI 0) hx hb dX0_searchOut_19 (by decide +kernel) ?_
          refine lv_istore (lv' := [(4, .int (nI 0)), (0, .ref h0), (1, .int (bm P)), (2, .int (nI i)), (3, .int (nI X))]) hx hb dX0_searchOut_20 hl (by decide) rfl (fun ls hl => ?_)
          refine yloop X hX c2 (fun lvc hL H locs hP hS ls hl => ?_) 13 0 lvc (by omega) (by omega) hL H locs hP hS ls (lv_sub hl [1, 2, 3, 4, 0] rfl)
          refine lv_iinc (v := nI (X + 1)) (lv' := [(3, .int (nI (X + 1))), (0, .ref h0), (1, .int (bm P)), (2, .int (nI i))]) hx hb dX0_searchOut_92 hl (k := 3) rfl (nI_1 X) (by decide) rfl (fun ls hl => ?_)
          refine lv_goto (tgt := 2) hx hb dX0_searchOut_95 (by decide) ?_
          exact ih (X + 1) lvc hX (by omega) (sl_out hw hL) H locs hP hS ls (lv_sub hl [1, 2, 3, 0] rfl)
        · have c2 := b01_e c2
          refine lv_goto (tgt := 92) hx hb dX0_searchOut_16 (by decide) ?_
          refine lv_iinc (v := nI (X + 1)) (lv' := [(3, .int (nI (X + 1))), (0, .ref h0), (1, .int (bm P)), (2, .int (nI i))]) hx hb dX0_searchOut_92 hl (k := 3) rfl (nI_1 X) (by decide) rfl (fun ls hl => ?_)
          refine lv_goto (tgt := 2) hx hb dX0_searchOut_95 (by decide) ?_
          exact ih (X + 1) lvc hX (by omega) (sl_skip c2 hL) H locs hP hS ls (lv_sub hl [1, 2, 3, 0] rfl)
  refine lv_iconst (v := nI 0) hx hb dX0_searchOut_0 (by decide +kernel) ?_
  refine lv_istore_n (lv' := [(3, .int (nI 0)), (0, .ref h0), (1, .int (bm P)), (2, .int (nI i))]) hx hb dX0_searchOut_1 rfl hl (by decide) rfl (fun ls hl => ?_)
  exact xloop 13 0 lv (by omega) (by omega) (sl_0 hw) s.heap [] hP hS ls (lv_sub hl [1, 2, 3, 0] rfl)

set_option maxHeartbeats 4000000 in
set_option maxRecDepth 100000 in
/-- replace(a, b, l0) -/
theorem mX_replace (l : Launch) {D : va_G} {A : Nat → Prop} {h0 aL aZ aT aO : Nat} {cB cZ cS cI : ClassId} (hD : XD A h0 aL aZ aT aO cB cZ cS) {ec pt : Int32} {lv : Nat → Nat → Nat} {tr : Nat → Nat → Prop} {a b l0 : Nat} (h : RI lv tr a b (l0 + 1)) : Met l yX0_replace (ws_ yX0_replace cX0_replace 10 (some .boolean)) (rmd 3) (cPc D (XT cB cZ cS cI) (PX h0 aL aZ aT aO cB cZ cS ec pt lv tr) [.ref h0, .int (nI a), .int (nI b), .int (nI l0)]) (cQi D A (fun (r : Int32) (u : (Nat → Nat → Nat) × (Nat → Nat → Prop)) => ∃ R : Prop, r = b01 R ∧ HI u.1 u.2 ∧ (∀ x y, u.1 x y ≠ 0 ↔ lv x y ≠ 0) ∧ (R ↔ cn (EE lv) a b)) (fun (u : (Nat → Nat → Nat) × (Nat → Nat → Prop)) => PX h0 aL aZ aT aO cB cZ cS ec pt u.1 u.2)) 0 0 A := by
  refine g_head (own := RX0) (by decide) rfl (Nat.le_of_ble_eq_true rfl) ?_
  intro p e s m below meth c ls F hx hb hr hlk _ hP hS hl
  have hl : lv_has ls 10 [(0, .ref h0), (1, .int (nI a)), (2, .int (nI b)), (3, .int (nI l0))] := hl
  have loop : ∀ n lvc trc, RI lvc trc a b n → (∀ x y, lvc x y ≠ 0 ↔ lv x y ≠ 0) → ∀ (H : Heap) (locs : List Loc), va_P D vwCl (PX h0 aL aZ aT aO cB cZ cS ec pt lvc trc) H → va_S A s.heap H locs → ∀ ls : Array Slot, lv_has ls 10 [(0, .ref h0), (1, .int (nI a)), (2, .int (nI b)), (4, .int (nI n - 1))] → W p l e (headSpec (ws_ yX0_replace cX0_replace 10 (some .boolean)) (rmd 3)).room s m ([.ref h0, .int (nI a), .int (nI b), .int (nI l0)] : List Value).toArray below meth c H locs 0 0 (MQ below (cQi D A (fun (r : Int32) (u : (Nat → Nat → Nat) × (Nat → Nat → Prop)) => ∃ R : Prop, r = b01 R ∧ HI u.1 u.2 ∧ (∀ x y, u.1 x y ≠ 0 ↔ lv x y ≠ 0) ∧ (R ↔ cn (EE lv) a b)) (fun (u : (Nat → Nat → Nat) × (Nat → Nat → Prop)) => PX h0 aL aZ aT aO cB cZ cS ec pt u.1 u.2)) ([.ref h0, .int (nI a), .int (nI b), .int (nI l0)] : List Value).toArray s 0 0 A) (F0 m 3 ls []) := by
    intro n
    induction n with
    | zero =>
      intro lvc trc hR hE H locs hP hS ls hl
      refine lv_iload hx hb dX0_replace_3 (lv_at hl 3 rfl) ?_
      refine lv_if_lt (tgt := 85) hx hb dX0_replace_5 (by decide) (fun c1 => ?_) (fun c1 => ?_)
      · have hE2 : EE lvc = EE lv := by funext x y; exact propext (hE x y)
        have q := ri_end hR
        rw [hE2] at q
        refine lv_iconst (v := 0) hx hb dX0_replace_85 (by decide +kernel) ?_
        exact r_z (lvc, trc) F hr hlk rfl hP hS (⟨False, (b01_f (fun q => q)).symm, q.1, hE, fun z => z.elim, fun z => q.2 z⟩) dX0_replace_86
      · exact absurd (by decide +kernel) c1
    | succ i ih =>
      intro lvc trc hR hE H locs hP hS ls hl
      have hw := hR.1
      have hle : ∀ x y, lvc x y ≤ 4 := fun x y => Nat.le_succ_of_le (RI_le hR x y)
      have ha := hR.2.1.1
      have hb1 := hR.2.1.2.1
      have hi := hR.2.1.2.2
      rw [nI_pred] at hl
      refine lv_iload hx hb dX0_replace_3 (lv_at hl 3 rfl) ?_
      refine lv_if_lt (tgt := 85) hx hb dX0_replace_5 (by decide) (fun c1 => ?_) (fun c1 => ?_)
      · exact absurd c1 (nI_pos (by omega))
      · have rest : ∀ z, ((z = a ∧ ctP (cn (FI lvc trc i) a) 12 ≤ ctP (cn (FI lvc trc i) b) 12) ∨ (z = b ∧ ctP (cn (FI lvc trc i) b) 12 ≤ ctP (cn (FI lvc trc i) a) 12)) → ∀ (H : Heap) (locs : List Loc), va_P D vwCl (PX h0 aL aZ aT aO cB cZ cS ec pt lvc trc) H → va_S A s.heap H locs → ∀ ls : Array Slot, lv_has ls 10 [(0, .ref h0), (1, .int (nI a)), (2, .int (nI b)), (4, .int (nI i)), (9, .int (bm (cn (FI lvc trc i) z)))] → W p l e (headSpec (ws_ yX0_replace cX0_replace 10 (some .boolean)) (rmd 3)).room s m ([.ref h0, .int (nI a), .int (nI b), .int (nI l0)] : List Value).toArray below meth c H locs 0 0 (MQ below (cQi D A (fun (r : Int32) (u : (Nat → Nat → Nat) × (Nat → Nat → Prop)) => ∃ R : Prop, r = b01 R ∧ HI u.1 u.2 ∧ (∀ x y, u.1 x y ≠ 0 ↔ lv x y ≠ 0) ∧ (R ↔ cn (EE lv) a b)) (fun (u : (Nat → Nat → Nat) × (Nat → Nat → Prop)) => PX h0 aL aZ aT aO cB cZ cS ec pt u.1 u.2)) ([.ref h0, .int (nI a), .int (nI b), .int (nI l0)] : List Value).toArray s 0 0 A) (F0 m 58 ls []) := by
          intro z hz H locs hP hS ls hl
          have hc : ∀ x y, cn (FI lvc trc i) z x → lvc x y = i + 1 → trc x y → cn (FI lvc trc i) z y := fun x y q e t => cn_st q ⟨by omega, t⟩
          refine lv_aload_n hx hb dX0_replace_58 rfl (lv_at hl 0 rfl) ?_
          refine lv_iload hx hb dX0_replace_59 (lv_at hl 4 rfl) ?_
          refine lv_iload hx hb dX0_replace_61 (lv_at hl 3 rfl) ?_
          refine g_callv F (mX_raiseTree l hD hw (show i ≤ 2 by omega) hc) (cwV 2 F.1.2.2.2.2 (lw_V q93 q95 qs7 q17 q96) rfl rfl rfl (by decide +kernel) ⟨Nat.le_of_ble_eq_true rfl, Nat.le_of_ble_eq_true rfl⟩) hP hS (fun _ h => h) (ci := 0) rfl rfl rfl hl.1 rfl (by decide) dX0_replace_63 ⟨Nat.zero_le _, Nat.zero_le _⟩ (fun lv1 H locs h1 hP hS _ => ?_)
          have hP : va_P D vwCl (PX h0 aL aZ aT aO cB cZ cS ec pt lv1 trc) H := hP
          refine lv_aload_n hx hb dX0_replace_66 rfl (lv_at hl 0 rfl) ?_
          refine lv_iload hx hb dX0_replace_67 (lv_at hl 4 rfl) ?_
          refine lv_iload hx hb dX0_replace_69 (lv_at hl 3 rfl) ?_
          refine g_calli F (mX_searchOut l hD (raised_wf hw hc h1) (show i ≤ 2 by omega)) (cwV 2 F.1.2.2.2.2 (lw_V q101 q103 qs9 q17 q104) rfl rfl rfl (by decide +kernel) ⟨Nat.le_of_ble_eq_true rfl, Nat.le_of_ble_eq_true rfl⟩) hP hS (fun _ h => h) (ci := 0) rfl rfl rfl hl.1 rfl (by decide) dX0_replace_71 ⟨Nat.zero_le _, Nat.zero_le _⟩ (fun r2 u2 H locs h2 hP hS _ => ?_)
          have hP : va_P D vwCl (PX h0 aL aZ aT aO cB cZ cS ec pt (u2.1) (u2.2)) H := hP
          obtain ⟨R, e2, h2⟩ := h2
          obtain ⟨g1, g2, g3⟩ := ri_step hR hz h1 h2
          have hE3 : ∀ x y, u2.1 x y ≠ 0 ↔ lv x y ≠ 0 := fun x y => (g1 x y).trans (hE x y)
          refine lv_if_eq (tgt := 79) hx hb dX0_replace_74 (by decide) (fun c2 => ?_) (fun c2 => ?_)
          · have c2 := b01_e (e2 ▸ c2)
            refine lv_iinc (v := nI i - 1) (lv' := [(4, .int (nI i - 1)), (0, .ref h0), (1, .int (nI a)), (2, .int (nI b)), (9, .int (bm (cn (FI lvc trc i) z)))]) hx hb dX0_replace_79 hl (k := 3) rfl (im1 _) (by decide) rfl (fun ls hl => ?_)
            refine lv_goto (tgt := 3) hx hb dX0_replace_82 (by decide) ?_
            exact ih u2.1 u2.2 (g2 c2).2 hE3 H locs hP hS ls (lv_sub hl [1, 2, 3, 0] rfl)
          · have c2 := b01_n (e2 ▸ c2)
            have q := g3 c2
            have hE2 : EE lvc = EE lv := by funext x y; exact propext (hE x y)
            rw [hE2] at q
            refine lv_iconst (v := 1) hx hb dX0_replace_77 (by decide +kernel) ?_
            exact r_z (u2) F hr hlk rfl hP hS (⟨True, (b01_t trivial).symm, q.1, hE3, fun _ => q.2, fun _ => trivial⟩) dX0_replace_78
        refine lv_aload_n hx hb dX0_replace_8 rfl (lv_at hl 0 rfl) ?_
        refine lv_iload_n hx hb dX0_replace_9 rfl (lv_at hl 1 rfl) ?_
        refine lv_iload hx hb dX0_replace_10 (lv_at hl 3 rfl) ?_
        refine g_calli F (mX_pieceOf l hD hw hle ha (show i ≤ 3 by omega)) (cwV 2 F.1.2.2.2.2 (lw_V q69 q71 qs2 q17 q72) rfl rfl rfl (by decide +kernel) ⟨Nat.le_of_ble_eq_true rfl, Nat.le_of_ble_eq_true rfl⟩) hP hS (fun _ h => h) (ci := 0) rfl rfl rfl hl.1 rfl (by decide) dX0_replace_12 ⟨Nat.zero_le _, Nat.zero_le _⟩ (fun r1 u H locs h1 hP hS _ => ?_)
        have hP : va_P D vwCl (PX h0 aL aZ aT aO cB cZ cS ec pt lvc trc) H := hP
        subst h1
        refine lv_istore (lv' := [(5, .int (bm (cn (FI lvc trc i) a))), (0, .ref h0), (1, .int (nI a)), (2, .int (nI b)), (4, .int (nI i))]) hx hb dX0_replace_15 hl (by decide) rfl (fun ls hl => ?_)
        refine lv_aload_n hx hb dX0_replace_17 rfl (lv_at hl 1 rfl) ?_
        refine lv_iload_n hx hb dX0_replace_18 rfl (lv_at hl 3 rfl) ?_
        refine lv_iload hx hb dX0_replace_19 (lv_at hl 4 rfl) ?_
        refine g_calli F (mX_pieceOf l hD hw hle hb1 (show i ≤ 3 by omega)) (cwV 2 F.1.2.2.2.2 (lw_V q69 q71 qs2 q17 q72) rfl rfl rfl (by decide +kernel) ⟨Nat.le_of_ble_eq_true rfl, Nat.le_of_ble_eq_true rfl⟩) hP hS (fun _ h => h) (ci := 0) rfl rfl rfl hl.1 rfl (by decide) dX0_replace_21 ⟨Nat.zero_le _, Nat.zero_le _⟩ (fun r1 u H locs h1 hP hS _ => ?_)
        have hP : va_P D vwCl (PX h0 aL aZ aT aO cB cZ cS ec pt lvc trc) H := hP
        subst h1
        refine lv_istore (lv' := [(6, .int (bm (cn (FI lvc trc i) b))), (5, .int (bm (cn (FI lvc trc i) a))), (0, .ref h0), (1, .int (nI a)), (2, .int (nI b)), (4, .int (nI i))]) hx hb dX0_replace_24 hl (by decide) rfl (fun ls hl => ?_)
        refine lv_aload_n hx hb dX0_replace_26 rfl (lv_at hl 2 rfl) ?_
        refine lv_iload hx hb dX0_replace_27 (lv_at hl 1 rfl) ?_
        refine g_calli F (mX_bitsIn l hD (cn (FI lvc trc i) a)) (cwV 1 F.1.2.2.2.2 (lw_V q89 q91 qs6 q17 q92) rfl rfl rfl (by decide +kernel) ⟨Nat.le_of_ble_eq_true rfl, Nat.le_of_ble_eq_true rfl⟩) hP hS (fun _ h => h) (ci := 0) rfl rfl rfl hl.1 rfl (by decide) dX0_replace_29 ⟨Nat.zero_le _, Nat.zero_le _⟩ (fun r1 u H locs h1 hP hS _ => ?_)
        have hP : va_P D vwCl (PX h0 aL aZ aT aO cB cZ cS ec pt lvc trc) H := hP
        subst h1
        refine lv_istore (lv' := [(7, .int (nI (ctP (cn (FI lvc trc i) a) 12))), (6, .int (bm (cn (FI lvc trc i) b))), (5, .int (bm (cn (FI lvc trc i) a))), (0, .ref h0), (1, .int (nI a)), (2, .int (nI b)), (4, .int (nI i))]) hx hb dX0_replace_32 hl (by decide) rfl (fun ls hl => ?_)
        refine lv_aload_n hx hb dX0_replace_34 rfl (lv_at hl 3 rfl) ?_
        refine lv_iload hx hb dX0_replace_35 (lv_at hl 1 rfl) ?_
        refine g_calli F (mX_bitsIn l hD (cn (FI lvc trc i) b)) (cwV 1 F.1.2.2.2.2 (lw_V q89 q91 qs6 q17 q92) rfl rfl rfl (by decide +kernel) ⟨Nat.le_of_ble_eq_true rfl, Nat.le_of_ble_eq_true rfl⟩) hP hS (fun _ h => h) (ci := 0) rfl rfl rfl hl.1 rfl (by decide) dX0_replace_37 ⟨Nat.zero_le _, Nat.zero_le _⟩ (fun r1 u H locs h1 hP hS _ => ?_)
        have hP : va_P D vwCl (PX h0 aL aZ aT aO cB cZ cS ec pt lvc trc) H := hP
        subst h1
        have b1 := ctP_le (cn (FI lvc trc i) a) 12
        have b2 := ctP_le (cn (FI lvc trc i) b) 12
        refine lv_istore (lv' := [(8, .int (nI (ctP (cn (FI lvc trc i) b) 12))), (7, .int (nI (ctP (cn (FI lvc trc i) a) 12))), (6, .int (bm (cn (FI lvc trc i) b))), (5, .int (bm (cn (FI lvc trc i) a))), (0, .ref h0), (1, .int (nI a)), (2, .int (nI b)), (4, .int (nI i))]) hx hb dX0_replace_40 hl (by decide) rfl (fun ls hl => ?_)
        refine lv_iload hx hb dX0_replace_42 (lv_at hl 1 rfl) ?_
        refine lv_iload hx hb dX0_replace_44 (lv_at hl 0 rfl) ?_
        refine lv_icmp_gt (tgt := 54) hx hb dX0_replace_46 (by decide) (fun c2 => ?_) (fun c2 => ?_)
        · have c2 := (nI_ltI (by omega) (by omega)).mp c2
          refine lv_iload hx hb dX0_replace_54 (lv_at hl 2 rfl) ?_
          refine lv_istore (lv' := [(9, .int (bm (cn (FI lvc trc i) b))), (8, .int (nI (ctP (cn (FI lvc trc i) b) 12))), (7, .int (nI (ctP (cn (FI lvc trc i) a) 12))), (6, .int (bm (cn (FI lvc trc i) b))), (5, .int (bm (cn (FI lvc trc i) a))), (0, .ref h0), (1, .int (nI a)), (2, .int (nI b)), (4, .int (nI i))]) hx hb dX0_replace_56 hl (by decide) rfl (fun ls hl => ?_)
          exact rest b (Or.inr ⟨rfl, by omega⟩) H locs hP hS ls (lv_sub hl [5, 6, 7, 8, 0] rfl)
        · have c2 := fun q => c2 ((nI_ltI (by omega) (by omega)).mpr q)
          refine lv_iload hx hb dX0_replace_49 (lv_at hl 3 rfl) ?_
          refine lv_goto (tgt := 56) hx hb dX0_replace_51 (by decide) ?_
          refine lv_istore (lv' := [(9, .int (bm (cn (FI lvc trc i) a))), (8, .int (nI (ctP (cn (FI lvc trc i) b) 12))), (7, .int (nI (ctP (cn (FI lvc trc i) a) 12))), (6, .int (bm (cn (FI lvc trc i) b))), (5, .int (bm (cn (FI lvc trc i) a))), (0, .ref h0), (1, .int (nI a)), (2, .int (nI b)), (4, .int (nI i))]) hx hb dX0_replace_56 hl (by decide) rfl (fun ls hl => ?_)
          exact rest a (Or.inl ⟨rfl, Nat.le_of_not_lt c2⟩) H locs hP hS ls (lv_sub hl [5, 6, 7, 8, 0] rfl)
  refine lv_iload_n hx hb dX0_replace_0 rfl (lv_at hl 3 rfl) ?_
  refine g_top (y := nI (l0 + 1) - 1) ((nI_pred l0).symm) ?_
  refine lv_istore (lv' := [(4, .int (nI (l0 + 1) - 1)), (0, .ref h0), (1, .int (nI a)), (2, .int (nI b)), (3, .int (nI l0))]) hx hb dX0_replace_1 hl (by decide) rfl (fun ls hl => ?_)
  exact loop (l0 + 1) lv tr h (fun _ _ => Iff.rfl) s.heap [] hP hS ls (lv_sub hl [1, 2, 3, 0] rfl)
end
section
/-! LevelForests: the calls that write -/
abbrev XS : Type := Int32 × Int32 × (Nat → Nat → Nat) × (Nat → Nat → Prop)
def ledx (lv : Nat → Nat → Nat) (tr : Nat → Nat → Prop) (P : Nat → Prop) (x j : Nat) : Prop := ∃ i y, i < j ∧ y < 12 ∧ (lv x y = i + 1 ∧ ¬ tr x y) ∧ ¬ P y
def ledX (lv : Nat → Nat → Nat) (tr : Nat → Nat → Prop) (P : Nat → Prop) (X : Nat) : Prop := ∃ x, x < X ∧ P x ∧ ledx lv tr P x 4
theorem led_s {lv : Nat → Nat → Nat} {tr : Nat → Nat → Prop} {P : Nat → Prop} {x j : Nat} : ledx lv tr P x (j + 1) ↔ ledx lv tr P x j ∨ ∃ y, y < 12 ∧ (lv x y = j + 1 ∧ ¬ tr x y) ∧ ¬ P y := by
  constructor
  · rintro ⟨i, y, h1, h2, h3⟩
    rcases Nat.lt_or_ge i j with q | q
    · exact Or.inl ⟨i, y, q, h2, h3⟩
    · have e : i = j := by omega
      subst e
      exact Or.inr ⟨y, h2, h3⟩
  · rintro (⟨i, y, h1, h2, h3⟩ | ⟨y, h2, h3⟩)
    · exact ⟨i, y, by omega, h2, h3⟩
    · exact ⟨j, y, by omega, h2, h3⟩
theorem ledX_t {lv : Nat → Nat → Nat} {tr : Nat → Nat → Prop} {P : Nat → Prop} {X : Nat} (h : P X) : ledX lv tr P (X + 1) ↔ ledX lv tr P X ∨ ledx lv tr P X 4 := by
  constructor
  · rintro ⟨x, h1, h2, h3⟩
    rcases Nat.lt_or_ge x X with q | q
    · exact Or.inl ⟨x, q, h2, h3⟩
    · have e : x = X := by omega
      subst e
      exact Or.inr h3
  · rintro (⟨x, h1, h2, h3⟩ | h3)
    · exact ⟨x, by omega, h2, h3⟩
    · exact ⟨X, by omega, h, h3⟩
theorem ledX_f {lv : Nat → Nat → Nat} {tr : Nat → Nat → Prop} {P : Nat → Prop} {X : Nat} (h : ¬ P X) : ledX lv tr P (X + 1) ↔ ledX lv tr P X := by
  constructor
  · rintro ⟨x, h1, h2, h3⟩
    rcases Nat.lt_or_ge x X with q | q
    · exact ⟨x, q, h2, h3⟩
    · have e : x = X := by omega
      subst e
      exact absurd h2 h
  · rintro ⟨x, h1, h2, h3⟩
    exact ⟨x, by omega, h2, h3⟩
theorem led_all {lv : Nat → Nat → Nat} {tr : Nat → Nat → Prop} {P : Nat → Prop} (hw : WF lv tr) (hle : ∀ x y, lv x y ≤ 4) : ledX lv tr P 12 ↔ ∃ x y, P x ∧ lv x y ≠ 0 ∧ ¬ tr x y ∧ ¬ P y := by
  constructor
  · rintro ⟨x, h1, h2, i, y, h3, h4, h5, h6⟩
    exact ⟨x, y, h2, by omega, h5.2, h6⟩
  · rintro ⟨x, y, h1, h2, h3, h4⟩
    have := hle x y
    exact ⟨x, hw.2.1 x y h2, h1, lv x y - 1, y, by omega, WF_y hw h2, ⟨by omega, h3⟩, h4⟩

set_option maxHeartbeats 4000000 in
set_option maxRecDepth 100000 in
/-- cut(x, y) -/
theorem mX_cut (l : Launch) {D : va_G} {A : Nat → Prop} {h0 aL aZ aT aO : Nat} {cB cZ cS cI : ClassId} (hD : XD A h0 aL aZ aT aO cB cZ cS) {ec pt : Int32} {lv : Nat → Nat → Nat} {tr : Nat → Nat → Prop} (h : XI ec pt lv tr) (x y : Int32) : Met l yX0_cut (ws_ yX0_cut cX0_cut 5 (some .int)) (rmd 4) (cPc D (XT cB cZ cS cI) (PX h0 aL aZ aT aO cB cZ cS ec pt lv tr) [.ref h0, .int x, .int y]) (cQi D A (fun (r : Int32) (u : XS) => XI u.1 u.2.1 u.2.2.1 u.2.2.2 ∧ r = aCut (EE lv) x y ∧ EE u.2.2.1 = eCut (EE lv) x y) (fun (u : XS) => PX h0 aL aZ aT aO cB cZ cS u.1 u.2.1 u.2.2.1 u.2.2.2)) 0 0 A := by
  refine g_head (own := RX0) (by decide) rfl (Nat.le_of_ble_eq_true rfl) ?_
  intro p e s m below meth c ls F hx hb hr hlk _ hP hS hl
  have hl : lv_has ls 5 [(0, .ref h0), (1, .int x), (2, .int y)] := hl
  have hg := xi_gr h
  have hw := h.1.1
  have hle := xi_le h
  refine lv_aload_n hx hb dX0_cut_0 rfl (lv_at hl 0 rfl) ?_
  refine lv_iload_n hx hb dX0_cut_1 rfl (lv_at hl 1 rfl) ?_
  refine lv_iload_n hx hb dX0_cut_2 rfl (lv_at hl 2 rfl) ?_
  refine g_calli F (mX_isCouple l hD x y) (cwV 2 F.1.2.2.2.2 (lw_V q53 q55 qs0 q17 q56) rfl rfl rfl (by decide +kernel) ⟨Nat.le_of_ble_eq_true rfl, Nat.le_of_ble_eq_true rfl⟩) hP hS (fun _ h => h) (ci := 0) rfl rfl rfl hl.1 rfl (by decide) dX0_cut_3 ⟨Nat.zero_le _, Nat.zero_le _⟩ (fun r1 u H locs h1 hP hS _ => ?_)
  have hP : va_P D vwCl (PX h0 aL aZ aT aO cB cZ cS ec pt lv tr) H := hP
  refine lv_if_ne (tgt := 11) hx hb dX0_cut_6 (by decide) (fun c1 => ?_) (fun c1 => ?_)
  · obtain ⟨⟨a, ha, rfl⟩, ⟨b, hb1, rfl⟩, hne⟩ := b01_n (h1 ▸ c1)
    have hab : a ≠ b := fun q => hne (by rw [q])
    refine lv_aload_n hx hb dX0_cut_11 rfl (lv_at hl 0 rfl) ?_
    refine lv_iload_n hx hb dX0_cut_12 rfl (lv_at hl 1 rfl) ?_
    refine lv_iload_n hx hb dX0_cut_13 rfl (lv_at hl 2 rfl) ?_
    refine g_calli F (mX_isEdge l hD hw hle (nI a) (nI b)) (cwV 2 F.1.2.2.2.2 (lw_V q61 q62 q63 q17 q64) rfl rfl rfl (by decide +kernel) ⟨Nat.le_of_ble_eq_true rfl, Nat.le_of_ble_eq_true rfl⟩) hP hS (fun _ h => h) (ci := 0) rfl rfl rfl hl.1 rfl (by decide) dX0_cut_14 ⟨Nat.zero_le _, Nat.zero_le _⟩ (fun r2 u H locs h2 hP hS _ => ?_)
    have hP : va_P D vwCl (PX h0 aL aZ aT aO cB cZ cS ec pt lv tr) H := hP
    refine lv_if_ne (tgt := 22) hx hb dX0_cut_17 (by decide) (fun c2 => ?_) (fun c2 => ?_)
    · have hE : EE lv a b := (onP_n ha hb1).mp (b01_n (h2 ▸ c2))
      have hE0 : lv a b ≠ 0 := hE
      obtain ⟨lw, hlw⟩ : ∃ lw, lv a b = lw + 1 := ⟨lv a b - 1, by omega⟩
      have hlw2 : lv b a = lw + 1 := by rw [hw.1]; exact hlw
      have hl3 := HI_le h.1 a b
      obtain ⟨hi, k, hk, hd, rfl, rfl⟩ := h
      refine lv_aload_n hx hb dX0_cut_22 rfl (lv_at hl 0 rfl) ?_
      refine x_get2 F hP dX0_cut_23 ?_
      refine lv_bipush (v := 12) hx hb dX0_cut_26 (by decide +kernel) ?_
      refine lv_iload_n hx hb dX0_cut_28 rfl (lv_at hl 1 rfl) ?_
      refine lv_imul hx hb dX0_cut_29 ?_
      refine lv_iload_n hx hb dX0_cut_30 rfl (lv_at hl 2 rfl) ?_
      refine lv_iadd hx hb dX0_cut_31 ?_
      refine x_ldL (v := nI lw) F hP (ix12 a b) (by omega) ((fL_at lv hb1).trans (by rw [hlw]; exact nI_pred lw)) dX0_cut_32 ?_
      refine lv_istore_n (lv' := [(3, .int (nI lw)), (0, .ref h0), (1, .int (nI a)), (2, .int (nI b))]) hx hb dX0_cut_33 rfl hl (by decide) rfl (fun ls hl => ?_)
      refine lv_aload_n hx hb dX0_cut_34 rfl (lv_at hl 1 rfl) ?_
      refine x_get3 F hP dX0_cut_35 ?_
      refine lv_bipush (v := 12) hx hb dX0_cut_38 (by decide +kernel) ?_
      refine lv_iload_n hx hb dX0_cut_40 rfl (lv_at hl 2 rfl) ?_
      refine lv_imul hx hb dX0_cut_41 ?_
      refine lv_iload_n hx hb dX0_cut_42 rfl (lv_at hl 3 rfl) ?_
      refine lv_iadd hx hb dX0_cut_43 ?_
      refine x_ldZ (v := b01 (tr a b)) F hP (ix12 a b) (by omega) (fZ_at tr hb1) dX0_cut_44 ?_
      refine lv_istore (lv' := [(4, .int (b01 (tr a b))), (3, .int (nI lw)), (0, .ref h0), (1, .int (nI a)), (2, .int (nI b))]) hx hb dX0_cut_45 hl (by decide) rfl (fun ls hl => ?_)
      refine lv_aload_n hx hb dX0_cut_47 rfl (lv_at hl 2 rfl) ?_
      refine lv_iload_n hx hb dX0_cut_48 rfl (lv_at hl 3 rfl) ?_
      refine lv_iload_n hx hb dX0_cut_49 rfl (lv_at hl 4 rfl) ?_
      refine g_callv F (mX_unplace l hD ha hb1 hab (show lw < 4 by omega) hlw hlw2) (cwV 2 F.1.2.2.2.2 (lw_V q81 q83 qs4 q17 q84) rfl rfl rfl (by decide +kernel) ⟨Nat.le_of_ble_eq_true rfl, Nat.le_of_ble_eq_true rfl⟩) hP hS (fun _ h => h) (ci := 0) rfl rfl rfl hl.1 rfl (by decide) dX0_cut_50 ⟨Nat.zero_le _, Nat.zero_le _⟩ (fun u H locs hq hP hS _ => ?_)
      have hP : va_P D vwCl (PX h0 aL aZ aT aO cB cZ cS (nI k) (nI (prts (EE lv))) (set2 lv a b 0) tr) H := hP
      refine lv_aload_n hx hb dX0_cut_53 rfl (lv_at hl 2 rfl) ?_
      refine lv_dup hx hb dX0_cut_54 rfl ?_
      refine x_get0 F hP dX0_cut_55 ?_
      refine lv_iconst (v := 1) hx hb dX0_cut_58 (by decide +kernel) ?_
      refine lv_isub hx hb dX0_cut_59 ?_
      refine x_put0 F hD hP hS dX0_cut_60 (fun H locs hP hS => ?_)
      have hP : va_P D vwCl (PX h0 aL aZ aT aO cB cZ cS ((nI k) - 1) (nI (prts (EE lv))) (set2 lv a b 0) tr) H := hP
      refine lv_iload hx hb dX0_cut_63 (lv_at hl 0 rfl) ?_
      refine lv_if_ne (tgt := 70) hx hb dX0_cut_65 (by decide) (fun c3 => ?_) (fun c3 => ?_)
      · have c3 := b01_n c3
        have hri := ri_init hi hlw c3
        refine lv_aload_n hx hb dX0_cut_70 rfl (lv_at hl 2 rfl) ?_
        refine lv_iload_n hx hb dX0_cut_71 rfl (lv_at hl 3 rfl) ?_
        refine lv_iload_n hx hb dX0_cut_72 rfl (lv_at hl 4 rfl) ?_
        refine lv_iload_n hx hb dX0_cut_73 rfl (lv_at hl 1 rfl) ?_
        refine g_calli F (mX_replace l hD hri) (cwV 3 F.1.2.2.2.2 (lw_V q85 q87 qs5 q17 q88) rfl rfl rfl (by decide +kernel) ⟨Nat.le_of_ble_eq_true rfl, Nat.le_of_ble_eq_true rfl⟩) hP hS (fun _ h => h) (ci := 0) rfl rfl rfl hl.1 rfl (by decide) dX0_cut_74 ⟨Nat.zero_le _, Nat.zero_le _⟩ (fun r4 u4 H locs h4 hP hS _ => ?_)
        have hP : va_P D vwCl (PX h0 aL aZ aT aO cB cZ cS (nI k - 1) (nI (prts (EE lv))) (u4.1) (u4.2)) H := hP
        obtain ⟨R, e4, g1, g2, g3⟩ := h4
        have eE : EE u4.1 = dl (EE lv) a b := by rw [← EE_dl]; funext x y; exact propext (g2 x y)
        rw [EE_dl] at g3
        refine lv_if_eq (tgt := 82) hx hb dX0_cut_77 (by decide) (fun c4 => ?_) (fun c4 => ?_)
        · have c4 := b01_e (e4 ▸ c4)
          refine lv_aload_n hx hb dX0_cut_82 rfl (lv_at hl 2 rfl) ?_
          refine lv_dup hx hb dX0_cut_83 rfl ?_
          refine x_get1 F hP dX0_cut_84 ?_
          refine lv_iconst (v := 1) hx hb dX0_cut_87 (by decide +kernel) ?_
          refine lv_iadd hx hb dX0_cut_88 ?_
          refine x_put1 F hD hP hS dX0_cut_89 (fun H locs hP hS => ?_)
          have hP : va_P D vwCl (PX h0 aL aZ aT aO cB cZ cS (nI k - 1) ((nI (prts (EE lv))) + 1) (u4.1) (u4.2)) H := hP
          refine lv_iconst (v := 2) hx hb dX0_cut_92 (by decide +kernel) ?_
          exact r_i (nI k - 1, nI (prts (EE lv)) + 1, u4.1, u4.2) F hr hlk hP hS (⟨xi_cut2 hw g1 eE hk hd hE0 (fun q => c4 (g3.mpr q)), (aCut_2 ha hb1 hab hE (fun q => c4 (g3.mpr q))).symm, by rw [eCut_n hg ha hb1]; exact eE⟩) dX0_cut_93
        · have c4 := b01_n (e4 ▸ c4)
          refine lv_iconst (v := 1) hx hb dX0_cut_80 (by decide +kernel) ?_
          exact r_i (nI k - 1, nI (prts (EE lv)), u4.1, u4.2) F hr hlk hP hS (⟨xi_cut1 hw g1 eE hk hd hE0 (g3.mp c4), (aCut_1 ha hb1 hab hE (g3.mp c4)).symm, by rw [eCut_n hg ha hb1]; exact eE⟩) dX0_cut_81
      · have c3 := b01_e c3
        have hc0 := hi_cut0 hi hlw c3
        refine lv_iconst (v := 1) hx hb dX0_cut_68 (by decide +kernel) ?_
        exact r_i (nI k - 1, nI (prts (EE lv)), set2 lv a b 0, tr) F hr hlk hP hS (⟨xi_cut1 hw hc0.1 (EE_dl a b) hk hd hE0 hc0.2, (aCut_1 ha hb1 hab hE hc0.2).symm, by rw [eCut_n hg ha hb1]; exact EE_dl a b⟩) dX0_cut_69
    · have c2 : ¬ EE lv a b := fun q => b01_e (h2 ▸ c2) ((onP_n ha hb1).mpr q)
      refine lv_iconst (v := 0) hx hb dX0_cut_20 (by decide +kernel) ?_
      exact r_i (ec, pt, lv, tr) F hr hlk hP hS (⟨h, (aCut_0 ha hb1 hab c2).symm, (eCut_no hg (fun q => c2 ((onP_n ha hb1).mp q))).symm⟩) dX0_cut_21
  · have c1 : ¬ couple x y := b01_e (h1 ▸ c1)
    refine lv_iconst (v := (-1)) hx hb dX0_cut_9 (by decide +kernel) ?_
    exact r_i (ec, pt, lv, tr) F hr hlk hP hS (⟨h, (aCut_b c1).symm, (eCut_b hg c1).symm⟩) dX0_cut_10

set_option maxHeartbeats 4000000 in
set_option maxRecDepth 100000 in
/-- link(x, y) -/
theorem mX_link (l : Launch) {D : va_G} {A : Nat → Prop} {h0 aL aZ aT aO : Nat} {cB cZ cS cI : ClassId} (hD : XD A h0 aL aZ aT aO cB cZ cS) {ec pt : Int32} {lv : Nat → Nat → Nat} {tr : Nat → Nat → Prop} (h : XI ec pt lv tr) (x y : Int32) : Met l yX0_link (ws_ yX0_link cX0_link 4 (some .int)) (rmd 3) (cPc D (XT cB cZ cS cI) (PX h0 aL aZ aT aO cB cZ cS ec pt lv tr) [.ref h0, .int x, .int y]) (cQi D A (fun (r : Int32) (u : XS) => XI u.1 u.2.1 u.2.2.1 u.2.2.2 ∧ r = aLink (EE lv) x y ∧ EE u.2.2.1 = eLink (EE lv) x y) (fun (u : XS) => PX h0 aL aZ aT aO cB cZ cS u.1 u.2.1 u.2.2.1 u.2.2.2)) 0 0 A := by
  refine g_head (own := RX0) (by decide) rfl (Nat.le_of_ble_eq_true rfl) ?_
  intro p e s m below meth c ls F hx hb hr hlk _ hP hS hl
  have hl : lv_has ls 4 [(0, .ref h0), (1, .int x), (2, .int y)] := hl
  have hg := xi_gr h
  have hw := h.1.1
  have hle := xi_le h
  refine lv_aload_n hx hb dX0_link_0 rfl (lv_at hl 0 rfl) ?_
  refine lv_iload_n hx hb dX0_link_1 rfl (lv_at hl 1 rfl) ?_
  refine lv_iload_n hx hb dX0_link_2 rfl (lv_at hl 2 rfl) ?_
  refine g_calli F (mX_isCouple l hD x y) (cwV 2 F.1.2.2.2.2 (lw_V q53 q55 qs0 q17 q56) rfl rfl rfl (by decide +kernel) ⟨Nat.le_of_ble_eq_true rfl, Nat.le_of_ble_eq_true rfl⟩) hP hS (fun _ h => h) (ci := 0) rfl rfl rfl hl.1 rfl (by decide) dX0_link_3 ⟨Nat.zero_le _, Nat.zero_le _⟩ (fun r1 u H locs h1 hP hS _ => ?_)
  have hP : va_P D vwCl (PX h0 aL aZ aT aO cB cZ cS ec pt lv tr) H := hP
  refine lv_if_ne (tgt := 11) hx hb dX0_link_6 (by decide) (fun c1 => ?_) (fun c1 => ?_)
  · obtain ⟨⟨a, ha, rfl⟩, ⟨b, hb1, rfl⟩, hne⟩ := b01_n (h1 ▸ c1)
    have hab : a ≠ b := fun q => hne (by rw [q])
    refine lv_aload_n hx hb dX0_link_11 rfl (lv_at hl 0 rfl) ?_
    refine lv_iload_n hx hb dX0_link_12 rfl (lv_at hl 1 rfl) ?_
    refine lv_iload_n hx hb dX0_link_13 rfl (lv_at hl 2 rfl) ?_
    refine g_calli F (mX_isEdge l hD hw hle (nI a) (nI b)) (cwV 2 F.1.2.2.2.2 (lw_V q61 q62 q63 q17 q64) rfl rfl rfl (by decide +kernel) ⟨Nat.le_of_ble_eq_true rfl, Nat.le_of_ble_eq_true rfl⟩) hP hS (fun _ h => h) (ci := 0) rfl rfl rfl hl.1 rfl (by decide) dX0_link_14 ⟨Nat.zero_le _, Nat.zero_le _⟩ (fun r2 u H locs h2 hP hS _ => ?_)
    have hP : va_P D vwCl (PX h0 aL aZ aT aO cB cZ cS ec pt lv tr) H := hP
    refine lv_if_eq (tgt := 22) hx hb dX0_link_17 (by decide) (fun c2 => ?_) (fun c2 => ?_)
    · have hE : ¬ EE lv a b := fun q => b01_e (h2 ▸ c2) ((onP_n ha hb1).mpr q)
      have hE0 : lv a b = 0 := Classical.byContradiction hE
      have hE1 : lv b a = 0 := by rw [hw.1]; exact hE0
      have hpp := prts_le (EE lv)
      obtain ⟨hi, k, hk, hd, rfl, rfl⟩ := h
      refine lv_aload_n hx hb dX0_link_22 rfl (lv_at hl 0 rfl) ?_
      refine x_get0 F hP dX0_link_23 ?_
      refine lv_bipush (v := 30) hx hb dX0_link_26 (by decide +kernel) ?_
      refine lv_icmp_lt (tgt := 34) hx hb dX0_link_28 (by decide) (fun c3 => ?_) (fun c3 => ?_)
      · have hk := ge30 hk c3
        have hd60 : dgs (EE lv) ≠ 60 := by omega
        have h2 : XI (nI k) (nI (prts (EE lv))) lv tr := ⟨hi, k, by omega, hd, rfl, rfl⟩
        refine lv_aload_n hx hb dX0_link_34 rfl (lv_at hl 0 rfl) ?_
        refine lv_iload_n hx hb dX0_link_35 rfl (lv_at hl 1 rfl) ?_
        refine lv_iload_n hx hb dX0_link_36 rfl (lv_at hl 2 rfl) ?_
        refine g_calli F (mX_connected l hD hi (nI a) (nI b)) (cwV 2 F.1.2.2.2.2 (lw_V q65 q66 q67 q17 q68) rfl rfl rfl (by decide +kernel) ⟨Nat.le_of_ble_eq_true rfl, Nat.le_of_ble_eq_true rfl⟩) hP hS (fun _ h => h) (ci := 0) rfl rfl rfl hl.1 rfl (by decide) dX0_link_37 ⟨Nat.zero_le _, Nat.zero_le _⟩ (fun r4 u H locs h4 hP hS _ => ?_)
        have hP : va_P D vwCl (PX h0 aL aZ aT aO cB cZ cS (nI k) (nI (prts (EE lv))) lv tr) H := hP
        rw [b01_cong (onP_n ha hb1)] at h4
        have rest : ∀ ls : Array Slot, lv_has ls 4 [(0, .ref h0), (1, .int (nI a)), (2, .int (nI b)), (3, .int (b01 (¬ cn (EE lv) a b)))] → W p l e (headSpec (ws_ yX0_link cX0_link 4 (some .int)) (rmd 3)).room s m ([.ref h0, .int (nI a), .int (nI b)] : List Value).toArray below meth c H locs 0 0 (MQ below (cQi D A (fun (r : Int32) (u : XS) => XI u.1 u.2.1 u.2.2.1 u.2.2.2 ∧ r = aLink (EE lv) (nI a) (nI b) ∧ EE u.2.2.1 = eLink (EE lv) (nI a) (nI b)) (fun (u : XS) => PX h0 aL aZ aT aO cB cZ cS u.1 u.2.1 u.2.2.1 u.2.2.2)) ([.ref h0, .int (nI a), .int (nI b)] : List Value).toArray s 0 0 A) (F0 m 49 ls []) := by
          intro ls hl
          refine lv_aload_n hx hb dX0_link_49 rfl (lv_at hl 0 rfl) ?_
          refine lv_dup hx hb dX0_link_50 rfl ?_
          refine x_get0 F hP dX0_link_51 ?_
          refine lv_iconst (v := 1) hx hb dX0_link_54 (by decide +kernel) ?_
          refine lv_iadd hx hb dX0_link_55 ?_
          refine g_top (y := nI (k + 1)) (nI_1 k) ?_
          refine x_put0 F hD hP hS dX0_link_56 (fun H locs hP hS => ?_)
          have hP : va_P D vwCl (PX h0 aL aZ aT aO cB cZ cS (nI (k + 1)) (nI (prts (EE lv))) lv tr) H := hP
          refine lv_aload_n hx hb dX0_link_59 rfl (lv_at hl 0 rfl) ?_
          refine lv_iload_n hx hb dX0_link_60 rfl (lv_at hl 1 rfl) ?_
          refine lv_iload_n hx hb dX0_link_61 rfl (lv_at hl 2 rfl) ?_
          refine lv_iconst (v := nI 0) hx hb dX0_link_62 (by decide +kernel) ?_
          refine lv_iload_n hx hb dX0_link_63 rfl (lv_at hl 3 rfl) ?_
          refine g_callv F (mX_place l hD (t := ¬ cn (EE lv) a b) ha hb1 hab (show 0 < 4 by omega) hE0 hE1) (cwV 4 F.1.2.2.2.2 (lw_V q73 q75 qs3 q17 q76) rfl rfl rfl (by decide +kernel) ⟨Nat.le_of_ble_eq_true rfl, Nat.le_of_ble_eq_true rfl⟩) hP hS (fun _ h => h) (ci := 0) rfl rfl rfl hl.1 rfl (by decide) dX0_link_64 ⟨Nat.zero_le _, Nat.zero_le _⟩ (fun u H locs hq hP hS _ => ?_)
          have hP : va_P D vwCl (PX h0 aL aZ aT aO cB cZ cS (nI (k + 1)) (nI (prts (EE lv))) (set2 lv a b (0 + 1)) (set2 tr a b (¬ cn (EE lv) a b))) H := hP
          refine lv_iload_n hx hb dX0_link_67 rfl (lv_at hl 3 rfl) ?_
          refine lv_if_ne (tgt := 73) hx hb dX0_link_68 (by decide) (fun c5 => ?_) (fun c5 => ?_)
          · have c5 := b01_n c5
            refine lv_aload_n hx hb dX0_link_73 rfl (lv_at hl 0 rfl) ?_
            refine lv_dup hx hb dX0_link_74 rfl ?_
            refine x_get1 F hP dX0_link_75 ?_
            refine lv_iconst (v := 1) hx hb dX0_link_78 (by decide +kernel) ?_
            refine lv_isub hx hb dX0_link_79 ?_
            refine x_put1 F hD hP hS dX0_link_80 (fun H locs hP hS => ?_)
            have hP : va_P D vwCl (PX h0 aL aZ aT aO cB cZ cS (nI (k + 1)) ((nI (prts (EE lv))) - 1) (set2 lv a b (0 + 1)) (set2 tr a b (¬ cn (EE lv) a b))) H := hP
            refine lv_iconst (v := 2) hx hb dX0_link_83 (by decide +kernel) ?_
            exact r_i (nI (k + 1), nI (prts (EE lv)) - 1, set2 lv a b (0 + 1), set2 tr a b (¬ cn (EE lv) a b)) F hr hlk hP hS (⟨xi_link2 hi hk hd ha hb1 hab hE0 c5, (aLink_2 ha hb1 hab hE hd60 c5).symm, by rw [eLink_n ha hb1 hab hE hd60]; exact EE_ad a b (0 + 1) (by omega)⟩) dX0_link_84
          · have c5 : cn (EE lv) a b := Classical.byContradiction (b01_e c5)
            refine lv_iconst (v := 1) hx hb dX0_link_71 (by decide +kernel) ?_
            exact r_i (nI (k + 1), nI (prts (EE lv)), set2 lv a b (0 + 1), set2 tr a b (¬ cn (EE lv) a b)) F hr hlk hP hS (⟨xi_link1 hi hk hd ha hb1 hab hE0 c5, (aLink_1 ha hb1 hab hE hd60 c5).symm, by rw [eLink_n ha hb1 hab hE hd60]; exact EE_ad a b (0 + 1) (by omega)⟩) dX0_link_72
        refine lv_if_ne (tgt := 47) hx hb dX0_link_40 (by decide) (fun c4 => ?_) (fun c4 => ?_)
        · have c4 := b01_n (h4 ▸ c4)
          refine lv_iconst (v := b01 (¬ cn (EE lv) a b)) hx hb dX0_link_47 ((b01_f (fun q => q c4)).symm) ?_
          refine lv_istore_n (lv' := [(3, .int (b01 (¬ cn (EE lv) a b))), (0, .ref h0), (1, .int (nI a)), (2, .int (nI b))]) hx hb dX0_link_48 rfl hl (by decide) rfl (fun ls hl => ?_)
          exact rest ls (lv_sub hl [1, 2, 3, 0] rfl)
        · have c4 := b01_e (h4 ▸ c4)
          refine lv_iconst (v := b01 (¬ cn (EE lv) a b)) hx hb dX0_link_43 ((b01_t c4).symm) ?_
          refine lv_goto (tgt := 48) hx hb dX0_link_44 (by decide) ?_
          refine lv_istore_n (lv' := [(3, .int (b01 (¬ cn (EE lv) a b))), (0, .ref h0), (1, .int (nI a)), (2, .int (nI b))]) hx hb dX0_link_48 rfl hl (by decide) rfl (fun ls hl => ?_)
          exact rest ls (lv_sub hl [1, 2, 3, 0] rfl)
      · have e := lt30 hk c3
        subst e
        refine lv_bipush (v := (-2)) hx hb dX0_link_31 (by decide +kernel) ?_
        exact r_i (nI 30, nI (prts (EE lv)), lv, tr) F hr hlk hP hS (⟨⟨hi, 30, Nat.le_refl _, hd, rfl, rfl⟩, (aLink_f ha hb1 hab hE hd).symm, (eLink_no (lk_f hd)).symm⟩) dX0_link_33
    · have c2 : EE lv a b := (onP_n ha hb1).mp (b01_n (h2 ▸ c2))
      refine lv_iconst (v := 0) hx hb dX0_link_20 (by decide +kernel) ?_
      exact r_i (ec, pt, lv, tr) F hr hlk hP hS (⟨h, (aLink_0 ha hb1 hab c2).symm, (eLink_no (lk_0 ha hb1 c2)).symm⟩) dX0_link_21
  · have c1 : ¬ couple x y := b01_e (h1 ▸ c1)
    refine lv_iconst (v := (-1)) hx hb dX0_link_9 (by decide +kernel) ?_
    exact r_i (ec, pt, lv, tr) F hr hlk hP hS (⟨h, (aLink_b c1).symm, (eLink_no (lk_b c1)).symm⟩) dX0_link_10

set_option maxHeartbeats 4000000 in
set_option maxRecDepth 100000 in
/-- isBridge(x, y) -/
theorem mX_isBridge (l : Launch) {D : va_G} {A : Nat → Prop} {h0 aL aZ aT aO : Nat} {cB cZ cS cI : ClassId} (hD : XD A h0 aL aZ aT aO cB cZ cS) {ec pt : Int32} {lv : Nat → Nat → Nat} {tr : Nat → Nat → Prop} (h : HI lv tr) (x y : Int32) : Met l yX0_isBridge (ws_ yX0_isBridge cX0_isBridge 8 (some .boolean)) (rmd 3) (cPc D (XT cB cZ cS cI) (PX h0 aL aZ aT aO cB cZ cS ec pt lv tr) [.ref h0, .int x, .int y]) (cQi D A (fun (r : Int32) (u : Unit) => r = b01 (onP (isBr (EE lv)) x y)) (fun (u : Unit) => PX h0 aL aZ aT aO cB cZ cS ec pt lv tr)) 0 0 A := by
  refine g_head (own := RX0) (by decide) rfl (Nat.le_of_ble_eq_true rfl) ?_
  intro p e s m below meth c ls F hx hb hr hlk _ hP hS hl
  have hl : lv_has ls 8 [(0, .ref h0), (1, .int x), (2, .int y)] := hl
  have hw := h.1
  have hle : ∀ x y, lv x y ≤ 4 := fun x y => Nat.le_succ_of_le (HI_le h x y)
  refine lv_aload_n hx hb dX0_isBridge_0 rfl (lv_at hl 0 rfl) ?_
  refine lv_iload_n hx hb dX0_isBridge_1 rfl (lv_at hl 1 rfl) ?_
  refine lv_iload_n hx hb dX0_isBridge_2 rfl (lv_at hl 2 rfl) ?_
  refine g_calli F (mX_isEdge l hD hw hle x y) (cwV 2 F.1.2.2.2.2 (lw_V q61 q62 q63 q17 q64) rfl rfl rfl (by decide +kernel) ⟨Nat.le_of_ble_eq_true rfl, Nat.le_of_ble_eq_true rfl⟩) hP hS (fun _ h => h) (ci := 0) rfl rfl rfl hl.1 rfl (by decide) dX0_isBridge_3 ⟨Nat.zero_le _, Nat.zero_le _⟩ (fun r1 u H locs h1 hP hS _ => ?_)
  have hP : va_P D vwCl (PX h0 aL aZ aT aO cB cZ cS ec pt lv tr) H := hP
  refine lv_if_eq (tgt := 23) hx hb dX0_isBridge_6 (by decide) (fun c1 => ?_) (fun c1 => ?_)
  · have c1 := b01_e (h1 ▸ c1)
    refine lv_iconst (v := 0) hx hb dX0_isBridge_23 (by decide +kernel) ?_
    exact r_z (()) F hr hlk rfl hP hS ((b01_f (fun ⟨a, b, ha, hb1, e1, e2, q⟩ => c1 ⟨a, b, ha, hb1, e1, e2, q.1⟩)).symm) dX0_isBridge_24
  · obtain ⟨a, b, ha, hb1, rfl, rfl, hE⟩ := b01_n (h1 ▸ c1)
    have hE0 : lv a b ≠ 0 := hE
    have hab : a ≠ b := WF_ne hw hE0
    obtain ⟨lw, hlw⟩ : ∃ lw, lv a b = lw + 1 := ⟨lv a b - 1, by omega⟩
    have hlw2 : lv b a = lw + 1 := by rw [hw.1]; exact hlw
    have hl3 := HI_le h a b
    refine lv_aload_n hx hb dX0_isBridge_9 rfl (lv_at hl 0 rfl) ?_
    refine x_get3 F hP dX0_isBridge_10 ?_
    refine lv_bipush (v := 12) hx hb dX0_isBridge_13 (by decide +kernel) ?_
    refine lv_iload_n hx hb dX0_isBridge_15 rfl (lv_at hl 1 rfl) ?_
    refine lv_imul hx hb dX0_isBridge_16 ?_
    refine lv_iload_n hx hb dX0_isBridge_17 rfl (lv_at hl 2 rfl) ?_
    refine lv_iadd hx hb dX0_isBridge_18 ?_
    refine x_ldZ (v := b01 (tr a b)) F hP (ix12 a b) (by omega) (fZ_at tr hb1) dX0_isBridge_19 ?_
    refine lv_if_ne (tgt := 25) hx hb dX0_isBridge_20 (by decide) (fun c2 => ?_) (fun c2 => ?_)
    · have t1 := b01_n c2
      have t2 := hw.2.2.2 a b hE0 t1
      have hbr := hi_bridge h hlw t1
      have hw2 := (ri_init h hlw t1).1
      have hle2 : ∀ x y, set2 lv a b 0 x y ≤ 4 := fun x y => Nat.le_succ_of_le (RI_le (ri_init h hlw t1) x y)
      refine lv_aload_n hx hb dX0_isBridge_25 rfl (lv_at hl 0 rfl) ?_
      refine x_get2 F hP dX0_isBridge_26 ?_
      refine lv_bipush (v := 12) hx hb dX0_isBridge_29 (by decide +kernel) ?_
      refine lv_iload_n hx hb dX0_isBridge_31 rfl (lv_at hl 1 rfl) ?_
      refine lv_imul hx hb dX0_isBridge_32 ?_
      refine lv_iload_n hx hb dX0_isBridge_33 rfl (lv_at hl 2 rfl) ?_
      refine lv_iadd hx hb dX0_isBridge_34 ?_
      refine x_ldL (v := nI lw) F hP (ix12 a b) (by omega) ((fL_at lv hb1).trans (by rw [hlw]; exact nI_pred lw)) dX0_isBridge_35 ?_
      refine lv_istore_n (lv' := [(3, .int (nI lw)), (0, .ref h0), (1, .int (nI a)), (2, .int (nI b))]) hx hb dX0_isBridge_36 rfl hl (by decide) rfl (fun ls hl => ?_)
      refine lv_aload_n hx hb dX0_isBridge_37 rfl (lv_at hl 1 rfl) ?_
      refine lv_iload_n hx hb dX0_isBridge_38 rfl (lv_at hl 2 rfl) ?_
      refine lv_iload_n hx hb dX0_isBridge_39 rfl (lv_at hl 3 rfl) ?_
      refine g_callv F (mX_unplace l hD ha hb1 hab (show lw < 4 by omega) hlw hlw2) (cwV 2 F.1.2.2.2.2 (lw_V q81 q83 qs4 q17 q84) rfl rfl rfl (by decide +kernel) ⟨Nat.le_of_ble_eq_true rfl, Nat.le_of_ble_eq_true rfl⟩) hP hS (fun _ h => h) (ci := 0) rfl rfl rfl hl.1 rfl (by decide) dX0_isBridge_40 ⟨Nat.zero_le _, Nat.zero_le _⟩ (fun u H locs hq hP hS _ => ?_)
      have hP : va_P D vwCl (PX h0 aL aZ aT aO cB cZ cS ec pt (set2 lv a b 0) tr) H := hP
      refine lv_aload_n hx hb dX0_isBridge_43 rfl (lv_at hl 1 rfl) ?_
      refine lv_iload_n hx hb dX0_isBridge_44 rfl (lv_at hl 2 rfl) ?_
      refine lv_iconst (v := nI 0) hx hb dX0_isBridge_45 (by decide +kernel) ?_
      refine g_calli F (mX_pieceOf l hD hw2 hle2 ha (Nat.zero_le 3)) (cwV 2 F.1.2.2.2.2 (lw_V q69 q71 qs2 q17 q72) rfl rfl rfl (by decide +kernel) ⟨Nat.le_of_ble_eq_true rfl, Nat.le_of_ble_eq_true rfl⟩) hP hS (fun _ h => h) (ci := 0) rfl rfl rfl hl.1 rfl (by decide) dX0_isBridge_46 ⟨Nat.zero_le _, Nat.zero_le _⟩ (fun r3 u H locs h3 hP hS _ => ?_)
      have hP : va_P D vwCl (PX h0 aL aZ aT aO cB cZ cS ec pt (set2 lv a b 0) tr) H := hP
      subst h3
      rw [← led_all hw2 hle2] at hbr
      generalize cn (FI (set2 lv a b 0) tr 0) a = P at hbr ⊢
      generalize elv : set2 lv a b 0 = lvc at hP hbr
      have fin : ∀ ls : Array Slot, lv_has ls 8 [(0, .ref h0), (1, .int (nI a)), (2, .int (nI b)), (3, .int (nI lw)), (4, .int (bm P)), (5, .int (b01 (ledX lvc tr P 12)))] → W p l e (headSpec (ws_ yX0_isBridge cX0_isBridge 8 (some .boolean)) (rmd 3)).room s m ([.ref h0, .int (nI a), .int (nI b)] : List Value).toArray below meth c H locs 0 0 (MQ below (cQi D A (fun (r : Int32) (u : Unit) => r = b01 (onP (isBr (EE lv)) (nI a) (nI b))) (fun (u : Unit) => PX h0 aL aZ aT aO cB cZ cS ec pt lv tr)) ([.ref h0, .int (nI a), .int (nI b)] : List Value).toArray s 0 0 A) (F0 m 122 ls []) := by
        intro ls hl
        subst elv
        refine lv_aload_n hx hb dX0_isBridge_122 rfl (lv_at hl 0 rfl) ?_
        refine lv_iload_n hx hb dX0_isBridge_123 rfl (lv_at hl 1 rfl) ?_
        refine lv_iload_n hx hb dX0_isBridge_124 rfl (lv_at hl 2 rfl) ?_
        refine lv_iload_n hx hb dX0_isBridge_125 rfl (lv_at hl 3 rfl) ?_
        refine lv_iconst (v := b01 True) hx hb dX0_isBridge_126 ((b01_t trivial).symm) ?_
        refine g_callv F (mX_place l hD (t := True) ha hb1 hab (show lw < 4 by omega) (set2_ab lv a b 0) (set2_ba lv a b 0)) (cwV 4 F.1.2.2.2.2 (lw_V q73 q75 qs3 q17 q76) rfl rfl rfl (by decide +kernel) ⟨Nat.le_of_ble_eq_true rfl, Nat.le_of_ble_eq_true rfl⟩) hP hS (fun _ h => h) (ci := 0) rfl rfl rfl hl.1 rfl (by decide) dX0_isBridge_127 ⟨Nat.zero_le _, Nat.zero_le _⟩ (fun u H locs hq hP hS _ => ?_)
        have hP : va_P D vwCl (PX h0 aL aZ aT aO cB cZ cS ec pt (set2 (set2 lv a b 0) a b (lw + 1)) (set2 tr a b True)) H := hP
        rw [set2_2, set2_id hlw hlw2, set2_id (eq_true t1) (eq_true t2)] at hP
        refine lv_iload hx hb dX0_isBridge_130 (lv_at hl 5 rfl) ?_
        refine lv_if_ne (tgt := 139) hx hb dX0_isBridge_132 (by decide) (fun c5 => ?_) (fun c5 => ?_)
        · have c5 := hbr.mp (b01_n c5)
          refine lv_iconst (v := 0) hx hb dX0_isBridge_139 (by decide +kernel) ?_
          exact r_z (()) F hr hlk rfl hP hS ((b01_f (fun q => ((onP_n (Q := isBr (EE lv)) ha hb1).mp q).2 c5)).symm) dX0_isBridge_140
        · have c5 := fun q => b01_e c5 (hbr.mpr q)
          refine lv_iconst (v := 1) hx hb dX0_isBridge_135 (by decide +kernel) ?_
          refine lv_goto (tgt := 140) hx hb dX0_isBridge_136 (by decide) ?_
          exact r_z (()) F hr hlk rfl hP hS ((b01_t ((onP_n (Q := isBr (EE lv)) ha hb1).mpr ⟨hE, c5⟩)).symm) dX0_isBridge_140
      have jloop : ∀ X, X < 12 → (∀ ls : Array Slot, lv_has ls 8 [(0, .ref h0), (1, .int (nI a)), (2, .int (nI b)), (3, .int (nI lw)), (4, .int (bm P)), (5, .int (b01 (ledX lvc tr P X ∨ ledx lvc tr P X 4))), (6, .int (nI X))] → W p l e (headSpec (ws_ yX0_isBridge cX0_isBridge 8 (some .boolean)) (rmd 3)).room s m ([.ref h0, .int (nI a), .int (nI b)] : List Value).toArray below meth c H locs 0 0 (MQ below (cQi D A (fun (r : Int32) (u : Unit) => r = b01 (onP (isBr (EE lv)) (nI a) (nI b))) (fun (u : Unit) => PX h0 aL aZ aT aO cB cZ cS ec pt lv tr)) ([.ref h0, .int (nI a), .int (nI b)] : List Value).toArray s 0 0 A) (F0 m 116 ls [])) → ∀ n j, j ≤ 4 → 4 < j + n → ∀ ls : Array Slot, lv_has ls 8 [(0, .ref h0), (1, .int (nI a)), (2, .int (nI b)), (3, .int (nI lw)), (4, .int (bm P)), (5, .int (b01 (ledX lvc tr P X ∨ ledx lvc tr P X j))), (6, .int (nI X)), (7, .int (nI j))] → W p l e (headSpec (ws_ yX0_isBridge cX0_isBridge 8 (some .boolean)) (rmd 3)).room s m ([.ref h0, .int (nI a), .int (nI b)] : List Value).toArray below meth c H locs 0 0 (MQ below (cQi D A (fun (r : Int32) (u : Unit) => r = b01 (onP (isBr (EE lv)) (nI a) (nI b))) (fun (u : Unit) => PX h0 aL aZ aT aO cB cZ cS ec pt lv tr)) ([.ref h0, .int (nI a), .int (nI b)] : List Value).toArray s 0 0 A) (F0 m 80 ls []) := by
        intro X hX kont n
        induction n with
        | zero => intro j h1 h2; exact absurd h2 (by omega)
        | succ n ih =>
          intro j hj hn ls hl
          refine lv_iload hx hb dX0_isBridge_80 (lv_at hl 7 rfl) ?_
          refine lv_iconst (v := 3) hx hb dX0_isBridge_82 (by decide +kernel) ?_
          refine lv_icmp_gt (tgt := 116) hx hb dX0_isBridge_83 (by decide) (fun c5 => ?_) (fun c5 => ?_)
          · have e := gt3 hj c5
            subst e
            exact kont ls (lv_sub hl [0, 1, 2, 3, 4, 5, 6] rfl)
          · have hj := le3 hj c5
            refine lv_aload_n hx hb dX0_isBridge_86 rfl (lv_at hl 0 rfl) ?_
            refine x_get5 F hP dX0_isBridge_87 ?_
            refine lv_bipush (v := 12) hx hb dX0_isBridge_90 (by decide +kernel) ?_
            refine lv_iload hx hb dX0_isBridge_92 (lv_at hl 7 rfl) ?_
            refine lv_imul hx hb dX0_isBridge_94 ?_
            refine lv_iload hx hb dX0_isBridge_95 (lv_at hl 6 rfl) ?_
            refine lv_iadd hx hb dX0_isBridge_97 ?_
            refine x_ldO (v := bm (fun y => lvc X y = j + 1 ∧ ¬ tr X y)) F hP (ix12 j X) (by omega) (fO_at lvc tr hX) dX0_isBridge_98 ?_
            refine lv_iload hx hb dX0_isBridge_99 (lv_at hl 4 rfl) ?_
            refine lv_iconst (v := (-1)) hx hb dX0_isBridge_101 (by decide +kernel) ?_
            refine lv_ixor hx hb dX0_isBridge_102 ?_
            refine lv_iand hx hb dX0_isBridge_103 ?_
            refine g_top (y := bm (fun y => (lvc X y = j + 1 ∧ ¬ tr X y) ∧ ¬ P y)) (bm_andn _ _) ?_
            refine lv_if_eq (tgt := 110) hx hb dX0_isBridge_104 (by decide) (fun c6 => ?_) (fun c6 => ?_)
            · have c6 := bm_e c6
              rw [show b01 (ledX lvc tr P X ∨ ledx lvc tr P X j) = b01 (ledX lvc tr P X ∨ ledx lvc tr P X (j + 1)) from b01_cong (by rw [led_s]; exact ⟨fun q => q.elim Or.inl (fun z => Or.inr (Or.inl z)), fun q => q.elim Or.inl (fun z => z.elim Or.inr (fun ⟨y, hy, z⟩ => absurd z (c6 y hy)))⟩)] at hl
              refine lv_iinc (v := nI (j + 1)) (lv' := [(7, .int (nI (j + 1))), (0, .ref h0), (1, .int (nI a)), (2, .int (nI b)), (3, .int (nI lw)), (4, .int (bm P)), (5, .int (b01 (ledX lvc tr P X ∨ ledx lvc tr P X (j + 1)))), (6, .int (nI X))]) hx hb dX0_isBridge_110 hl (k := 7) rfl (nI_1 j) (by decide) rfl (fun ls hl => ?_)
              refine lv_goto (tgt := 80) hx hb dX0_isBridge_113 (by decide) ?_
              exact ih (j + 1) hj (by omega) ls (lv_sub hl [1, 2, 3, 4, 5, 6, 7, 0] rfl)
            · have c6 := bm_ne c6
              refine lv_iconst (v := b01 (ledX lvc tr P X ∨ ledx lvc tr P X (j + 1))) hx hb dX0_isBridge_107 ((b01_t (Or.inr (led_s.mpr (Or.inr c6)))).symm) ?_
              refine lv_istore (lv' := [(5, .int (b01 (ledX lvc tr P X ∨ ledx lvc tr P X (j + 1)))), (0, .ref h0), (1, .int (nI a)), (2, .int (nI b)), (3, .int (nI lw)), (4, .int (bm P)), (6, .int (nI X)), (7, .int (nI j))]) hx hb dX0_isBridge_108 hl (by decide) rfl (fun ls hl => ?_)
              refine lv_iinc (v := nI (j + 1)) (lv' := [(7, .int (nI (j + 1))), (5, .int (b01 (ledX lvc tr P X ∨ ledx lvc tr P X (j + 1)))), (0, .ref h0), (1, .int (nI a)), (2, .int (nI b)), (3, .int (nI lw)), (4, .int (bm P)), (6, .int (nI X))]) hx hb dX0_isBridge_110 hl (k := 7) rfl (nI_1 j) (by decide) rfl (fun ls hl => ?_)
              refine lv_goto (tgt := 80) hx hb dX0_isBridge_113 (by decide) ?_
              exact ih (j + 1) hj (by omega) ls (lv_sub hl [2, 3, 4, 5, 6, 1, 7, 0] rfl)
      have xloop : ∀ n X, X ≤ 12 → 12 < X + n → ∀ ls : Array Slot, lv_has ls 8 [(0, .ref h0), (1, .int (nI a)), (2, .int (nI b)), (3, .int (nI lw)), (4, .int (bm P)), (5, .int (b01 (ledX lvc tr P X))), (6, .int (nI X))] → W p l e (headSpec (ws_ yX0_isBridge cX0_isBridge 8 (some .boolean)) (rmd 3)).room s m ([.ref h0, .int (nI a), .int (nI b)] : List Value).toArray below meth c H locs 0 0 (MQ below (cQi D A (fun (r : Int32) (u : Unit) => r = b01 (onP (isBr (EE lv)) (nI a) (nI b))) (fun (u : Unit) => PX h0 aL aZ aT aO cB cZ cS ec pt lv tr)) ([.ref h0, .int (nI a), .int (nI b)] : List Value).toArray s 0 0 A) (F0 m 57 ls []) := by
        intro n
        induction n with
        | zero => intro X h1 h2; exact absurd h2 (by omega)
        | succ n ih =>
          intro X hX hn ls hl
          refine lv_iload hx hb dX0_isBridge_57 (lv_at hl 6 rfl) ?_
          refine lv_bipush (v := 12) hx hb dX0_isBridge_59 (by decide +kernel) ?_
          refine lv_icmp_ge (tgt := 122) hx hb dX0_isBridge_61 (by decide) (fun c5 => ?_) (fun c5 => ?_)
          · have e := le12 hX c5
            subst e
            exact fin ls (lv_sub hl [0, 1, 2, 3, 4, 5] rfl)
          · have hX := lt12 hX c5
            refine lv_iload hx hb dX0_isBridge_64 (lv_at hl 4 rfl) ?_
            refine lv_iload hx hb dX0_isBridge_66 (lv_at hl 6 rfl) ?_
            refine lv_ishr hx hb dX0_isBridge_68 ?_
            refine lv_iconst (v := 1) hx hb dX0_isBridge_69 (by decide +kernel) ?_
            refine lv_iand hx hb dX0_isBridge_70 ?_
            refine g_top (y := b01 (P X)) (bm_bit P hX) ?_
            refine lv_if_ne (tgt := 77) hx hb dX0_isBridge_71 (by decide) (fun c6 => ?_) (fun c6 => ?_)
            · have c6 := b01_n c6
              refine lv_iconst (v := nI 0) hx hb dX0_isBridge_77 (by decide +kernel) ?_
              refine lv_istore (lv' := [(7, .int (nI 0)), (0, .ref h0), (1, .int (nI a)), (2, .int (nI b)), (3, .int (nI lw)), (4, .int (bm P)), (5, .int (b01 (ledX lvc tr P X))), (6, .int (nI X))]) hx hb dX0_isBridge_78 hl (by decide) rfl (fun ls hl => ?_)
              rw [show b01 (ledX lvc tr P X) = b01 (ledX lvc tr P X ∨ ledx lvc tr P X 0) from b01_cong ⟨Or.inl, fun q => q.elim id (fun ⟨i, y, q1, _⟩ => absurd q1 (Nat.not_lt_zero i))⟩] at hl
              refine jloop X hX (fun ls hl => ?_) 5 0 (by omega) (by omega) ls (lv_sub hl [1, 2, 3, 4, 5, 6, 7, 0] rfl)
              rw [← b01_cong (ledX_t c6)] at hl
              refine lv_iinc (v := nI (X + 1)) (lv' := [(6, .int (nI (X + 1))), (0, .ref h0), (1, .int (nI a)), (2, .int (nI b)), (3, .int (nI lw)), (4, .int (bm P)), (5, .int (b01 (ledX lvc tr P (X + 1))))]) hx hb dX0_isBridge_116 hl (k := 6) rfl (nI_1 X) (by decide) rfl (fun ls hl => ?_)
              refine lv_goto (tgt := 57) hx hb dX0_isBridge_119 (by decide) ?_
              exact ih (X + 1) hX (by omega) ls (lv_sub hl [1, 2, 3, 4, 5, 6, 0] rfl)
            · have c6 := b01_e c6
              rw [← b01_cong (ledX_f c6)] at hl
              refine lv_goto (tgt := 116) hx hb dX0_isBridge_74 (by decide) ?_
              refine lv_iinc (v := nI (X + 1)) (lv' := [(6, .int (nI (X + 1))), (0, .ref h0), (1, .int (nI a)), (2, .int (nI b)), (3, .int (nI lw)), (4, .int (bm P)), (5, .int (b01 (ledX lvc tr P (X + 1))))]) hx hb dX0_isBridge_116 hl (k := 6) rfl (nI_1 X) (by decide) rfl (fun ls hl => ?_)
              refine lv_goto (tgt := 57) hx hb dX0_isBridge_119 (by decide) ?_
              exact ih (X + 1) hX (by omega) ls (lv_sub hl [1, 2, 3, 4, 5, 6, 0] rfl)
      refine lv_istore (lv' := [(4, .int (bm P)), (3, .int (nI lw)), (0, .ref h0), (1, .int (nI a)), (2, .int (nI b))]) hx hb dX0_isBridge_49 hl (by decide) rfl (fun ls hl => ?_)
      refine lv_iconst (v := b01 (ledX lvc tr P 0)) hx hb dX0_isBridge_51 ((b01_f (fun ⟨x, q, _⟩ => absurd q (Nat.not_lt_zero x))).symm) ?_
      refine lv_istore (lv' := [(5, .int (b01 (ledX lvc tr P 0))), (4, .int (bm P)), (3, .int (nI lw)), (0, .ref h0), (1, .int (nI a)), (2, .int (nI b))]) hx hb dX0_isBridge_52 hl (by decide) rfl (fun ls hl => ?_)
      refine lv_iconst (v := nI 0) hx hb dX0_isBridge_54 (by decide +kernel) ?_
      refine lv_istore (lv' := [(6, .int (nI 0)), (5, .int (b01 (ledX lvc tr P 0))), (4, .int (bm P)), (3, .int (nI lw)), (0, .ref h0), (1, .int (nI a)), (2, .int (nI b))]) hx hb dX0_isBridge_55 hl (by decide) rfl (fun ls hl => ?_)
      exact xloop 13 0 (by omega) (by omega) ls (lv_sub hl [4, 5, 6, 3, 2, 1, 0] rfl)
    · have c2 := b01_e c2
      refine lv_iconst (v := 0) hx hb dX0_isBridge_23 (by decide +kernel) ?_
      exact r_z (()) F hr hlk rfl hP hS ((b01_f (fun q => ((onP_n (Q := isBr (EE lv)) ha hb1).mp q).2 (hi_cut0 h hlw c2).2)).symm) dX0_isBridge_24

set_option maxHeartbeats 4000000 in
set_option maxRecDepth 100000 in
/-- isolate(x) -/
theorem mX_isolate (l : Launch) {D : va_G} {A : Nat → Prop} {h0 aL aZ aT aO : Nat} {cB cZ cS cI : ClassId} (hD : XD A h0 aL aZ aT aO cB cZ cS) {ec pt : Int32} {lv : Nat → Nat → Nat} {tr : Nat → Nat → Prop} (h : XI ec pt lv tr) (x : Int32) : Met l yX0_isolate (ws_ yX0_isolate cX0_isolate 4 (some .int)) (rmd 5) (cPc D (XT cB cZ cS cI) (PX h0 aL aZ aT aO cB cZ cS ec pt lv tr) [.ref h0, .int x]) (cQi D A (fun (r : Int32) (u : XS) => XI u.1 u.2.1 u.2.2.1 u.2.2.2 ∧ r = aIso (EE lv) x ∧ EE u.2.2.1 = eIso (EE lv) x) (fun (u : XS) => PX h0 aL aZ aT aO cB cZ cS u.1 u.2.1 u.2.2.1 u.2.2.2)) 0 0 A := by
  refine g_head (own := RX0) (by decide) rfl (Nat.le_of_ble_eq_true rfl) ?_
  intro p e s m below meth c ls F hx hb hr hlk _ hP hS hl
  have hl : lv_has ls 4 [(0, .ref h0), (1, .int x)] := hl
  have hg := xi_gr h
  refine lv_aload_n hx hb dX0_isolate_0 rfl (lv_at hl 0 rfl) ?_
  refine lv_iload_n hx hb dX0_isolate_1 rfl (lv_at hl 1 rfl) ?_
  refine g_calli F (mX_isPoint l hD x) (cwV 1 F.1.2.2.2.2 (lw_V q57 q59 qs1 q17 q60) rfl rfl rfl (by decide +kernel) ⟨Nat.le_of_ble_eq_true rfl, Nat.le_of_ble_eq_true rfl⟩) hP hS (fun _ h => h) (ci := 0) rfl rfl rfl hl.1 rfl (by decide) dX0_isolate_2 ⟨Nat.zero_le _, Nat.zero_le _⟩ (fun r1 u H locs h1 hP hS _ => ?_)
  have hP : va_P D vwCl (PX h0 aL aZ aT aO cB cZ cS ec pt lv tr) H := hP
  refine lv_if_ne (tgt := 10) hx hb dX0_isolate_5 (by decide) (fun c1 => ?_) (fun c1 => ?_)
  · obtain ⟨a, ha, rfl⟩ := b01_n (h1 ▸ c1)
    obtain rfl : pt = nI (prts (EE lv)) := by obtain ⟨_, _, _, _, _, q⟩ := h; exact q
    have loop : ∀ n v (u : XS), v ≤ 12 → 12 < v + n → XI u.1 u.2.1 u.2.2.1 u.2.2.2 → EE u.2.2.1 = isoE (EE lv) a v → ∀ (H : Heap) (locs : List Loc), va_P D vwCl (PX h0 aL aZ aT aO cB cZ cS u.1 u.2.1 u.2.2.1 u.2.2.2) H → va_S A s.heap H locs → ∀ ls : Array Slot, lv_has ls 4 [(0, .ref h0), (1, .int (nI a)), (2, .int (nI (prts (EE lv)))), (3, .int (nI v))] → W p l e (headSpec (ws_ yX0_isolate cX0_isolate 4 (some .int)) (rmd 5)).room s m ([.ref h0, .int (nI a)] : List Value).toArray below meth c H locs 0 0 (MQ below (cQi D A (fun (r : Int32) (u : XS) => XI u.1 u.2.1 u.2.2.1 u.2.2.2 ∧ r = aIso (EE lv) (nI a) ∧ EE u.2.2.1 = eIso (EE lv) (nI a)) (fun (u : XS) => PX h0 aL aZ aT aO cB cZ cS u.1 u.2.1 u.2.2.1 u.2.2.2)) ([.ref h0, .int (nI a)] : List Value).toArray s 0 0 A) (F0 m 17 ls []) := by
      intro n
      induction n with
      | zero => intro v u h1 h2; exact absurd h2 (by omega)
      | succ n ih =>
        intro v u hv hn hX hE H locs hP hS ls hl
        refine lv_iload_n hx hb dX0_isolate_17 rfl (lv_at hl 3 rfl) ?_
        refine lv_bipush (v := 12) hx hb dX0_isolate_18 (by decide +kernel) ?_
        refine lv_icmp_ge (tgt := 45) hx hb dX0_isolate_20 (by decide) (fun c2 => ?_) (fun c2 => ?_)
        · have e := le12 hv c2
          subst e
          rw [isoE_12 hg ha] at hE
          obtain ⟨_, k, _, _, _, ept⟩ := id hX
          rw [hE] at ept
          refine lv_aload_n hx hb dX0_isolate_45 rfl (lv_at hl 0 rfl) ?_
          refine x_get1 F hP dX0_isolate_46 ?_
          refine lv_iload_n hx hb dX0_isolate_49 rfl (lv_at hl 2 rfl) ?_
          refine lv_isub hx hb dX0_isolate_50 ?_
          exact r_i (u) F hr hlk hP hS (⟨hX, by rw [aIso_n ha, ept], hE⟩) dX0_isolate_51
        · have hv := lt12 hv c2
          refine lv_aload_n hx hb dX0_isolate_23 rfl (lv_at hl 0 rfl) ?_
          refine lv_iload_n hx hb dX0_isolate_24 rfl (lv_at hl 1 rfl) ?_
          refine lv_iload_n hx hb dX0_isolate_25 rfl (lv_at hl 3 rfl) ?_
          refine g_calli F (mX_isEdge l hD hX.1.1 (xi_le hX) (nI a) (nI v)) (cwV 2 F.1.2.2.2.2 (lw_V q61 q62 q63 q17 q64) rfl rfl rfl (by decide +kernel) ⟨Nat.le_of_ble_eq_true rfl, Nat.le_of_ble_eq_true rfl⟩) hP hS (fun _ h => h) (ci := 0) rfl rfl rfl hl.1 rfl (by decide) dX0_isolate_26 ⟨Nat.zero_le _, Nat.zero_le _⟩ (fun r3 _u H locs h3 hP hS _ => ?_)
          have hP : va_P D vwCl (PX h0 aL aZ aT aO cB cZ cS (u.1) (u.2.1) (u.2.2.1) (u.2.2.2)) H := hP
          rw [b01_cong (onP_n ha hv), hE] at h3
          refine lv_if_eq (tgt := 39) hx hb dX0_isolate_29 (by decide) (fun c3 => ?_) (fun c3 => ?_)
          · have c3 := b01_e (h3 ▸ c3)
            refine lv_iinc (v := nI (v + 1)) (lv' := [(3, .int (nI (v + 1))), (0, .ref h0), (1, .int (nI a)), (2, .int (nI (prts (EE lv))))]) hx hb dX0_isolate_39 hl (k := 3) rfl (nI_1 v) (by decide) rfl (fun ls hl => ?_)
            refine lv_goto (tgt := 17) hx hb dX0_isolate_42 (by decide) ?_
            exact ih (v + 1) u hv (by omega) hX (by rw [isoE_no hg c3]; exact hE) H locs hP hS ls (lv_sub hl [1, 2, 3, 0] rfl)
          · have c3 := b01_n (h3 ▸ c3)
            refine lv_aload_n hx hb dX0_isolate_32 rfl (lv_at hl 0 rfl) ?_
            refine lv_iload_n hx hb dX0_isolate_33 rfl (lv_at hl 1 rfl) ?_
            refine lv_iload_n hx hb dX0_isolate_34 rfl (lv_at hl 3 rfl) ?_
            refine g_calli F (mX_cut l hD hX (nI a) (nI v)) (cwV 2 F.1.2.2.2.2 (lw_V q131 q78 q79 q17 q80) rfl rfl rfl (by decide +kernel) ⟨Nat.le_of_ble_eq_true rfl, Nat.le_of_ble_eq_true rfl⟩) hP hS (fun _ h => h) (ci := 0) rfl rfl rfl hl.1 rfl (by decide) dX0_isolate_35 ⟨Nat.zero_le _, Nat.zero_le _⟩ (fun r4 u4 H locs h4 hP hS _ => ?_)
            have hP : va_P D vwCl (PX h0 aL aZ aT aO cB cZ cS (u4.1) (u4.2.1) (u4.2.2.1) (u4.2.2.2)) H := hP
            refine lv_pop hx hb dX0_isolate_38 rfl ?_
            refine lv_iinc (v := nI (v + 1)) (lv' := [(3, .int (nI (v + 1))), (0, .ref h0), (1, .int (nI a)), (2, .int (nI (prts (EE lv))))]) hx hb dX0_isolate_39 hl (k := 3) rfl (nI_1 v) (by decide) rfl (fun ls hl => ?_)
            refine lv_goto (tgt := 17) hx hb dX0_isolate_42 (by decide) ?_
            exact ih (v + 1) u4 hv (by omega) h4.1 (by rw [h4.2.2, hE, eCut_n (isoE_gr hg a v) ha hv, isoE_dl hg]) H locs hP hS ls (lv_sub hl [1, 2, 3, 0] rfl)
    refine lv_aload_n hx hb dX0_isolate_10 rfl (lv_at hl 0 rfl) ?_
    refine x_get1 F hP dX0_isolate_11 ?_
    refine lv_istore_n (lv' := [(2, .int (nI (prts (EE lv)))), (0, .ref h0), (1, .int (nI a))]) hx hb dX0_isolate_14 rfl hl (by decide) rfl (fun ls hl => ?_)
    refine lv_iconst (v := nI 0) hx hb dX0_isolate_15 (by decide +kernel) ?_
    refine lv_istore_n (lv' := [(3, .int (nI 0)), (2, .int (nI (prts (EE lv)))), (0, .ref h0), (1, .int (nI a))]) hx hb dX0_isolate_16 rfl hl (by decide) rfl (fun ls hl => ?_)
    exact loop 13 0 (ec, nI (prts (EE lv)), lv, tr) (by omega) (by omega) h (isoE_0 _ a).symm H locs hP hS ls (lv_sub hl [2, 3, 1, 0] rfl)
  · have c1 := b01_e (h1 ▸ c1)
    refine lv_iconst (v := (-1)) hx hb dX0_isolate_8 (by decide +kernel) ?_
    exact r_i (ec, pt, lv, tr) F hr hlk hP hS (⟨h, (aIso_b c1).symm, (eIso_no hg c1).symm⟩) dX0_isolate_9
end
section
/-! LevelForestsModel: the leaves -/
theorem n11 : (11 : Int32) = nI 11 := by decide +kernel
theorem ispt_big' {x : Int32} (h : (11 : Int32) < x) : ¬ ispt x := by
  rintro ⟨j, hj, rfl⟩
  rw [n11] at h
  exact nI_nlt (a := 11) (b := j) (by omega) (by omega) h
theorem ispt_in' {x : Int32} (h1 : ¬ x < 0) (h2 : ¬ (11 : Int32) < x) : ispt x := by
  rcases pk_ix x (n := 12) (by omega) with h | h | h
  · exact absurd h h1
  · refine absurd ?_ h2
    rw [Int32.le_iff_toInt_le, nI_toInt (by omega)] at h
    rw [n11, Int32.lt_iff_toInt_lt, nI_toInt (by omega)]
    omega
  · exact h
theorem fN_put {E : Nat → Nat → Prop} {a b : Nat} (hab : a ≠ b) : upd (upd (fN E) a (bm (fun y => E a y ∨ y = b))) b (bm (fun y => E b y ∨ y = a)) = fN (ad E a b) := by
  funext k
  by_cases q2 : k = b
  · rw [q2, upd_in]
    exact bm_cong fun y _ => ⟨fun q => q.elim Or.inl (fun z => Or.inr (Or.inr ⟨rfl, z⟩)), fun q => q.elim Or.inl (fun z => z.elim (fun z => absurd z.1.symm hab) (fun z => Or.inr z.2))⟩
  · rw [upd_out q2]
    by_cases q1 : k = a
    · rw [q1, upd_in]
      exact bm_cong fun y _ => ⟨fun q => q.elim Or.inl (fun z => Or.inr (Or.inl ⟨rfl, z⟩)), fun q => q.elim Or.inl (fun z => z.elim (fun z => Or.inr z.2) (fun z => absurd z.1 hab))⟩
    · rw [upd_out q1]
      exact bm_cong fun y _ => ⟨Or.inl, fun q => q.elim id (fun z => z.elim (fun z => absurd z.1 q1) (fun z => absurd z.1 q2))⟩
theorem fN_take {E : Nat → Nat → Prop} {a b : Nat} (hab : a ≠ b) : upd (upd (fN E) a (bm (fun y => E a y ∧ ¬ y = b))) b (bm (fun y => E b y ∧ ¬ y = a)) = fN (dl E a b) := by
  funext k
  by_cases q2 : k = b
  · rw [q2, upd_in]
    exact bm_cong fun y _ => ⟨fun q => ⟨q.1, fun z => hab z.1.symm, fun z => q.2 z.2⟩, fun q => ⟨q.1, fun z => q.2.2 ⟨rfl, z⟩⟩⟩
  · rw [upd_out q2]
    by_cases q1 : k = a
    · rw [q1, upd_in]
      exact bm_cong fun y _ => ⟨fun q => ⟨q.1, fun z => q.2 z.2, fun z => hab z.1⟩, fun q => ⟨q.1, fun z => q.2.1 ⟨rfl, z⟩⟩⟩
    · rw [upd_out q1]
      exact bm_cong fun y _ => ⟨fun q => ⟨q, fun z => q1 z.1, fun z => q2 z.1⟩, fun q => q.1⟩
theorem fN_at (E : Nat → Nat → Prop) (k : Nat) : fN E k = bm (E k) := rfl

set_option maxHeartbeats 4000000 in
set_option maxRecDepth 100000 in
theorem mM_isPoint (l : Launch) {D : va_G} {A : Nat → Prop} {h1 aN aK : Nat} {cB cZ cS cI : ClassId} (hD : MD A h1 aN aK cI) {E : Nat → Nat → Prop} {gK : Nat → Int32} (x : Int32) : Met l yX1_isPoint (ws_ yX1_isPoint cX1_isPoint 2 (some .boolean)) (rmd 0) (cPc D (XT cB cZ cS cI) (PM h1 aN aK cI E gK) [.ref h1, .int x]) (cQi D A (fun (r : Int32) (u : Unit) => r = b01 (ispt x)) (fun (u : Unit) => PM h1 aN aK cI E gK)) 0 0 A := by
  refine g_head (own := RX1) (by decide) rfl (Nat.le_of_ble_eq_true rfl) ?_
  intro p e s m below meth c ls F hx hb hr hlk _ hP hS hl
  have hl : lv_has ls 2 [(0, .ref h1), (1, .int x)] := hl
  refine lv_iload_n hx hb dX1_isPoint_0 rfl (lv_at hl 1 rfl) ?_
  refine lv_if_lt (tgt := 14) hx hb dX1_isPoint_1 (by decide) (fun c1 => ?_) (fun c1 => ?_)
  · refine lv_iconst (v := 0) hx hb dX1_isPoint_14 (by decide +kernel) ?_
    exact r_z (()) F hr hlk rfl hP hS ((b01_f (ispt_neg c1)).symm) dX1_isPoint_15
  · refine lv_iload_n hx hb dX1_isPoint_4 rfl (lv_at hl 1 rfl) ?_
    refine lv_bipush (v := 11) hx hb dX1_isPoint_5 (by decide +kernel) ?_
    refine lv_icmp_gt (tgt := 14) hx hb dX1_isPoint_7 (by decide) (fun c2 => ?_) (fun c2 => ?_)
    · refine lv_iconst (v := 0) hx hb dX1_isPoint_14 (by decide +kernel) ?_
      exact r_z (()) F hr hlk rfl hP hS ((b01_f (ispt_big' c2)).symm) dX1_isPoint_15
    · refine lv_iconst (v := 1) hx hb dX1_isPoint_10 (by decide +kernel) ?_
      refine lv_goto (tgt := 15) hx hb dX1_isPoint_11 (by decide) ?_
      exact r_z (()) F hr hlk rfl hP hS ((b01_t (ispt_in' c1 c2)).symm) dX1_isPoint_15

set_option maxHeartbeats 4000000 in
set_option maxRecDepth 100000 in
theorem mM_in (l : Launch) {D : va_G} {A : Nat → Prop} {h1 aN aK : Nat} {cB cZ cS cI : ClassId} (hD : MD A h1 aN aK cI) {E : Nat → Nat → Prop} {gK : Nat → Int32} (P : Nat → Prop) {a : Nat} (ha : a < 12) : Met l yX1_in (ws_ yX1_in cX1_in 3 (some .boolean)) (rmd 0) (cPc D (XT cB cZ cS cI) (PM h1 aN aK cI E gK) [.ref h1, .int (bm P), .int (nI a)]) (cQi D A (fun (r : Int32) (u : Unit) => r = b01 (P a)) (fun (u : Unit) => PM h1 aN aK cI E gK)) 0 0 A := by
  refine g_head (own := RX1) (by decide) rfl (Nat.le_of_ble_eq_true rfl) ?_
  intro p e s m below meth c ls F hx hb hr hlk _ hP hS hl
  have hl : lv_has ls 3 [(0, .ref h1), (1, .int (bm P)), (2, .int (nI a))] := hl
  refine lv_iload_n hx hb dX1_in_0 rfl (lv_at hl 1 rfl) ?_
  refine lv_iload_n hx hb dX1_in_1 rfl (lv_at hl 2 rfl) ?_
  refine lv_ishr hx hb dX1_in_2 ?_
  refine lv_iconst (v := 1) hx hb dX1_in_3 (by decide +kernel) ?_
  refine lv_iand hx hb dX1_in_4 ?_
  refine g_top (y := b01 (P a)) (bm_bit P ha) ?_
  refine lv_iconst (v := 1) hx hb dX1_in_5 (by decide +kernel) ?_
  refine lv_icmp_ne (tgt := 13) hx hb dX1_in_6 (by decide) (fun c1 => ?_) (fun c1 => ?_)
  · refine lv_iconst (v := 0) hx hb dX1_in_13 (by decide +kernel) ?_
    exact r_z (()) F hr hlk rfl hP hS ((b01_f (fun q => c1 (b01_t q))).symm) dX1_in_14
  · refine lv_iconst (v := 1) hx hb dX1_in_9 (by decide +kernel) ?_
    refine lv_goto (tgt := 14) hx hb dX1_in_10 (by decide) ?_
    exact r_z (()) F hr hlk rfl hP hS ((b01_t (b01_1.mp (Classical.byContradiction (fun q => q c1)))).symm) dX1_in_14

set_option maxHeartbeats 4000000 in
set_option maxRecDepth 100000 in
theorem mM_sizeOf (l : Launch) {D : va_G} {A : Nat → Prop} {h1 aN aK : Nat} {cB cZ cS cI : ClassId} (hD : MD A h1 aN aK cI) {E : Nat → Nat → Prop} {gK : Nat → Int32} (P : Nat → Prop) : Met l yX1_sizeOf (ws_ yX1_sizeOf cX1_sizeOf 4 (some .int)) (rmd 1) (cPc D (XT cB cZ cS cI) (PM h1 aN aK cI E gK) [.ref h1, .int (bm P)]) (cQi D A (fun (r : Int32) (u : Unit) => r = nI (ctP P 12)) (fun (u : Unit) => PM h1 aN aK cI E gK)) 0 0 A := by
  refine g_head (own := RX1) (by decide) rfl (Nat.le_of_ble_eq_true rfl) ?_
  intro p e s m below meth c ls F hx hb hr hlk _ hP hS hl
  have hl : lv_has ls 4 [(0, .ref h1), (1, .int (bm P))] := hl
  have loop : ∀ n k, k ≤ 12 → 12 < k + n → ∀ (H : Heap) (locs : List Loc), va_P D vwCl (PM h1 aN aK cI E gK) H → va_S A s.heap H locs → ∀ ls : Array Slot, lv_has ls 4 [(0, .ref h1), (1, .int (bm P)), (2, .int (nI (ctP P k))), (3, .int (nI k))] → W p l e (headSpec (ws_ yX1_sizeOf cX1_sizeOf 4 (some .int)) (rmd 1)).room s m ([.ref h1, .int (bm P)] : List Value).toArray below meth c H locs 0 0 (MQ below (cQi D A (fun (r : Int32) (u : Unit) => r = nI (ctP P 12)) (fun (u : Unit) => PM h1 aN aK cI E gK)) ([.ref h1, .int (bm P)] : List Value).toArray s 0 0 A) (F0 m 4 ls []) := by
    intro n
    induction n with
    | zero => intro k h1 h2; exact absurd h2 (by omega)
    | succ n ih =>
      intro k hk hn H locs hP hS ls hl
      refine lv_iload_n hx hb dX1_sizeOf_4 rfl (lv_at hl 3 rfl) ?_
      refine lv_bipush (v := 12) hx hb dX1_sizeOf_5 (by decide +kernel) ?_
      refine lv_icmp_ge (tgt := 28) hx hb dX1_sizeOf_7 (by decide) (fun c1 => ?_) (fun c1 => ?_)
      · have e := le12 hk c1
        subst e
        refine lv_iload_n hx hb dX1_sizeOf_28 rfl (lv_at hl 2 rfl) ?_
        exact r_i (()) F hr hlk hP hS (rfl) dX1_sizeOf_29
      · have hk := lt12 hk c1
        refine lv_aload_n hx hb dX1_sizeOf_10 rfl (lv_at hl 0 rfl) ?_
        refine lv_iload_n hx hb dX1_sizeOf_11 rfl (lv_at hl 1 rfl) ?_
        refine lv_iload_n hx hb dX1_sizeOf_12 rfl (lv_at hl 3 rfl) ?_
        refine g_calli F (mM_in l hD P hk) (cwV 2 F.1.2.2.2.2 (lw_V q158 q160 qs11 q18 q161) rfl rfl rfl (by decide +kernel) ⟨Nat.le_of_ble_eq_true rfl, Nat.le_of_ble_eq_true rfl⟩) hP hS (fun _ h => h) (ci := 1) rfl rfl rfl hl.1 rfl (by decide) dX1_sizeOf_13 ⟨Nat.zero_le _, Nat.zero_le _⟩ (fun r1 u H locs q1 hP hS _ => ?_)
        have hP : va_P D vwCl (PM h1 aN aK cI E gK) H := hP
        refine lv_if_eq (tgt := 22) hx hb dX1_sizeOf_16 (by decide) (fun c2 => ?_) (fun c2 => ?_)
        · have c2 := b01_e (q1 ▸ c2)
          rw [← ctP_f c2] at hl
          refine lv_iinc (v := nI (k + 1)) (lv' := [(3, .int (nI (k + 1))), (0, .ref h1), (1, .int (bm P)), (2, .int (nI (ctP P (k + 1))))]) hx hb dX1_sizeOf_22 hl (k := 3) rfl (nI_1 k) (by decide) rfl (fun ls hl => ?_)
          refine lv_goto (tgt := 4) hx hb dX1_sizeOf_25 (by decide) ?_
          exact ih (k + 1) hk (by omega) H locs hP hS ls (lv_sub hl [1, 2, 3, 0] rfl)
        · have c2 := b01_n (q1 ▸ c2)
          refine lv_iinc (v := nI (ctP P (k + 1))) (lv' := [(2, .int (nI (ctP P (k + 1)))), (0, .ref h1), (1, .int (bm P)), (3, .int (nI k))]) hx hb dX1_sizeOf_19 hl (k := 2) rfl ((nI_1 _).trans (by rw [ctP_t c2])) (by decide) rfl (fun ls hl => ?_)
          refine lv_iinc (v := nI (k + 1)) (lv' := [(3, .int (nI (k + 1))), (2, .int (nI (ctP P (k + 1)))), (0, .ref h1), (1, .int (bm P))]) hx hb dX1_sizeOf_22 hl (k := 3) rfl (nI_1 k) (by decide) rfl (fun ls hl => ?_)
          refine lv_goto (tgt := 4) hx hb dX1_sizeOf_25 (by decide) ?_
          exact ih (k + 1) hk (by omega) H locs hP hS ls (lv_sub hl [2, 3, 1, 0] rfl)
  refine lv_iconst (v := nI (ctP P 0)) hx hb dX1_sizeOf_0 (rfl) ?_
  refine lv_istore_n (lv' := [(2, .int (nI (ctP P 0))), (0, .ref h1), (1, .int (bm P))]) hx hb dX1_sizeOf_1 rfl hl (by decide) rfl (fun ls hl => ?_)
  refine lv_iconst (v := nI 0) hx hb dX1_sizeOf_2 (by decide +kernel) ?_
  refine lv_istore_n (lv' := [(3, .int (nI 0)), (2, .int (nI (ctP P 0))), (0, .ref h1), (1, .int (bm P))]) hx hb dX1_sizeOf_3 rfl hl (by decide) rfl (fun ls hl => ?_)
  exact loop 13 0 (by omega) (by omega) s.heap [] hP hS ls (lv_sub hl [2, 3, 1, 0] rfl)

set_option maxHeartbeats 4000000 in
set_option maxRecDepth 100000 in
theorem mM_walk (l : Launch) {D : va_G} {A : Nat → Prop} {h1 aN aK : Nat} {cB cZ cS cI : ClassId} (hD : MD A h1 aN aK cI) {E : Nat → Nat → Prop} {gK : Nat → Int32} {a : Nat} (hg : gr E) (ha : a < 12) : Met l yX1_walk (ws_ yX1_walk cX1_walk 5 (some .int)) (rmd 1) (cPc D (XT cB cZ cS cI) (PM h1 aN aK cI E gK) [.ref h1, .int (nI a)]) (cQi D A (fun (r : Int32) (u : Unit) => r = bm (cn E a)) (fun (u : Unit) => PM h1 aN aK cI E gK)) 0 0 A := by
  refine g_head (own := RX1) (by decide) rfl (Nat.le_of_ble_eq_true rfl) ?_
  intro p e s m below meth c ls F hx hb hr hlk _ hP hS hl
  have hl : lv_has ls 5 [(0, .ref h1), (1, .int (nI a))] := hl
  have uloop : ∀ (P0 : Nat → Prop) (rd : Nat), (∀ P, WU E a P0 P 12 → ∀ (H : Heap) (locs : List Loc), va_P D vwCl (PM h1 aN aK cI E gK) H → va_S A s.heap H locs → ∀ ls : Array Slot, lv_has ls 5 [(0, .ref h1), (1, .int (nI a)), (2, .int (bm P)), (3, .int (nI rd))] → W p l e (headSpec (ws_ yX1_walk cX1_walk 5 (some .int)) (rmd 1)).room s m ([.ref h1, .int (nI a)] : List Value).toArray below meth c H locs 0 0 (MQ below (cQi D A (fun (r : Int32) (u : Unit) => r = bm (cn E a)) (fun (u : Unit) => PM h1 aN aK cI E gK)) ([.ref h1, .int (nI a)] : List Value).toArray s 0 0 A) (F0 m 48 ls [])) → ∀ n u P, u ≤ 12 → 12 < u + n → WU E a P0 P u → ∀ (H : Heap) (locs : List Loc), va_P D vwCl (PM h1 aN aK cI E gK) H → va_S A s.heap H locs → ∀ ls : Array Slot, lv_has ls 5 [(0, .ref h1), (1, .int (nI a)), (2, .int (bm P)), (3, .int (nI rd)), (4, .int (nI u))] → W p l e (headSpec (ws_ yX1_walk cX1_walk 5 (some .int)) (rmd 1)).room s m ([.ref h1, .int (nI a)] : List Value).toArray below meth c H locs 0 0 (MQ below (cQi D A (fun (r : Int32) (u : Unit) => r = bm (cn E a)) (fun (u : Unit) => PM h1 aN aK cI E gK)) ([.ref h1, .int (nI a)] : List Value).toArray s 0 0 A) (F0 m 15 ls []) := by
    intro P0 rd kont n
    induction n with
    | zero => intro u P h1 h2; exact absurd h2 (by omega)
    | succ n ih =>
      intro u P hu hn hU H locs hP hS ls hl
      refine lv_iload hx hb dX1_walk_15 (lv_at hl 4 rfl) ?_
      refine lv_bipush (v := 12) hx hb dX1_walk_17 (by decide +kernel) ?_
      refine lv_icmp_ge (tgt := 48) hx hb dX1_walk_19 (by decide) (fun c1 => ?_) (fun c1 => ?_)
      · have e := le12 hu c1
        subst e
        exact kont P hU H locs hP hS ls (lv_sub hl [0, 1, 2, 3] rfl)
      · have hu := lt12 hu c1
        refine lv_aload_n hx hb dX1_walk_22 rfl (lv_at hl 0 rfl) ?_
        refine lv_iload_n hx hb dX1_walk_23 rfl (lv_at hl 2 rfl) ?_
        refine lv_iload hx hb dX1_walk_24 (lv_at hl 4 rfl) ?_
        refine g_calli F (mM_in l hD P hu) (cwV 2 F.1.2.2.2.2 (lw_V q158 q160 qs11 q18 q161) rfl rfl rfl (by decide +kernel) ⟨Nat.le_of_ble_eq_true rfl, Nat.le_of_ble_eq_true rfl⟩) hP hS (fun _ h => h) (ci := 1) rfl rfl rfl hl.1 rfl (by decide) dX1_walk_26 ⟨Nat.zero_le _, Nat.zero_le _⟩ (fun r1 _v H locs q1 hP hS _ => ?_)
        have hP : va_P D vwCl (PM h1 aN aK cI E gK) H := hP
        refine lv_if_eq (tgt := 42) hx hb dX1_walk_29 (by decide) (fun c2 => ?_) (fun c2 => ?_)
        · have c2 := b01_e (q1 ▸ c2)
          refine lv_iinc (v := nI (u + 1)) (lv' := [(4, .int (nI (u + 1))), (0, .ref h1), (1, .int (nI a)), (2, .int (bm P)), (3, .int (nI rd))]) hx hb dX1_walk_42 hl (k := 4) rfl (nI_1 u) (by decide) rfl (fun ls hl => ?_)
          refine lv_goto (tgt := 15) hx hb dX1_walk_45 (by decide) ?_
          exact ih (u + 1) P hu (by omega) (wu_f hU c2) H locs hP hS ls (lv_sub hl [1, 2, 3, 4, 0] rfl)
        · have c2 := b01_n (q1 ▸ c2)
          refine lv_iload_n hx hb dX1_walk_32 rfl (lv_at hl 2 rfl) ?_
          refine lv_aload_n hx hb dX1_walk_33 rfl (lv_at hl 0 rfl) ?_
          refine m_get0 F hP dX1_walk_34 ?_
          refine lv_iload hx hb dX1_walk_37 (lv_at hl 4 rfl) ?_
          refine m_ldN (v := bm (E u)) F hP (rfl) (hu) (rfl) dX1_walk_39 ?_
          refine lv_ior hx hb dX1_walk_40 ?_
          refine g_top (y := bm (fun y => P y ∨ E u y)) (bm_or _ _) ?_
          refine lv_istore_n (lv' := [(2, .int (bm (fun y => P y ∨ E u y))), (0, .ref h1), (1, .int (nI a)), (3, .int (nI rd)), (4, .int (nI u))]) hx hb dX1_walk_41 rfl hl (by decide) rfl (fun ls hl => ?_)
          refine lv_iinc (v := nI (u + 1)) (lv' := [(4, .int (nI (u + 1))), (2, .int (bm (fun y => P y ∨ E u y))), (0, .ref h1), (1, .int (nI a)), (3, .int (nI rd))]) hx hb dX1_walk_42 hl (k := 4) rfl (nI_1 u) (by decide) rfl (fun ls hl => ?_)
          refine lv_goto (tgt := 15) hx hb dX1_walk_45 (by decide) ?_
          exact ih (u + 1) _ hu (by omega) (wu_t hU c2) H locs hP hS ls (lv_sub hl [2, 3, 1, 4, 0] rfl)
  have rloop : ∀ n rd P, rd ≤ 12 → 12 < rd + n → WI E a P rd → ∀ (H : Heap) (locs : List Loc), va_P D vwCl (PM h1 aN aK cI E gK) H → va_S A s.heap H locs → ∀ ls : Array Slot, lv_has ls 5 [(0, .ref h1), (1, .int (nI a)), (2, .int (bm P)), (3, .int (nI rd))] → W p l e (headSpec (ws_ yX1_walk cX1_walk 5 (some .int)) (rmd 1)).room s m ([.ref h1, .int (nI a)] : List Value).toArray below meth c H locs 0 0 (MQ below (cQi D A (fun (r : Int32) (u : Unit) => r = bm (cn E a)) (fun (u : Unit) => PM h1 aN aK cI E gK)) ([.ref h1, .int (nI a)] : List Value).toArray s 0 0 A) (F0 m 6 ls []) := by
    intro n
    induction n with
    | zero => intro rd P h1 h2; exact absurd h2 (by omega)
    | succ n ih =>
      intro rd P hr1 hn hI H locs hP hS ls hl
      refine lv_iload_n hx hb dX1_walk_6 rfl (lv_at hl 3 rfl) ?_
      refine lv_bipush (v := 12) hx hb dX1_walk_7 (by decide +kernel) ?_
      refine lv_icmp_ge (tgt := 54) hx hb dX1_walk_9 (by decide) (fun c1 => ?_) (fun c1 => ?_)
      · have e := le12 hr1 c1
        subst e
        refine lv_iload_n hx hb dX1_walk_54 rfl (lv_at hl 2 rfl) ?_
        exact r_i (()) F hr hlk hP hS (bm_cong fun y _ => wi_end hI y) dX1_walk_55
      · have hr1 := lt12 hr1 c1
        refine lv_iconst (v := nI 0) hx hb dX1_walk_12 (by decide +kernel) ?_
        refine lv_istore (lv' := [(4, .int (nI 0)), (0, .ref h1), (1, .int (nI a)), (2, .int (bm P)), (3, .int (nI rd))]) hx hb dX1_walk_13 hl (by decide) rfl (fun ls hl => ?_)
        refine uloop P rd (fun P1 hU H locs hP hS ls hl => ?_) 13 0 P (by omega) (by omega) (wu_0 hI) H locs hP hS ls (lv_sub hl [1, 2, 3, 4, 0] rfl)
        refine lv_iinc (v := nI (rd + 1)) (lv' := [(3, .int (nI (rd + 1))), (0, .ref h1), (1, .int (nI a)), (2, .int (bm P1))]) hx hb dX1_walk_48 hl (k := 3) rfl (nI_1 rd) (by decide) rfl (fun ls hl => ?_)
        refine lv_goto (tgt := 6) hx hb dX1_walk_51 (by decide) ?_
        exact ih (rd + 1) P1 hr1 (by omega) (wu_end hg.2.1 (fun x y q => gr_y hg q) hI hU) H locs hP hS ls (lv_sub hl [1, 2, 3, 0] rfl)
  refine lv_iconst (v := 1) hx hb dX1_walk_0 (by decide +kernel) ?_
  refine lv_iload_n hx hb dX1_walk_1 rfl (lv_at hl 1 rfl) ?_
  refine lv_ishl hx hb dX1_walk_2 ?_
  refine g_top (y := bm (fun y => y = a)) (bm_one ha) ?_
  refine lv_istore_n (lv' := [(2, .int (bm (fun y => y = a))), (0, .ref h1), (1, .int (nI a))]) hx hb dX1_walk_3 rfl hl (by decide) rfl (fun ls hl => ?_)
  refine lv_iconst (v := nI 0) hx hb dX1_walk_4 (by decide +kernel) ?_
  refine lv_istore_n (lv' := [(3, .int (nI 0)), (2, .int (bm (fun y => y = a))), (0, .ref h1), (1, .int (nI a))]) hx hb dX1_walk_5 rfl hl (by decide) rfl (fun ls hl => ?_)
  exact rloop 13 0 _ (by omega) (by omega) (wi_0 ha) s.heap [] hP hS ls (lv_sub hl [2, 3, 1, 0] rfl)

set_option maxHeartbeats 4000000 in
set_option maxRecDepth 100000 in
theorem mM_put (l : Launch) {D : va_G} {A : Nat → Prop} {h1 aN aK : Nat} {cB cZ cS cI : ClassId} (hD : MD A h1 aN aK cI) {E : Nat → Nat → Prop} {gK : Nat → Int32} {a b : Nat} (ha : a < 12) (hb1 : b < 12) (hab : a ≠ b) : Met l yX1_put (ws_ yX1_put cX1_put 3 none) (rmd 0) (cPc D (XT cB cZ cS cI) (PM h1 aN aK cI E gK) [.ref h1, .int (nI a), .int (nI b)]) (cQv D A (fun (u : Unit) => True) (fun (u : Unit) => PM h1 aN aK cI (ad E a b) gK)) 0 0 A := by
  refine g_head (own := RX1) (by decide) rfl (Nat.le_of_ble_eq_true rfl) ?_
  intro p e s m below meth c ls F hx hb hr hlk _ hP hS hl
  have hl : lv_has ls 3 [(0, .ref h1), (1, .int (nI a)), (2, .int (nI b))] := hl
  refine lv_aload_n hx hb dX1_put_0 rfl (lv_at hl 0 rfl) ?_
  refine m_get0 F hP dX1_put_1 ?_
  refine lv_iload_n hx hb dX1_put_4 rfl (lv_at hl 1 rfl) ?_
  refine lv_aload_n hx hb dX1_put_5 rfl (lv_at hl 0 rfl) ?_
  refine m_get0 F hP dX1_put_6 ?_
  refine lv_iload_n hx hb dX1_put_9 rfl (lv_at hl 1 rfl) ?_
  refine m_ldN (v := bm (E a)) F hP (rfl) (ha) (rfl) dX1_put_10 ?_
  refine lv_iconst (v := 1) hx hb dX1_put_11 (by decide +kernel) ?_
  refine lv_iload_n hx hb dX1_put_12 rfl (lv_at hl 2 rfl) ?_
  refine lv_ishl hx hb dX1_put_13 ?_
  refine g_top (y := bm (fun y => y = b)) (bm_one hb1) ?_
  refine lv_ior hx hb dX1_put_14 ?_
  refine g_top (y := bm (fun y => E a y ∨ y = b)) (bm_or _ _) ?_
  refine m_stN F hD hP hS (k := a) (v := bm (fun y => E a y ∨ y = b)) (rfl) (ha) (rfl) dX1_put_15 (fun H locs hP hS => ?_)
  have hP : va_P D vwCl (PMr h1 aN aK cI (upd (fN E) (a) (bm (fun y => E a y ∨ y = b))) gK) H := hP
  refine lv_aload_n hx hb dX1_put_16 rfl (lv_at hl 0 rfl) ?_
  refine m_get0 F hP dX1_put_17 ?_
  refine lv_iload_n hx hb dX1_put_20 rfl (lv_at hl 2 rfl) ?_
  refine lv_aload_n hx hb dX1_put_21 rfl (lv_at hl 0 rfl) ?_
  refine m_get0 F hP dX1_put_22 ?_
  refine lv_iload_n hx hb dX1_put_25 rfl (lv_at hl 2 rfl) ?_
  refine m_ldN (v := bm (E b)) F hP (rfl) (hb1) (upd_out (fun q => hab q.symm)) dX1_put_26 ?_
  refine lv_iconst (v := 1) hx hb dX1_put_27 (by decide +kernel) ?_
  refine lv_iload_n hx hb dX1_put_28 rfl (lv_at hl 1 rfl) ?_
  refine lv_ishl hx hb dX1_put_29 ?_
  refine g_top (y := bm (fun y => y = a)) (bm_one ha) ?_
  refine lv_ior hx hb dX1_put_30 ?_
  refine g_top (y := bm (fun y => E b y ∨ y = a)) (bm_or _ _) ?_
  refine m_stN F hD hP hS (k := b) (v := bm (fun y => E b y ∨ y = a)) (rfl) (hb1) (rfl) dX1_put_31 (fun H locs hP hS => ?_)
  have hP : va_P D vwCl (PMr h1 aN aK cI (upd (upd (fN E) (a) (bm (fun y => E a y ∨ y = b))) (b) (bm (fun y => E b y ∨ y = a))) gK) H := hP
  rw [fN_put hab] at hP
  exact r_v (()) F hr hlk hP hS (trivial) dX1_put_32

set_option maxHeartbeats 4000000 in
set_option maxRecDepth 100000 in
theorem mM_take (l : Launch) {D : va_G} {A : Nat → Prop} {h1 aN aK : Nat} {cB cZ cS cI : ClassId} (hD : MD A h1 aN aK cI) {E : Nat → Nat → Prop} {gK : Nat → Int32} {a b : Nat} (ha : a < 12) (hb1 : b < 12) (hab : a ≠ b) : Met l yX1_take (ws_ yX1_take cX1_take 3 none) (rmd 0) (cPc D (XT cB cZ cS cI) (PM h1 aN aK cI E gK) [.ref h1, .int (nI a), .int (nI b)]) (cQv D A (fun (u : Unit) => True) (fun (u : Unit) => PM h1 aN aK cI (dl E a b) gK)) 0 0 A := by
  refine g_head (own := RX1) (by decide) rfl (Nat.le_of_ble_eq_true rfl) ?_
  intro p e s m below meth c ls F hx hb hr hlk _ hP hS hl
  have hl : lv_has ls 3 [(0, .ref h1), (1, .int (nI a)), (2, .int (nI b))] := hl
  refine lv_aload_n hx hb dX1_take_0 rfl (lv_at hl 0 rfl) ?_
  refine m_get0 F hP dX1_take_1 ?_
  refine lv_iload_n hx hb dX1_take_4 rfl (lv_at hl 1 rfl) ?_
  refine lv_aload_n hx hb dX1_take_5 rfl (lv_at hl 0 rfl) ?_
  refine m_get0 F hP dX1_take_6 ?_
  refine lv_iload_n hx hb dX1_take_9 rfl (lv_at hl 1 rfl) ?_
  refine m_ldN (v := bm (E a)) F hP (rfl) (ha) (rfl) dX1_take_10 ?_
  refine lv_iconst (v := 1) hx hb dX1_take_11 (by decide +kernel) ?_
  refine lv_iload_n hx hb dX1_take_12 rfl (lv_at hl 2 rfl) ?_
  refine lv_ishl hx hb dX1_take_13 ?_
  refine g_top (y := bm (fun y => y = b)) (bm_one hb1) ?_
  refine lv_iconst (v := (-1)) hx hb dX1_take_14 (by decide +kernel) ?_
  refine lv_ixor hx hb dX1_take_15 ?_
  refine lv_iand hx hb dX1_take_16 ?_
  refine g_top (y := bm (fun y => E a y ∧ ¬ y = b)) (bm_andn _ _) ?_
  refine m_stN F hD hP hS (k := a) (v := bm (fun y => E a y ∧ ¬ y = b)) (rfl) (ha) (rfl) dX1_take_17 (fun H locs hP hS => ?_)
  have hP : va_P D vwCl (PMr h1 aN aK cI (upd (fN E) (a) (bm (fun y => E a y ∧ ¬ y = b))) gK) H := hP
  refine lv_aload_n hx hb dX1_take_18 rfl (lv_at hl 0 rfl) ?_
  refine m_get0 F hP dX1_take_19 ?_
  refine lv_iload_n hx hb dX1_take_22 rfl (lv_at hl 2 rfl) ?_
  refine lv_aload_n hx hb dX1_take_23 rfl (lv_at hl 0 rfl) ?_
  refine m_get0 F hP dX1_take_24 ?_
  refine lv_iload_n hx hb dX1_take_27 rfl (lv_at hl 2 rfl) ?_
  refine m_ldN (v := bm (E b)) F hP (rfl) (hb1) (upd_out (fun q => hab q.symm)) dX1_take_28 ?_
  refine lv_iconst (v := 1) hx hb dX1_take_29 (by decide +kernel) ?_
  refine lv_iload_n hx hb dX1_take_30 rfl (lv_at hl 1 rfl) ?_
  refine lv_ishl hx hb dX1_take_31 ?_
  refine g_top (y := bm (fun y => y = a)) (bm_one ha) ?_
  refine lv_iconst (v := (-1)) hx hb dX1_take_32 (by decide +kernel) ?_
  refine lv_ixor hx hb dX1_take_33 ?_
  refine lv_iand hx hb dX1_take_34 ?_
  refine g_top (y := bm (fun y => E b y ∧ ¬ y = a)) (bm_andn _ _) ?_
  refine m_stN F hD hP hS (k := b) (v := bm (fun y => E b y ∧ ¬ y = a)) (rfl) (hb1) (rfl) dX1_take_35 (fun H locs hP hS => ?_)
  have hP : va_P D vwCl (PMr h1 aN aK cI (upd (upd (fN E) (a) (bm (fun y => E a y ∧ ¬ y = b))) (b) (bm (fun y => E b y ∧ ¬ y = a))) gK) H := hP
  rw [fN_take hab] at hP
  exact r_v (()) F hr hlk hP hS (trivial) dX1_take_36
end
section
/-! LevelForestsModel: the calls -/
theorem sm_step (E : Nat → Nat → Prop) (k : Nat) : nI (smN (fun u => ctP (E u) 12) k) + nI (ctP (E k) 12) = nI (smN (fun u => ctP (E u) 12) (k + 1)) := nI_add _ _
theorem smE_le (E : Nat → Nat → Prop) {k : Nat} (hk : k ≤ 12) : smN (fun u => ctP (E u) 12) k ≤ 144 := by
  have := smN_le (f := fun u => ctP (E u) 12) (b := 12) (n := k) (fun j _ => ctP_le _ _)
  have := Nat.mul_le_mul_right 12 hk
  omega
theorem lead_bm {E : Nat → Nat → Prop} (hg : gr E) {u : Nat} (hu : u < 12) : (bm (fun i => cn E u i ∧ i < u) = 0) ↔ lead E u := by
  constructor
  · intro h y hy c
    exact bm_e h y (by omega) ⟨cn_sy hg.1 c, hy⟩
  · intro h
    exact bm_z fun i _ q => h i q.2 (cn_sy hg.1 q.1)
/-- the greedy pass: edges before e have been looked at -/
def SP (E0 : Nat → Nat → Prop) (e : Nat) (E : Nat → Nat → Prop) (n : Nat) : Prop := gr E ∧ (∀ x y, cn E x y ↔ cn E0 x y) ∧ dgs E + 2 * n = dgs E0 ∧ ∀ a b, E a b → 12 * a + b < e → ¬ cn (dl E a b) a b
theorem sp_0 {E : Nat → Nat → Prop} (hg : gr E) : SP E 0 E 0 := ⟨hg, fun _ _ => Iff.rfl, by omega, fun a b _ q => absurd q (Nat.not_lt_zero _)⟩
theorem sp_no {E0 E : Nat → Nat → Prop} {e n : Nat} (h : SP E0 e E n) (k : E (e / 12) (e % 12) → ¬ cn (dl E (e / 12) (e % 12)) (e / 12) (e % 12)) : SP E0 (e + 1) E n := by
  refine ⟨h.1, h.2.1, h.2.2.1, fun a b r q => ?_⟩
  rcases Nat.lt_or_ge (12 * a + b) e with z | z
  · exact h.2.2.2 a b r z
  · have hb := gr_y h.1 r
    have e1 : e = 12 * a + b := by omega
    rw [e1, dv12 hb, md12 hb] at k
    exact k r
theorem sp_yes {E0 E : Nat → Nat → Prop} {e n : Nat} (h : SP E0 e E n) (r : E (e / 12) (e % 12)) (c : cn (dl E (e / 12) (e % 12)) (e / 12) (e % 12)) : SP E0 (e + 1) (dl E (e / 12) (e % 12)) (n + 1) := by
  have hd := dgs_dl h.1 r
  refine ⟨gr_dl _ _ h.1, fun x y => ?_, by have := h.2.2.1; omega, fun a b r1 q c1 => ?_⟩
  · rw [← h.2.1 x y]
    have := cn_adc (x := x) (y := y) c (cn_sy (dl_sy h.1.1) c)
    rw [ad_dl r (h.1.1 _ _ r)] at this
    exact this.symm
  · rcases Nat.lt_or_ge (12 * a + b) e with z | z
    · exact h.2.2.2 a b r1.1 z (cn_mo (dl_mo dl_in) c1)
    · have hb := gr_y h.1 r1.1
      have e1 : e = 12 * a + b := by omega
      rw [e1, dv12 hb, md12 hb] at r1
      exact r1.2.1 ⟨rfl, rfl⟩
theorem sp_end {E0 E : Nat → Nat → Prop} {n : Nat} (h : SP E0 144 E n) : nI n = aSpare E0 := by
  have ha : acy E := fun x y r => h.2.2.2 x y r (by have := h.1.2.1 x y r; have := gr_y h.1 r; omega)
  have h1 := forest (dgs E) E h.1 (Nat.le_refl _) ha
  have h2 := prts_cong h.2.1
  have h3 := h.2.2.1
  have h4 := prts_le E0
  unfold aSpare
  rw [n12, pk_sub h4, show dgs E0 / 2 = n + (12 - prts E0) by omega, pk_sub (by omega), show n + (12 - prts E0) - (12 - prts E0) = n by omega]
theorem sp_le {E0 E : Nat → Nat → Prop} {e n : Nat} (h : SP E0 e E n) : n ≤ 72 := by
  have := h.2.2.1
  have := dgs_le E0
  omega
/-- an array overwritten up to n -/
def cpK (g f : Nat → Int32) (n : Nat) : Nat → Int32 := fun k => if k < n then f k else g k
theorem cpK_0 (g f : Nat → Int32) : cpK g f 0 = g := by
  funext k
  exact if_neg (Nat.not_lt_zero k)
theorem cpK_s (g f : Nat → Int32) (n : Nat) : upd (cpK g f n) n (f n) = cpK g f (n + 1) := by
  funext k
  by_cases q : k = n
  · subst q
    rw [upd_in]
    exact (if_pos (by omega)).symm
  · rw [upd_out q]
    show (if k < n then f k else g k) = if k < n + 1 then f k else g k
    by_cases z : k < n
    · rw [if_pos z, if_pos (by omega)]
    · rw [if_neg z, if_neg (by omega)]
theorem cpK_in {g f : Nat → Int32} {n k : Nat} (h : k < n) : cpK g f n k = f k := if_pos h
theorem cpK_N {E E0 : Nat → Nat → Prop} (h : gr E) (h0 : gr E0) : cpK (fN E) (fN E0) 12 = fN E0 := by
  funext k
  by_cases q : k < 12
  · exact if_pos q
  · show (if k < 12 then fN E0 k else fN E k) = fN E0 k
    rw [if_neg q]
    exact bm_cong fun y _ => ⟨fun z => absurd (h.2.1 k y z) q, fun z => absurd (h0.2.1 k y z) q⟩
theorem dv_n {e : Nat} (he : e < 144) : nI e / 12 = nI (e / 12) := by rw [n12]; exact pk_div (by omega) (by omega) (by omega)
theorem md_n {e : Nat} (he : e < 144) : nI e - nI e / 12 * 12 = nI (e % 12) := by rw [n12]; exact pk_rem (by omega) (by omega) (by omega)
theorem n144 : (144 : Int32) = nI 144 := by decide +kernel
theorem le144 {k : Nat} (h : k ≤ 144) (c : (144 : Int32) ≤ nI k) : k = 144 := by
  rcases Nat.lt_or_ge k 144 with q | q
  · rw [n144] at c; exact absurd c (nI_ge q (by omega))
  · omega
theorem lt144 {k : Nat} (h : k ≤ 144) (c : ¬ (144 : Int32) ≤ nI k) : k < 144 := by
  rcases Nat.lt_or_ge k 144 with q | q
  · exact q
  · rw [n144] at c; exact absurd (nI_le q (by omega)) c

set_option maxHeartbeats 4000000 in
set_option maxRecDepth 100000 in
theorem mM_edges (l : Launch) {D : va_G} {A : Nat → Prop} {h1 aN aK : Nat} {cB cZ cS cI : ClassId} (hD : MD A h1 aN aK cI) {E : Nat → Nat → Prop} {gK : Nat → Int32}  : Met l yX1_edges (ws_ yX1_edges cX1_edges 3 (some .int)) (rmd 2) (cPc D (XT cB cZ cS cI) (PM h1 aN aK cI E gK) [.ref h1]) (cQi D A (fun (r : Int32) (u : Unit) => r = nI (dgs E / 2)) (fun (u : Unit) => PM h1 aN aK cI E gK)) 0 0 A := by
  refine g_head (own := RX1) (by decide) rfl (Nat.le_of_ble_eq_true rfl) ?_
  intro p e s m below meth c ls F hx hb hr hlk _ hP hS hl
  have hl : lv_has ls 3 [(0, .ref h1)] := hl
  have loop : ∀ n k, k ≤ 12 → 12 < k + n → ∀ (H : Heap) (locs : List Loc), va_P D vwCl (PM h1 aN aK cI E gK) H → va_S A s.heap H locs → ∀ ls : Array Slot, lv_has ls 3 [(0, .ref h1), (1, .int (nI (smN (fun u => ctP (E u) 12) k))), (2, .int (nI k))] → W p l e (headSpec (ws_ yX1_edges cX1_edges 3 (some .int)) (rmd 2)).room s m ([.ref h1] : List Value).toArray below meth c H locs 0 0 (MQ below (cQi D A (fun (r : Int32) (u : Unit) => r = nI (dgs E / 2)) (fun (u : Unit) => PM h1 aN aK cI E gK)) ([.ref h1] : List Value).toArray s 0 0 A) (F0 m 4 ls []) := by
    intro n
    induction n with
    | zero => intro k h1 h2; exact absurd h2 (by omega)
    | succ n ih =>
      intro k hk hn H locs hP hS ls hl
      refine lv_iload_n hx hb dX1_edges_4 rfl (lv_at hl 2 rfl) ?_
      refine lv_bipush (v := 12) hx hb dX1_edges_5 (by decide +kernel) ?_
      refine lv_icmp_ge (tgt := 29) hx hb dX1_edges_7 (by decide) (fun c1 => ?_) (fun c1 => ?_)
      · have e := le12 hk c1
        subst e
        have hb2 := smE_le E (Nat.le_refl 12)
        refine lv_iload_n hx hb dX1_edges_29 rfl (lv_at hl 1 rfl) ?_
        refine lv_iconst (v := 2) hx hb dX1_edges_30 (by decide +kernel) ?_
        refine lv_idiv hx hb dX1_edges_31 (by decide +kernel) ?_
        refine g_top (y := nI (dgs E / 2)) (by rw [show (2 : Int32) = nI 2 by decide +kernel]; exact pk_div (by omega) (by omega) (by omega)) ?_
        exact r_i (()) F hr hlk hP hS (rfl) dX1_edges_32
      · have hk := lt12 hk c1
        refine lv_iload_n hx hb dX1_edges_10 rfl (lv_at hl 1 rfl) ?_
        refine lv_aload_n hx hb dX1_edges_11 rfl (lv_at hl 0 rfl) ?_
        refine lv_aload_n hx hb dX1_edges_12 rfl (lv_at hl 0 rfl) ?_
        refine m_get0 F hP dX1_edges_13 ?_
        refine lv_iload_n hx hb dX1_edges_16 rfl (lv_at hl 2 rfl) ?_
        refine m_ldN (v := bm (E k)) F hP (rfl) (hk) (rfl) dX1_edges_17 ?_
        refine g_calli F (mM_sizeOf l hD (E k)) (cwV 1 F.1.2.2.2.2 (lw_V q166 q168 qs12 q18 q169) rfl rfl rfl (by decide +kernel) ⟨Nat.le_of_ble_eq_true rfl, Nat.le_of_ble_eq_true rfl⟩) hP hS (fun _ h => h) (ci := 1) rfl rfl rfl hl.1 rfl (Nat.le_of_ble_eq_true rfl) dX1_edges_18 ⟨Nat.zero_le _, Nat.zero_le _⟩ (fun r1 u H locs q1 hP hS _ => ?_)
        have hP : va_P D vwCl (PM h1 aN aK cI E gK) H := hP
        subst q1
        refine lv_iadd hx hb dX1_edges_21 ?_
        refine g_top (y := nI (smN (fun u => ctP (E u) 12) (k + 1))) (sm_step E k) ?_
        refine lv_istore_n (lv' := [(1, .int (nI (smN (fun u => ctP (E u) 12) (k + 1)))), (0, .ref h1), (2, .int (nI k))]) hx hb dX1_edges_22 rfl hl (by decide) rfl (fun ls hl => ?_)
        refine lv_iinc (v := nI (k + 1)) (lv' := [(2, .int (nI (k + 1))), (1, .int (nI (smN (fun u => ctP (E u) 12) (k + 1)))), (0, .ref h1)]) hx hb dX1_edges_23 hl (k := 2) rfl (nI_1 k) (by decide) rfl (fun ls hl => ?_)
        refine lv_goto (tgt := 4) hx hb dX1_edges_26 (by decide) ?_
        exact ih (k + 1) hk (by omega) H locs hP hS ls (lv_sub hl [2, 1, 0] rfl)
  refine lv_iconst (v := nI (smN (fun u => ctP (E u) 12) 0)) hx hb dX1_edges_0 (rfl) ?_
  refine lv_istore_n (lv' := [(1, .int (nI (smN (fun u => ctP (E u) 12) 0))), (0, .ref h1)]) hx hb dX1_edges_1 rfl hl (by decide) rfl (fun ls hl => ?_)
  refine lv_iconst (v := nI 0) hx hb dX1_edges_2 (by decide +kernel) ?_
  refine lv_istore_n (lv' := [(2, .int (nI 0)), (1, .int (nI (smN (fun u => ctP (E u) 12) 0))), (0, .ref h1)]) hx hb dX1_edges_3 rfl hl (by decide) rfl (fun ls hl => ?_)
  exact loop 13 0 (by omega) (by omega) s.heap [] hP hS ls (lv_sub hl [2, 1, 0] rfl)

set_option maxHeartbeats 4000000 in
set_option maxRecDepth 100000 in
theorem mM_connected (l : Launch) {D : va_G} {A : Nat → Prop} {h1 aN aK : Nat} {cB cZ cS cI : ClassId} (hD : MD A h1 aN aK cI) {E : Nat → Nat → Prop} {gK : Nat → Int32} (hg : gr E) (x y : Int32) : Met l yX1_connected (ws_ yX1_connected cX1_connected 4 (some .boolean)) (rmd 2) (cPc D (XT cB cZ cS cI) (PM h1 aN aK cI E gK) [.ref h1, .int x, .int y]) (cQi D A (fun (r : Int32) (u : Unit) => r = b01 (onP (cn E) x y)) (fun (u : Unit) => PM h1 aN aK cI E gK)) 0 0 A := by
  refine g_head (own := RX1) (by decide) rfl (Nat.le_of_ble_eq_true rfl) ?_
  intro p e s m below meth c ls F hx hb hr hlk _ hP hS hl
  have hl : lv_has ls 4 [(0, .ref h1), (1, .int x), (2, .int y)] := hl
  refine lv_aload_n hx hb dX1_connected_0 rfl (lv_at hl 0 rfl) ?_
  refine lv_iload_n hx hb dX1_connected_1 rfl (lv_at hl 1 rfl) ?_
  refine g_calli F (mM_isPoint l hD x) (cwV 1 F.1.2.2.2.2 (lw_V q154 q156 qs10 q18 q157) rfl rfl rfl (by decide +kernel) ⟨Nat.le_of_ble_eq_true rfl, Nat.le_of_ble_eq_true rfl⟩) hP hS (fun _ h => h) (ci := 1) rfl rfl rfl hl.1 rfl (Nat.le_of_ble_eq_true rfl) dX1_connected_2 ⟨Nat.zero_le _, Nat.zero_le _⟩ (fun r1 u H locs k1 hP hS _ => ?_)
  have hP : va_P D vwCl (PM h1 aN aK cI E gK) H := hP
  refine lv_if_eq (tgt := 16) hx hb dX1_connected_5 (by decide) (fun c1 => ?_) (fun c1 => ?_)
  · have c1 := b01_e (k1 ▸ c1)
    refine lv_iconst (v := 0) hx hb dX1_connected_16 (by decide +kernel) ?_
    exact r_z (()) F hr hlk rfl hP hS ((b01_f (onP_l c1)).symm) dX1_connected_17
  · have c1 := b01_n (k1 ▸ c1)
    refine lv_aload_n hx hb dX1_connected_8 rfl (lv_at hl 0 rfl) ?_
    refine lv_iload_n hx hb dX1_connected_9 rfl (lv_at hl 2 rfl) ?_
    refine g_calli F (mM_isPoint l hD y) (cwV 1 F.1.2.2.2.2 (lw_V q154 q156 qs10 q18 q157) rfl rfl rfl (by decide +kernel) ⟨Nat.le_of_ble_eq_true rfl, Nat.le_of_ble_eq_true rfl⟩) hP hS (fun _ h => h) (ci := 1) rfl rfl rfl hl.1 rfl (Nat.le_of_ble_eq_true rfl) dX1_connected_10 ⟨Nat.zero_le _, Nat.zero_le _⟩ (fun r2 u H locs h2 hP hS _ => ?_)
    have hP : va_P D vwCl (PM h1 aN aK cI E gK) H := hP
    refine lv_if_ne (tgt := 18) hx hb dX1_connected_13 (by decide) (fun c2 => ?_) (fun c2 => ?_)
    · obtain ⟨b, hb1, rfl⟩ := b01_n (h2 ▸ c2)
      obtain ⟨a, ha, rfl⟩ := c1
      refine lv_aload_n hx hb dX1_connected_18 rfl (lv_at hl 0 rfl) ?_
      refine lv_iload_n hx hb dX1_connected_19 rfl (lv_at hl 1 rfl) ?_
      refine g_calli F (mM_walk l hD hg ha) (cwV 1 F.1.2.2.2.2 (lw_V q174 q176 qs13 q18 q177) rfl rfl rfl (by decide +kernel) ⟨Nat.le_of_ble_eq_true rfl, Nat.le_of_ble_eq_true rfl⟩) hP hS (fun _ h => h) (ci := 1) rfl rfl rfl hl.1 rfl (Nat.le_of_ble_eq_true rfl) dX1_connected_20 ⟨Nat.zero_le _, Nat.zero_le _⟩ (fun r3 u H locs h3 hP hS _ => ?_)
      have hP : va_P D vwCl (PM h1 aN aK cI E gK) H := hP
      subst h3
      refine lv_istore_n (lv' := [(3, .int (bm (cn E a))), (0, .ref h1), (1, .int (nI a)), (2, .int (nI b))]) hx hb dX1_connected_23 rfl hl (by decide) rfl (fun ls hl => ?_)
      refine lv_aload_n hx hb dX1_connected_24 rfl (lv_at hl 1 rfl) ?_
      refine lv_iload_n hx hb dX1_connected_25 rfl (lv_at hl 0 rfl) ?_
      refine lv_iload_n hx hb dX1_connected_26 rfl (lv_at hl 3 rfl) ?_
      refine g_calli F (mM_in l hD (cn E a) hb1) (cwV 2 F.1.2.2.2.2 (lw_V q158 q160 qs11 q18 q161) rfl rfl rfl (by decide +kernel) ⟨Nat.le_of_ble_eq_true rfl, Nat.le_of_ble_eq_true rfl⟩) hP hS (fun _ h => h) (ci := 1) rfl rfl rfl hl.1 rfl (Nat.le_of_ble_eq_true rfl) dX1_connected_27 ⟨Nat.zero_le _, Nat.zero_le _⟩ (fun r4 u H locs h4 hP hS _ => ?_)
      have hP : va_P D vwCl (PM h1 aN aK cI E gK) H := hP
      subst h4
      exact r_z (()) F hr hlk (b01_nar _) hP hS ((b01_cong (onP_n ha hb1)).symm) dX1_connected_30
    · have c2 := b01_e (h2 ▸ c2)
      refine lv_iconst (v := 0) hx hb dX1_connected_16 (by decide +kernel) ?_
      exact r_z (()) F hr hlk rfl hP hS ((b01_f (onP_r c2)).symm) dX1_connected_17

set_option maxHeartbeats 4000000 in
set_option maxRecDepth 100000 in
theorem mM_part (l : Launch) {D : va_G} {A : Nat → Prop} {h1 aN aK : Nat} {cB cZ cS cI : ClassId} (hD : MD A h1 aN aK cI) {E : Nat → Nat → Prop} {gK : Nat → Int32} (hg : gr E) (x : Int32) : Met l yX1_part (ws_ yX1_part cX1_part 2 (some .int)) (rmd 2) (cPc D (XT cB cZ cS cI) (PM h1 aN aK cI E gK) [.ref h1, .int x]) (cQi D A (fun (r : Int32) (u : Unit) => r = aPart E x) (fun (u : Unit) => PM h1 aN aK cI E gK)) 0 0 A := by
  refine g_head (own := RX1) (by decide) rfl (Nat.le_of_ble_eq_true rfl) ?_
  intro p e s m below meth c ls F hx hb hr hlk _ hP hS hl
  have hl : lv_has ls 2 [(0, .ref h1), (1, .int x)] := hl
  refine lv_aload_n hx hb dX1_part_0 rfl (lv_at hl 0 rfl) ?_
  refine lv_iload_n hx hb dX1_part_1 rfl (lv_at hl 1 rfl) ?_
  refine g_calli F (mM_isPoint l hD x) (cwV 1 F.1.2.2.2.2 (lw_V q154 q156 qs10 q18 q157) rfl rfl rfl (by decide +kernel) ⟨Nat.le_of_ble_eq_true rfl, Nat.le_of_ble_eq_true rfl⟩) hP hS (fun _ h => h) (ci := 1) rfl rfl rfl hl.1 rfl (Nat.le_of_ble_eq_true rfl) dX1_part_2 ⟨Nat.zero_le _, Nat.zero_le _⟩ (fun r1 u H locs k1 hP hS _ => ?_)
  have hP : va_P D vwCl (PM h1 aN aK cI E gK) H := hP
  refine lv_if_eq (tgt := 16) hx hb dX1_part_5 (by decide) (fun c1 => ?_) (fun c1 => ?_)
  · have c1 := b01_e (k1 ▸ c1)
    refine lv_iconst (v := (-1)) hx hb dX1_part_16 (by decide +kernel) ?_
    exact r_i (()) F hr hlk hP hS ((cif_f c1).symm) dX1_part_17
  · obtain ⟨a, ha, rfl⟩ := b01_n (k1 ▸ c1)
    refine lv_aload_n hx hb dX1_part_8 rfl (lv_at hl 0 rfl) ?_
    refine lv_iload_n hx hb dX1_part_9 rfl (lv_at hl 1 rfl) ?_
    refine g_calli F (mM_walk l hD hg ha) (cwV 1 F.1.2.2.2.2 (lw_V q174 q176 qs13 q18 q177) rfl rfl rfl (by decide +kernel) ⟨Nat.le_of_ble_eq_true rfl, Nat.le_of_ble_eq_true rfl⟩) hP hS (fun _ h => h) (ci := 1) rfl rfl rfl hl.1 rfl (Nat.le_of_ble_eq_true rfl) dX1_part_10 ⟨Nat.zero_le _, Nat.zero_le _⟩ (fun r3 u H locs h3 hP hS _ => ?_)
    have hP : va_P D vwCl (PM h1 aN aK cI E gK) H := hP
    subst h3
    refine lv_goto (tgt := 17) hx hb dX1_part_13 (by decide) ?_
    exact r_i (()) F hr hlk hP hS ((aPart_n ha).symm) dX1_part_17

set_option maxHeartbeats 4000000 in
set_option maxRecDepth 100000 in
theorem mM_parts (l : Launch) {D : va_G} {A : Nat → Prop} {h1 aN aK : Nat} {cB cZ cS cI : ClassId} (hD : MD A h1 aN aK cI) {E : Nat → Nat → Prop} {gK : Nat → Int32} (hg : gr E) : Met l yX1_parts (ws_ yX1_parts cX1_parts 4 (some .int)) (rmd 2) (cPc D (XT cB cZ cS cI) (PM h1 aN aK cI E gK) [.ref h1]) (cQi D A (fun (r : Int32) (u : Unit) => r = nI (prts E)) (fun (u : Unit) => PM h1 aN aK cI E gK)) 0 0 A := by
  refine g_head (own := RX1) (by decide) rfl (Nat.le_of_ble_eq_true rfl) ?_
  intro p e s m below meth c ls F hx hb hr hlk _ hP hS hl
  have hl : lv_has ls 4 [(0, .ref h1)] := hl
  have loop : ∀ n k, k ≤ 12 → 12 < k + n → ∀ (H : Heap) (locs : List Loc), va_P D vwCl (PM h1 aN aK cI E gK) H → va_S A s.heap H locs → ∀ ls : Array Slot, lv_has ls 4 [(0, .ref h1), (1, .int (nI (ctP (lead E) k))), (2, .int (nI k))] → W p l e (headSpec (ws_ yX1_parts cX1_parts 4 (some .int)) (rmd 2)).room s m ([.ref h1] : List Value).toArray below meth c H locs 0 0 (MQ below (cQi D A (fun (r : Int32) (u : Unit) => r = nI (prts E)) (fun (u : Unit) => PM h1 aN aK cI E gK)) ([.ref h1] : List Value).toArray s 0 0 A) (F0 m 4 ls []) := by
    intro n
    induction n with
    | zero => intro k h1 h2; exact absurd h2 (by omega)
    | succ n ih =>
      intro k hk hn H locs hP hS ls hl
      refine lv_iload_n hx hb dX1_parts_4 rfl (lv_at hl 2 rfl) ?_
      refine lv_bipush (v := 12) hx hb dX1_parts_5 (by decide +kernel) ?_
      refine lv_icmp_ge (tgt := 35) hx hb dX1_parts_7 (by decide) (fun c1 => ?_) (fun c1 => ?_)
      · have e := le12 hk c1
        subst e
        refine lv_iload_n hx hb dX1_parts_35 rfl (lv_at hl 1 rfl) ?_
        exact r_i (()) F hr hlk hP hS (rfl) dX1_parts_36
      · have hk := lt12 hk c1
        refine lv_aload_n hx hb dX1_parts_10 rfl (lv_at hl 0 rfl) ?_
        refine lv_iload_n hx hb dX1_parts_11 rfl (lv_at hl 2 rfl) ?_
        refine g_calli F (mM_walk l hD hg hk) (cwV 1 F.1.2.2.2.2 (lw_V q174 q176 qs13 q18 q177) rfl rfl rfl (by decide +kernel) ⟨Nat.le_of_ble_eq_true rfl, Nat.le_of_ble_eq_true rfl⟩) hP hS (fun _ h => h) (ci := 1) rfl rfl rfl hl.1 rfl (Nat.le_of_ble_eq_true rfl) dX1_parts_12 ⟨Nat.zero_le _, Nat.zero_le _⟩ (fun r1 u H locs q1 hP hS _ => ?_)
        have hP : va_P D vwCl (PM h1 aN aK cI E gK) H := hP
        subst q1
        refine lv_istore_n (lv' := [(3, .int (bm (cn E k))), (0, .ref h1), (1, .int (nI (ctP (lead E) k))), (2, .int (nI k))]) hx hb dX1_parts_15 rfl hl (by decide) rfl (fun ls hl => ?_)
        refine lv_iload_n hx hb dX1_parts_16 rfl (lv_at hl 0 rfl) ?_
        refine lv_iconst (v := 1) hx hb dX1_parts_17 (by decide +kernel) ?_
        refine lv_iload_n hx hb dX1_parts_18 rfl (lv_at hl 3 rfl) ?_
        refine lv_ishl hx hb dX1_parts_19 ?_
        refine lv_iconst (v := 1) hx hb dX1_parts_20 (by decide +kernel) ?_
        refine lv_isub hx hb dX1_parts_21 ?_
        refine lv_iand hx hb dX1_parts_22 ?_
        refine g_top (y := bm (fun i => cn E k i ∧ i < k)) (bm_lowz hk) ?_
        refine lv_if_ne (tgt := 29) hx hb dX1_parts_23 (by decide) (fun c2 => ?_) (fun c2 => ?_)
        · have c2 : ¬ lead E k := fun q => c2 ((lead_bm hg hk).mpr q)
          rw [← ctP_f c2] at hl
          refine lv_iinc (v := nI (k + 1)) (lv' := [(2, .int (nI (k + 1))), (3, .int (bm (cn E k))), (0, .ref h1), (1, .int (nI (ctP (lead E) (k + 1))))]) hx hb dX1_parts_29 hl (k := 3) rfl (nI_1 k) (by decide) rfl (fun ls hl => ?_)
          refine lv_goto (tgt := 4) hx hb dX1_parts_32 (by decide) ?_
          exact ih (k + 1) hk (by omega) H locs hP hS ls (lv_sub hl [2, 3, 0] rfl)
        · have c2 := (lead_bm hg hk).mp (Classical.byContradiction (fun q => q c2))
          refine lv_iinc (v := nI (ctP (lead E) (k + 1))) (lv' := [(1, .int (nI (ctP (lead E) (k + 1)))), (3, .int (bm (cn E k))), (0, .ref h1), (2, .int (nI k))]) hx hb dX1_parts_26 hl (k := 2) rfl ((nI_1 _).trans (by rw [ctP_t c2])) (by decide) rfl (fun ls hl => ?_)
          refine lv_iinc (v := nI (k + 1)) (lv' := [(2, .int (nI (k + 1))), (1, .int (nI (ctP (lead E) (k + 1)))), (3, .int (bm (cn E k))), (0, .ref h1)]) hx hb dX1_parts_29 hl (k := 3) rfl (nI_1 k) (by decide) rfl (fun ls hl => ?_)
          refine lv_goto (tgt := 4) hx hb dX1_parts_32 (by decide) ?_
          exact ih (k + 1) hk (by omega) H locs hP hS ls (lv_sub hl [3, 1, 0] rfl)
  refine lv_iconst (v := nI (ctP (lead E) 0)) hx hb dX1_parts_0 (rfl) ?_
  refine lv_istore_n (lv' := [(1, .int (nI (ctP (lead E) 0))), (0, .ref h1)]) hx hb dX1_parts_1 rfl hl (by decide) rfl (fun ls hl => ?_)
  refine lv_iconst (v := nI 0) hx hb dX1_parts_2 (by decide +kernel) ?_
  refine lv_istore_n (lv' := [(2, .int (nI 0)), (1, .int (nI (ctP (lead E) 0))), (0, .ref h1)]) hx hb dX1_parts_3 rfl hl (by decide) rfl (fun ls hl => ?_)
  exact loop 13 0 (by omega) (by omega) s.heap [] hP hS ls (lv_sub hl [2, 1, 0] rfl)

set_option maxHeartbeats 4000000 in
set_option maxRecDepth 100000 in
theorem mM_isEdge (l : Launch) {D : va_G} {A : Nat → Prop} {h1 aN aK : Nat} {cB cZ cS cI : ClassId} (hD : MD A h1 aN aK cI) {E : Nat → Nat → Prop} {gK : Nat → Int32} (x y : Int32) : Met l yX1_isEdge (ws_ yX1_isEdge cX1_isEdge 3 (some .boolean)) (rmd 1) (cPc D (XT cB cZ cS cI) (PM h1 aN aK cI E gK) [.ref h1, .int x, .int y]) (cQi D A (fun (r : Int32) (u : Unit) => r = b01 (onP E x y)) (fun (u : Unit) => PM h1 aN aK cI E gK)) 0 0 A := by
  refine g_head (own := RX1) (by decide) rfl (Nat.le_of_ble_eq_true rfl) ?_
  intro p e s m below meth c ls F hx hb hr hlk _ hP hS hl
  have hl : lv_has ls 3 [(0, .ref h1), (1, .int x), (2, .int y)] := hl
  refine lv_aload_n hx hb dX1_isEdge_0 rfl (lv_at hl 0 rfl) ?_
  refine lv_iload_n hx hb dX1_isEdge_1 rfl (lv_at hl 1 rfl) ?_
  refine g_calli F (mM_isPoint l hD x) (cwV 1 F.1.2.2.2.2 (lw_V q154 q156 qs10 q18 q157) rfl rfl rfl (by decide +kernel) ⟨Nat.le_of_ble_eq_true rfl, Nat.le_of_ble_eq_true rfl⟩) hP hS (fun _ h => h) (ci := 1) rfl rfl rfl hl.1 rfl (Nat.le_of_ble_eq_true rfl) dX1_isEdge_2 ⟨Nat.zero_le _, Nat.zero_le _⟩ (fun r1 u H locs k1 hP hS _ => ?_)
  have hP : va_P D vwCl (PM h1 aN aK cI E gK) H := hP
  refine lv_if_eq (tgt := 34) hx hb dX1_isEdge_5 (by decide) (fun c1 => ?_) (fun c1 => ?_)
  · have c1 := b01_e (k1 ▸ c1)
    refine lv_iconst (v := 0) hx hb dX1_isEdge_34 (by decide +kernel) ?_
    exact r_z (()) F hr hlk rfl hP hS ((b01_f (onP_l c1)).symm) dX1_isEdge_35
  · have c1 := b01_n (k1 ▸ c1)
    refine lv_aload_n hx hb dX1_isEdge_8 rfl (lv_at hl 0 rfl) ?_
    refine lv_iload_n hx hb dX1_isEdge_9 rfl (lv_at hl 2 rfl) ?_
    refine g_calli F (mM_isPoint l hD y) (cwV 1 F.1.2.2.2.2 (lw_V q154 q156 qs10 q18 q157) rfl rfl rfl (by decide +kernel) ⟨Nat.le_of_ble_eq_true rfl, Nat.le_of_ble_eq_true rfl⟩) hP hS (fun _ h => h) (ci := 1) rfl rfl rfl hl.1 rfl (Nat.le_of_ble_eq_true rfl) dX1_isEdge_10 ⟨Nat.zero_le _, Nat.zero_le _⟩ (fun r2 u H locs h2 hP hS _ => ?_)
    have hP : va_P D vwCl (PM h1 aN aK cI E gK) H := hP
    refine lv_if_eq (tgt := 34) hx hb dX1_isEdge_13 (by decide) (fun c2 => ?_) (fun c2 => ?_)
    · have c2 := b01_e (h2 ▸ c2)
      refine lv_iconst (v := 0) hx hb dX1_isEdge_34 (by decide +kernel) ?_
      exact r_z (()) F hr hlk rfl hP hS ((b01_f (onP_r c2)).symm) dX1_isEdge_35
    · obtain ⟨b, hb1, rfl⟩ := b01_n (h2 ▸ c2)
      obtain ⟨a, ha, rfl⟩ := c1
      refine lv_aload_n hx hb dX1_isEdge_16 rfl (lv_at hl 0 rfl) ?_
      refine lv_aload_n hx hb dX1_isEdge_17 rfl (lv_at hl 0 rfl) ?_
      refine m_get0 F hP dX1_isEdge_18 ?_
      refine lv_iload_n hx hb dX1_isEdge_21 rfl (lv_at hl 1 rfl) ?_
      refine m_ldN (v := bm (E a)) F hP (rfl) (ha) (rfl) dX1_isEdge_22 ?_
      refine lv_iload_n hx hb dX1_isEdge_23 rfl (lv_at hl 2 rfl) ?_
      refine g_calli F (mM_in l hD (E a) hb1) (cwV 2 F.1.2.2.2.2 (lw_V q158 q160 qs11 q18 q161) rfl rfl rfl (by decide +kernel) ⟨Nat.le_of_ble_eq_true rfl, Nat.le_of_ble_eq_true rfl⟩) hP hS (fun _ h => h) (ci := 1) rfl rfl rfl hl.1 rfl (Nat.le_of_ble_eq_true rfl) dX1_isEdge_24 ⟨Nat.zero_le _, Nat.zero_le _⟩ (fun r4 u H locs h4 hP hS _ => ?_)
      have hP : va_P D vwCl (PM h1 aN aK cI E gK) H := hP
      refine lv_if_eq (tgt := 34) hx hb dX1_isEdge_27 (by decide) (fun c3 => ?_) (fun c3 => ?_)
      · have c3 := b01_e (h4 ▸ c3)
        refine lv_iconst (v := 0) hx hb dX1_isEdge_34 (by decide +kernel) ?_
        exact r_z (()) F hr hlk rfl hP hS ((b01_f (fun q => c3 ((onP_n ha hb1).mp q))).symm) dX1_isEdge_35
      · have c3 := b01_n (h4 ▸ c3)
        refine lv_iconst (v := 1) hx hb dX1_isEdge_30 (by decide +kernel) ?_
        refine lv_goto (tgt := 35) hx hb dX1_isEdge_31 (by decide) ?_
        exact r_z (()) F hr hlk rfl hP hS ((b01_t ((onP_n ha hb1).mpr c3)).symm) dX1_isEdge_35

set_option maxHeartbeats 4000000 in
set_option maxRecDepth 100000 in
theorem mM_link (l : Launch) {D : va_G} {A : Nat → Prop} {h1 aN aK : Nat} {cB cZ cS cI : ClassId} (hD : MD A h1 aN aK cI) {E : Nat → Nat → Prop} {gK : Nat → Int32} (hg : gr E) (hk : ∃ k, k ≤ 30 ∧ dgs E = 2 * k) (x y : Int32) : Met l yX1_link (ws_ yX1_link cX1_link 4 (some .int)) (rmd 3) (cPc D (XT cB cZ cS cI) (PM h1 aN aK cI E gK) [.ref h1, .int x, .int y]) (cQi D A (fun (r : Int32) (u : Nat → Nat → Prop) => u = eLink E x y ∧ r = aLink E x y) (fun (u : Nat → Nat → Prop) => PM h1 aN aK cI u gK)) 0 0 A := by
  refine g_head (own := RX1) (by decide) rfl (Nat.le_of_ble_eq_true rfl) ?_
  intro p e s m below meth c ls F hx hb hr hlk _ hP hS hl
  have hl : lv_has ls 4 [(0, .ref h1), (1, .int x), (2, .int y)] := hl
  refine lv_aload_n hx hb dX1_link_0 rfl (lv_at hl 0 rfl) ?_
  refine lv_iload_n hx hb dX1_link_1 rfl (lv_at hl 1 rfl) ?_
  refine g_calli F (mM_isPoint l hD x) (cwV 1 F.1.2.2.2.2 (lw_V q154 q156 qs10 q18 q157) rfl rfl rfl (by decide +kernel) ⟨Nat.le_of_ble_eq_true rfl, Nat.le_of_ble_eq_true rfl⟩) hP hS (fun _ h => h) (ci := 1) rfl rfl rfl hl.1 rfl (Nat.le_of_ble_eq_true rfl) dX1_link_2 ⟨Nat.zero_le _, Nat.zero_le _⟩ (fun r1 u H locs k1 hP hS _ => ?_)
  have hP : va_P D vwCl (PM h1 aN aK cI E gK) H := hP
  refine lv_if_eq (tgt := 21) hx hb dX1_link_5 (by decide) (fun c1 => ?_) (fun c1 => ?_)
  · have c1 := b01_e (k1 ▸ c1)
    have c1 : ¬ couple x y := fun q => c1 q.1
    refine lv_iconst (v := (-1)) hx hb dX1_link_21 (by decide +kernel) ?_
    exact r_i (E) F hr hlk hP hS (⟨(eLink_no (lk_b c1)).symm, (aLink_b c1).symm⟩) dX1_link_22
  · have c1 := b01_n (k1 ▸ c1)
    refine lv_aload_n hx hb dX1_link_8 rfl (lv_at hl 0 rfl) ?_
    refine lv_iload_n hx hb dX1_link_9 rfl (lv_at hl 2 rfl) ?_
    refine g_calli F (mM_isPoint l hD y) (cwV 1 F.1.2.2.2.2 (lw_V q154 q156 qs10 q18 q157) rfl rfl rfl (by decide +kernel) ⟨Nat.le_of_ble_eq_true rfl, Nat.le_of_ble_eq_true rfl⟩) hP hS (fun _ h => h) (ci := 1) rfl rfl rfl hl.1 rfl (Nat.le_of_ble_eq_true rfl) dX1_link_10 ⟨Nat.zero_le _, Nat.zero_le _⟩ (fun r2 u H locs h2 hP hS _ => ?_)
    have hP : va_P D vwCl (PM h1 aN aK cI E gK) H := hP
    refine lv_if_eq (tgt := 21) hx hb dX1_link_13 (by decide) (fun c2 => ?_) (fun c2 => ?_)
    · have c2 := b01_e (h2 ▸ c2)
      have c1 : ¬ couple x y := fun q => c2 q.2.1
      refine lv_iconst (v := (-1)) hx hb dX1_link_21 (by decide +kernel) ?_
      exact r_i (E) F hr hlk hP hS (⟨(eLink_no (lk_b c1)).symm, (aLink_b c1).symm⟩) dX1_link_22
    · have c2 := b01_n (h2 ▸ c2)
      refine lv_iload_n hx hb dX1_link_16 rfl (lv_at hl 1 rfl) ?_
      refine lv_iload_n hx hb dX1_link_17 rfl (lv_at hl 2 rfl) ?_
      refine lv_icmp_ne (tgt := 23) hx hb dX1_link_18 (by decide) (fun c3 => ?_) (fun c3 => ?_)
      · obtain ⟨b, hb1, rfl⟩ := c2
        obtain ⟨a, ha, rfl⟩ := c1
        have hab : a ≠ b := fun q => c3 (by rw [q])
        refine lv_aload_n hx hb dX1_link_23 rfl (lv_at hl 0 rfl) ?_
        refine lv_aload_n hx hb dX1_link_24 rfl (lv_at hl 0 rfl) ?_
        refine m_get0 F hP dX1_link_25 ?_
        refine lv_iload_n hx hb dX1_link_28 rfl (lv_at hl 1 rfl) ?_
        refine m_ldN (v := bm (E a)) F hP (rfl) (ha) (rfl) dX1_link_29 ?_
        refine lv_iload_n hx hb dX1_link_30 rfl (lv_at hl 2 rfl) ?_
        refine g_calli F (mM_in l hD (E a) hb1) (cwV 2 F.1.2.2.2.2 (lw_V q158 q160 qs11 q18 q161) rfl rfl rfl (by decide +kernel) ⟨Nat.le_of_ble_eq_true rfl, Nat.le_of_ble_eq_true rfl⟩) hP hS (fun _ h => h) (ci := 1) rfl rfl rfl hl.1 rfl (Nat.le_of_ble_eq_true rfl) dX1_link_31 ⟨Nat.zero_le _, Nat.zero_le _⟩ (fun r4 u H locs h4 hP hS _ => ?_)
        have hP : va_P D vwCl (PM h1 aN aK cI E gK) H := hP
        refine lv_if_eq (tgt := 39) hx hb dX1_link_34 (by decide) (fun c4 => ?_) (fun c4 => ?_)
        · have c4 := b01_e (h4 ▸ c4)
          obtain ⟨k, hk, hd⟩ := hk
          refine lv_aload_n hx hb dX1_link_39 rfl (lv_at hl 0 rfl) ?_
          refine g_calli F (mM_edges l hD) (cwV 0 F.1.2.2.2.2 (lw_V q162 q163 q164 q18 q165) rfl rfl rfl (by decide +kernel) ⟨Nat.le_of_ble_eq_true rfl, Nat.le_of_ble_eq_true rfl⟩) hP hS (fun _ h => h) (ci := 1) rfl rfl rfl hl.1 rfl (Nat.le_of_ble_eq_true rfl) dX1_link_40 ⟨Nat.zero_le _, Nat.zero_le _⟩ (fun r5 u H locs h5 hP hS _ => ?_)
          have hP : va_P D vwCl (PM h1 aN aK cI E gK) H := hP
          rw [show dgs E / 2 = k by omega] at h5
          subst h5
          refine lv_bipush (v := 30) hx hb dX1_link_43 (by decide +kernel) ?_
          refine lv_icmp_ne (tgt := 51) hx hb dX1_link_45 (by decide) (fun c5 => ?_) (fun c5 => ?_)
          · have hd60 : dgs E ≠ 60 := fun q => c5 (by rw [show k = 30 by omega]; decide +kernel)
            refine lv_aload_n hx hb dX1_link_51 rfl (lv_at hl 0 rfl) ?_
            refine lv_iload_n hx hb dX1_link_52 rfl (lv_at hl 1 rfl) ?_
            refine lv_iload_n hx hb dX1_link_53 rfl (lv_at hl 2 rfl) ?_
            refine g_calli F (mM_connected l hD hg (nI a) (nI b)) (cwV 2 F.1.2.2.2.2 (lw_V q170 q171 q172 q18 q173) rfl rfl rfl (by decide +kernel) ⟨Nat.le_of_ble_eq_true rfl, Nat.le_of_ble_eq_true rfl⟩) hP hS (fun _ h => h) (ci := 1) rfl rfl rfl hl.1 rfl (Nat.le_of_ble_eq_true rfl) dX1_link_54 ⟨Nat.zero_le _, Nat.zero_le _⟩ (fun r6 u H locs h6 hP hS _ => ?_)
            have hP : va_P D vwCl (PM h1 aN aK cI E gK) H := hP
            rw [b01_cong (onP_n ha hb1)] at h6
            refine lv_istore_n (lv' := [(3, .int r6), (0, .ref h1), (1, .int (nI a)), (2, .int (nI b))]) hx hb dX1_link_57 rfl hl (by decide) rfl (fun ls hl => ?_)
            refine lv_aload_n hx hb dX1_link_58 rfl (lv_at hl 1 rfl) ?_
            refine lv_iload_n hx hb dX1_link_59 rfl (lv_at hl 2 rfl) ?_
            refine lv_iload_n hx hb dX1_link_60 rfl (lv_at hl 3 rfl) ?_
            refine g_callv F (mM_put l hD ha hb1 hab) (cwV 2 F.1.2.2.2.2 (lw_V q178 q180 qs14 q18 q181) rfl rfl rfl (by decide +kernel) ⟨Nat.le_of_ble_eq_true rfl, Nat.le_of_ble_eq_true rfl⟩) hP hS (fun _ h => h) (ci := 1) rfl rfl rfl hl.1 rfl (Nat.le_of_ble_eq_true rfl) dX1_link_61 ⟨Nat.zero_le _, Nat.zero_le _⟩ (fun u H locs hq hP hS _ => ?_)
            have hP : va_P D vwCl (PM h1 aN aK cI (ad E a b) gK) H := hP
            refine lv_iload_n hx hb dX1_link_64 rfl (lv_at hl 0 rfl) ?_
            refine lv_if_eq (tgt := 72) hx hb dX1_link_65 (by decide) (fun c7 => ?_) (fun c7 => ?_)
            · have c7 := b01_e (h6 ▸ c7)
              refine lv_iconst (v := 2) hx hb dX1_link_72 (by decide +kernel) ?_
              exact r_i (ad E a b) F hr hlk hP hS (⟨(eLink_n ha hb1 hab c4 hd60).symm, (aLink_2 ha hb1 hab c4 hd60 c7).symm⟩) dX1_link_73
            · have c7 := b01_n (h6 ▸ c7)
              refine lv_iconst (v := 1) hx hb dX1_link_68 (by decide +kernel) ?_
              refine lv_goto (tgt := 73) hx hb dX1_link_69 (by decide) ?_
              exact r_i (ad E a b) F hr hlk hP hS (⟨(eLink_n ha hb1 hab c4 hd60).symm, (aLink_1 ha hb1 hab c4 hd60 c7).symm⟩) dX1_link_73
          · have c5 : nI k = nI 30 := (Classical.byContradiction (fun q => q c5) : nI k = (30 : Int32)).trans (by decide +kernel)
            have c5 := (nI_eq (by omega) (by omega)).mp c5
            have hd60 : dgs E = 60 := by omega
            refine lv_bipush (v := (-2)) hx hb dX1_link_48 (by decide +kernel) ?_
            exact r_i (E) F hr hlk hP hS (⟨(eLink_no (lk_f hd60)).symm, (aLink_f ha hb1 hab c4 hd60).symm⟩) dX1_link_50
        · have c4 := b01_n (h4 ▸ c4)
          refine lv_iconst (v := 0) hx hb dX1_link_37 (by decide +kernel) ?_
          exact r_i (E) F hr hlk hP hS (⟨(eLink_no (lk_0 ha hb1 c4)).symm, (aLink_0 ha hb1 hab c4).symm⟩) dX1_link_38
      · have c1 : ¬ couple x y := fun q => q.2.2 (Classical.byContradiction (fun z => z c3))
        refine lv_iconst (v := (-1)) hx hb dX1_link_21 (by decide +kernel) ?_
        exact r_i (E) F hr hlk hP hS (⟨(eLink_no (lk_b c1)).symm, (aLink_b c1).symm⟩) dX1_link_22

set_option maxHeartbeats 4000000 in
set_option maxRecDepth 100000 in
theorem mM_cut (l : Launch) {D : va_G} {A : Nat → Prop} {h1 aN aK : Nat} {cB cZ cS cI : ClassId} (hD : MD A h1 aN aK cI) {E : Nat → Nat → Prop} {gK : Nat → Int32} (hg : gr E) (x y : Int32) : Met l yX1_cut (ws_ yX1_cut cX1_cut 3 (some .int)) (rmd 3) (cPc D (XT cB cZ cS cI) (PM h1 aN aK cI E gK) [.ref h1, .int x, .int y]) (cQi D A (fun (r : Int32) (u : Nat → Nat → Prop) => u = eCut E x y ∧ r = aCut E x y) (fun (u : Nat → Nat → Prop) => PM h1 aN aK cI u gK)) 0 0 A := by
  refine g_head (own := RX1) (by decide) rfl (Nat.le_of_ble_eq_true rfl) ?_
  intro p e s m below meth c ls F hx hb hr hlk _ hP hS hl
  have hl : lv_has ls 3 [(0, .ref h1), (1, .int x), (2, .int y)] := hl
  refine lv_aload_n hx hb dX1_cut_0 rfl (lv_at hl 0 rfl) ?_
  refine lv_iload_n hx hb dX1_cut_1 rfl (lv_at hl 1 rfl) ?_
  refine g_calli F (mM_isPoint l hD x) (cwV 1 F.1.2.2.2.2 (lw_V q154 q156 qs10 q18 q157) rfl rfl rfl (by decide +kernel) ⟨Nat.le_of_ble_eq_true rfl, Nat.le_of_ble_eq_true rfl⟩) hP hS (fun _ h => h) (ci := 1) rfl rfl rfl hl.1 rfl (Nat.le_of_ble_eq_true rfl) dX1_cut_2 ⟨Nat.zero_le _, Nat.zero_le _⟩ (fun r1 u H locs k1 hP hS _ => ?_)
  have hP : va_P D vwCl (PM h1 aN aK cI E gK) H := hP
  refine lv_if_eq (tgt := 21) hx hb dX1_cut_5 (by decide) (fun c1 => ?_) (fun c1 => ?_)
  · have c1 := b01_e (k1 ▸ c1)
    have c1 : ¬ couple x y := fun q => c1 q.1
    refine lv_iconst (v := (-1)) hx hb dX1_cut_21 (by decide +kernel) ?_
    exact r_i (E) F hr hlk hP hS (⟨(eCut_b hg c1).symm, (aCut_b c1).symm⟩) dX1_cut_22
  · have c1 := b01_n (k1 ▸ c1)
    refine lv_aload_n hx hb dX1_cut_8 rfl (lv_at hl 0 rfl) ?_
    refine lv_iload_n hx hb dX1_cut_9 rfl (lv_at hl 2 rfl) ?_
    refine g_calli F (mM_isPoint l hD y) (cwV 1 F.1.2.2.2.2 (lw_V q154 q156 qs10 q18 q157) rfl rfl rfl (by decide +kernel) ⟨Nat.le_of_ble_eq_true rfl, Nat.le_of_ble_eq_true rfl⟩) hP hS (fun _ h => h) (ci := 1) rfl rfl rfl hl.1 rfl (Nat.le_of_ble_eq_true rfl) dX1_cut_10 ⟨Nat.zero_le _, Nat.zero_le _⟩ (fun r2 u H locs h2 hP hS _ => ?_)
    have hP : va_P D vwCl (PM h1 aN aK cI E gK) H := hP
    refine lv_if_eq (tgt := 21) hx hb dX1_cut_13 (by decide) (fun c2 => ?_) (fun c2 => ?_)
    · have c2 := b01_e (h2 ▸ c2)
      have c1 : ¬ couple x y := fun q => c2 q.2.1
      refine lv_iconst (v := (-1)) hx hb dX1_cut_21 (by decide +kernel) ?_
      exact r_i (E) F hr hlk hP hS (⟨(eCut_b hg c1).symm, (aCut_b c1).symm⟩) dX1_cut_22
    · have c2 := b01_n (h2 ▸ c2)
      refine lv_iload_n hx hb dX1_cut_16 rfl (lv_at hl 1 rfl) ?_
      refine lv_iload_n hx hb dX1_cut_17 rfl (lv_at hl 2 rfl) ?_
      refine lv_icmp_ne (tgt := 23) hx hb dX1_cut_18 (by decide) (fun c3 => ?_) (fun c3 => ?_)
      · obtain ⟨b, hb1, rfl⟩ := c2
        obtain ⟨a, ha, rfl⟩ := c1
        have hab : a ≠ b := fun q => c3 (by rw [q])
        refine lv_aload_n hx hb dX1_cut_23 rfl (lv_at hl 0 rfl) ?_
        refine lv_aload_n hx hb dX1_cut_24 rfl (lv_at hl 0 rfl) ?_
        refine m_get0 F hP dX1_cut_25 ?_
        refine lv_iload_n hx hb dX1_cut_28 rfl (lv_at hl 1 rfl) ?_
        refine m_ldN (v := bm (E a)) F hP (rfl) (ha) (rfl) dX1_cut_29 ?_
        refine lv_iload_n hx hb dX1_cut_30 rfl (lv_at hl 2 rfl) ?_
        refine g_calli F (mM_in l hD (E a) hb1) (cwV 2 F.1.2.2.2.2 (lw_V q158 q160 qs11 q18 q161) rfl rfl rfl (by decide +kernel) ⟨Nat.le_of_ble_eq_true rfl, Nat.le_of_ble_eq_true rfl⟩) hP hS (fun _ h => h) (ci := 1) rfl rfl rfl hl.1 rfl (Nat.le_of_ble_eq_true rfl) dX1_cut_31 ⟨Nat.zero_le _, Nat.zero_le _⟩ (fun r4 u H locs h4 hP hS _ => ?_)
        have hP : va_P D vwCl (PM h1 aN aK cI E gK) H := hP
        refine lv_if_ne (tgt := 39) hx hb dX1_cut_34 (by decide) (fun c4 => ?_) (fun c4 => ?_)
        · have c4 := b01_n (h4 ▸ c4)
          refine lv_aload_n hx hb dX1_cut_39 rfl (lv_at hl 0 rfl) ?_
          refine lv_iload_n hx hb dX1_cut_40 rfl (lv_at hl 1 rfl) ?_
          refine lv_iload_n hx hb dX1_cut_41 rfl (lv_at hl 2 rfl) ?_
          refine g_callv F (mM_take l hD ha hb1 hab) (cwV 2 F.1.2.2.2.2 (lw_V q186 q188 qs15 q18 q189) rfl rfl rfl (by decide +kernel) ⟨Nat.le_of_ble_eq_true rfl, Nat.le_of_ble_eq_true rfl⟩) hP hS (fun _ h => h) (ci := 1) rfl rfl rfl hl.1 rfl (Nat.le_of_ble_eq_true rfl) dX1_cut_42 ⟨Nat.zero_le _, Nat.zero_le _⟩ (fun u H locs hq hP hS _ => ?_)
          have hP : va_P D vwCl (PM h1 aN aK cI (dl E a b) gK) H := hP
          refine lv_aload_n hx hb dX1_cut_45 rfl (lv_at hl 0 rfl) ?_
          refine lv_iload_n hx hb dX1_cut_46 rfl (lv_at hl 1 rfl) ?_
          refine lv_iload_n hx hb dX1_cut_47 rfl (lv_at hl 2 rfl) ?_
          refine g_calli F (mM_connected l hD (gr_dl a b hg) (nI a) (nI b)) (cwV 2 F.1.2.2.2.2 (lw_V q170 q171 q172 q18 q173) rfl rfl rfl (by decide +kernel) ⟨Nat.le_of_ble_eq_true rfl, Nat.le_of_ble_eq_true rfl⟩) hP hS (fun _ h => h) (ci := 1) rfl rfl rfl hl.1 rfl (Nat.le_of_ble_eq_true rfl) dX1_cut_48 ⟨Nat.zero_le _, Nat.zero_le _⟩ (fun r6 u H locs h6 hP hS _ => ?_)
          have hP : va_P D vwCl (PM h1 aN aK cI (dl E a b) gK) H := hP
          rw [b01_cong (onP_n ha hb1)] at h6
          refine lv_if_eq (tgt := 58) hx hb dX1_cut_51 (by decide) (fun c7 => ?_) (fun c7 => ?_)
          · have c7 := b01_e (h6 ▸ c7)
            refine lv_iconst (v := 2) hx hb dX1_cut_58 (by decide +kernel) ?_
            exact r_i (dl E a b) F hr hlk hP hS (⟨(eCut_n hg ha hb1).symm, (aCut_2 ha hb1 hab c4 c7).symm⟩) dX1_cut_59
          · have c7 := b01_n (h6 ▸ c7)
            refine lv_iconst (v := 1) hx hb dX1_cut_54 (by decide +kernel) ?_
            refine lv_goto (tgt := 59) hx hb dX1_cut_55 (by decide) ?_
            exact r_i (dl E a b) F hr hlk hP hS (⟨(eCut_n hg ha hb1).symm, (aCut_1 ha hb1 hab c4 c7).symm⟩) dX1_cut_59
        · have c4 := b01_e (h4 ▸ c4)
          refine lv_iconst (v := 0) hx hb dX1_cut_37 (by decide +kernel) ?_
          exact r_i (E) F hr hlk hP hS (⟨(eCut_no hg (fun q => c4 ((onP_n ha hb1).mp q))).symm, (aCut_0 ha hb1 hab c4).symm⟩) dX1_cut_38
      · have c1 : ¬ couple x y := fun q => q.2.2 (Classical.byContradiction (fun z => z c3))
        refine lv_iconst (v := (-1)) hx hb dX1_cut_21 (by decide +kernel) ?_
        exact r_i (E) F hr hlk hP hS (⟨(eCut_b hg c1).symm, (aCut_b c1).symm⟩) dX1_cut_22

set_option maxHeartbeats 4000000 in
set_option maxRecDepth 100000 in
theorem mM_isBridge (l : Launch) {D : va_G} {A : Nat → Prop} {h1 aN aK : Nat} {cB cZ cS cI : ClassId} (hD : MD A h1 aN aK cI) {E : Nat → Nat → Prop} {gK : Nat → Int32} (hg : gr E) (x y : Int32) : Met l yX1_isBridge (ws_ yX1_isBridge cX1_isBridge 4 (some .boolean)) (rmd 3) (cPc D (XT cB cZ cS cI) (PM h1 aN aK cI E gK) [.ref h1, .int x, .int y]) (cQi D A (fun (r : Int32) (u : Unit) => r = b01 (onP (isBr E) x y)) (fun (u : Unit) => PM h1 aN aK cI E gK)) 0 0 A := by
  refine g_head (own := RX1) (by decide) rfl (Nat.le_of_ble_eq_true rfl) ?_
  intro p e s m below meth c ls F hx hb hr hlk _ hP hS hl
  have hl : lv_has ls 4 [(0, .ref h1), (1, .int x), (2, .int y)] := hl
  refine lv_aload_n hx hb dX1_isBridge_0 rfl (lv_at hl 0 rfl) ?_
  refine lv_iload_n hx hb dX1_isBridge_1 rfl (lv_at hl 1 rfl) ?_
  refine lv_iload_n hx hb dX1_isBridge_2 rfl (lv_at hl 2 rfl) ?_
  refine g_calli F (mM_isEdge l hD x y) (cwV 2 F.1.2.2.2.2 (lw_V q207 q200 q201 q18 q202) rfl rfl rfl (by decide +kernel) ⟨Nat.le_of_ble_eq_true rfl, Nat.le_of_ble_eq_true rfl⟩) hP hS (fun _ h => h) (ci := 1) rfl rfl rfl hl.1 rfl (Nat.le_of_ble_eq_true rfl) dX1_isBridge_3 ⟨Nat.zero_le _, Nat.zero_le _⟩ (fun r1 u H locs k1 hP hS _ => ?_)
  have hP : va_P D vwCl (PM h1 aN aK cI E gK) H := hP
  refine lv_if_ne (tgt := 11) hx hb dX1_isBridge_6 (by decide) (fun c1 => ?_) (fun c1 => ?_)
  · obtain ⟨a, b, ha, hb1, rfl, rfl, hE⟩ := b01_n (k1 ▸ c1)
    have hab := gr_ne hg hE
    refine lv_aload_n hx hb dX1_isBridge_11 rfl (lv_at hl 0 rfl) ?_
    refine lv_iload_n hx hb dX1_isBridge_12 rfl (lv_at hl 1 rfl) ?_
    refine lv_iload_n hx hb dX1_isBridge_13 rfl (lv_at hl 2 rfl) ?_
    refine g_callv F (mM_take l hD ha hb1 hab) (cwV 2 F.1.2.2.2.2 (lw_V q186 q188 qs15 q18 q189) rfl rfl rfl (by decide +kernel) ⟨Nat.le_of_ble_eq_true rfl, Nat.le_of_ble_eq_true rfl⟩) hP hS (fun _ h => h) (ci := 1) rfl rfl rfl hl.1 rfl (Nat.le_of_ble_eq_true rfl) dX1_isBridge_14 ⟨Nat.zero_le _, Nat.zero_le _⟩ (fun u H locs hq hP hS _ => ?_)
    have hP : va_P D vwCl (PM h1 aN aK cI (dl E a b) gK) H := hP
    refine lv_aload_n hx hb dX1_isBridge_17 rfl (lv_at hl 0 rfl) ?_
    refine lv_iload_n hx hb dX1_isBridge_18 rfl (lv_at hl 1 rfl) ?_
    refine lv_iload_n hx hb dX1_isBridge_19 rfl (lv_at hl 2 rfl) ?_
    refine g_calli F (mM_connected l hD (gr_dl a b hg) (nI a) (nI b)) (cwV 2 F.1.2.2.2.2 (lw_V q170 q171 q172 q18 q173) rfl rfl rfl (by decide +kernel) ⟨Nat.le_of_ble_eq_true rfl, Nat.le_of_ble_eq_true rfl⟩) hP hS (fun _ h => h) (ci := 1) rfl rfl rfl hl.1 rfl (Nat.le_of_ble_eq_true rfl) dX1_isBridge_20 ⟨Nat.zero_le _, Nat.zero_le _⟩ (fun r6 u H locs h6 hP hS _ => ?_)
    have hP : va_P D vwCl (PM h1 aN aK cI (dl E a b) gK) H := hP
    rw [b01_cong (onP_n ha hb1)] at h6
    refine lv_if_ne (tgt := 30) hx hb dX1_isBridge_23 (by decide) (fun c7 => ?_) (fun c7 => ?_)
    · have c7 := b01_n (h6 ▸ c7)
      refine lv_iconst (v := b01 (¬ cn (dl E a b) a b)) hx hb dX1_isBridge_30 ((b01_f (fun q => q c7)).symm) ?_
      refine lv_istore_n (lv' := [(3, .int (b01 (¬ cn (dl E a b) a b))), (0, .ref h1), (1, .int (nI a)), (2, .int (nI b))]) hx hb dX1_isBridge_31 rfl hl (by decide) rfl (fun ls hl => ?_)
      refine lv_aload_n hx hb dX1_isBridge_32 rfl (lv_at hl 1 rfl) ?_
      refine lv_iload_n hx hb dX1_isBridge_33 rfl (lv_at hl 2 rfl) ?_
      refine lv_iload_n hx hb dX1_isBridge_34 rfl (lv_at hl 3 rfl) ?_
      refine g_callv F (mM_put l hD ha hb1 hab) (cwV 2 F.1.2.2.2.2 (lw_V q178 q180 qs14 q18 q181) rfl rfl rfl (by decide +kernel) ⟨Nat.le_of_ble_eq_true rfl, Nat.le_of_ble_eq_true rfl⟩) hP hS (fun _ h => h) (ci := 1) rfl rfl rfl hl.1 rfl (Nat.le_of_ble_eq_true rfl) dX1_isBridge_35 ⟨Nat.zero_le _, Nat.zero_le _⟩ (fun u H locs hq hP hS _ => ?_)
      have hP : va_P D vwCl (PM h1 aN aK cI (ad (dl E a b) a b) gK) H := hP
      rw [ad_dl hE (hg.1 a b hE)] at hP
      refine lv_iload_n hx hb dX1_isBridge_38 rfl (lv_at hl 0 rfl) ?_
      exact r_z (()) F hr hlk (b01_nar _) hP hS (b01_cong ⟨fun q => (onP_n (Q := isBr E) ha hb1).mpr ⟨hE, q⟩, fun q => ((onP_n (Q := isBr E) ha hb1).mp q).2⟩) dX1_isBridge_39
    · have c7 := b01_e (h6 ▸ c7)
      refine lv_iconst (v := b01 (¬ cn (dl E a b) a b)) hx hb dX1_isBridge_26 ((b01_t c7).symm) ?_
      refine lv_goto (tgt := 31) hx hb dX1_isBridge_27 (by decide) ?_
      refine lv_istore_n (lv' := [(3, .int (b01 (¬ cn (dl E a b) a b))), (0, .ref h1), (1, .int (nI a)), (2, .int (nI b))]) hx hb dX1_isBridge_31 rfl hl (by decide) rfl (fun ls hl => ?_)
      refine lv_aload_n hx hb dX1_isBridge_32 rfl (lv_at hl 1 rfl) ?_
      refine lv_iload_n hx hb dX1_isBridge_33 rfl (lv_at hl 2 rfl) ?_
      refine lv_iload_n hx hb dX1_isBridge_34 rfl (lv_at hl 3 rfl) ?_
      refine g_callv F (mM_put l hD ha hb1 hab) (cwV 2 F.1.2.2.2.2 (lw_V q178 q180 qs14 q18 q181) rfl rfl rfl (by decide +kernel) ⟨Nat.le_of_ble_eq_true rfl, Nat.le_of_ble_eq_true rfl⟩) hP hS (fun _ h => h) (ci := 1) rfl rfl rfl hl.1 rfl (Nat.le_of_ble_eq_true rfl) dX1_isBridge_35 ⟨Nat.zero_le _, Nat.zero_le _⟩ (fun u H locs hq hP hS _ => ?_)
      have hP : va_P D vwCl (PM h1 aN aK cI (ad (dl E a b) a b) gK) H := hP
      rw [ad_dl hE (hg.1 a b hE)] at hP
      refine lv_iload_n hx hb dX1_isBridge_38 rfl (lv_at hl 0 rfl) ?_
      exact r_z (()) F hr hlk (b01_nar _) hP hS (b01_cong ⟨fun q => (onP_n (Q := isBr E) ha hb1).mpr ⟨hE, q⟩, fun q => ((onP_n (Q := isBr E) ha hb1).mp q).2⟩) dX1_isBridge_39
  · have c1 := b01_e (k1 ▸ c1)
    refine lv_iconst (v := 0) hx hb dX1_isBridge_9 (by decide +kernel) ?_
    exact r_z (()) F hr hlk rfl hP hS ((b01_f (fun ⟨a, b, ha, hb1, e1, e2, q⟩ => c1 ⟨a, b, ha, hb1, e1, e2, q.1⟩)).symm) dX1_isBridge_10

set_option maxHeartbeats 4000000 in
set_option maxRecDepth 100000 in
theorem mM_spare (l : Launch) {D : va_G} {A : Nat → Prop} {h1 aN aK : Nat} {cB cZ cS cI : ClassId} (hD : MD A h1 aN aK cI) {E : Nat → Nat → Prop} {gK : Nat → Int32} (hg : gr E) : Met l yX1_spare (ws_ yX1_spare cX1_spare 3 (some .int)) (rmd 4) (cPc D (XT cB cZ cS cI) (PM h1 aN aK cI E gK) [.ref h1]) (cQi D A (fun (r : Int32) (u : Nat → Int32) => r = aSpare E) (fun (u : Nat → Int32) => PM h1 aN aK cI E u)) 0 0 A := by
  refine g_head (own := RX1) (by decide) rfl (Nat.le_of_ble_eq_true rfl) ?_
  intro p e s m below meth c ls F hx hb hr hlk _ hP hS hl
  have hl : lv_has ls 3 [(0, .ref h1)] := hl
  have loop3 : ∀ N Ec, gr Ec → nI N = aSpare E → ∀ n k, k ≤ 12 → 12 < k + n → ∀ (H : Heap) (locs : List Loc), va_P D vwCl (PMr h1 aN aK cI (cpK (fN Ec) (fN E) k) (cpK gK (fN E) 12)) H → va_S A s.heap H locs → ∀ ls : Array Slot, lv_has ls 3 [(0, .ref h1), (1, .int (nI N)), (2, .int (nI k))] → W p l e (headSpec (ws_ yX1_spare cX1_spare 3 (some .int)) (rmd 4)).room s m ([.ref h1] : List Value).toArray below meth c H locs 0 0 (MQ below (cQi D A (fun (r : Int32) (u : Nat → Int32) => r = aSpare E) (fun (u : Nat → Int32) => PM h1 aN aK cI E u)) ([.ref h1] : List Value).toArray s 0 0 A) (F0 m 90 ls []) := by
    intro N Ec hgc hN n
    induction n with
    | zero => intro k h1 h2; exact absurd h2 (by omega)
    | succ n ih =>
      intro k hk hn H locs hP hS ls hl
      refine lv_iload_n hx hb dX1_spare_90 rfl (lv_at hl 2 rfl) ?_
      refine lv_bipush (v := 12) hx hb dX1_spare_91 (by decide +kernel) ?_
      refine lv_icmp_ge (tgt := 114) hx hb dX1_spare_93 (by decide) (fun c1 => ?_) (fun c1 => ?_)
      · have e := le12 hk c1
        subst e
        rw [cpK_N hgc hg] at hP
        refine lv_iload_n hx hb dX1_spare_114 rfl (lv_at hl 1 rfl) ?_
        exact r_i (cpK gK (fN E) 12) F hr hlk hP hS (hN) dX1_spare_115
      · have hk := lt12 hk c1
        refine lv_aload_n hx hb dX1_spare_96 rfl (lv_at hl 0 rfl) ?_
        refine m_get0 F hP dX1_spare_97 ?_
        refine lv_iload_n hx hb dX1_spare_100 rfl (lv_at hl 2 rfl) ?_
        refine lv_aload_n hx hb dX1_spare_101 rfl (lv_at hl 0 rfl) ?_
        refine m_get1 F hP dX1_spare_102 ?_
        refine lv_iload_n hx hb dX1_spare_105 rfl (lv_at hl 2 rfl) ?_
        refine m_ldK (v := fN E k) F hP (rfl) (hk) (cpK_in hk) dX1_spare_106 ?_
        refine m_stN F hD hP hS (k := k) (v := fN E k) (rfl) (hk) (rfl) dX1_spare_107 (fun H locs hP hS => ?_)
        have hP : va_P D vwCl (PMr h1 aN aK cI (upd (cpK (fN Ec) (fN E) k) (k) (fN E k)) (cpK gK (fN E) 12)) H := hP
        rw [cpK_s] at hP
        refine lv_iinc (v := nI (k + 1)) (lv' := [(2, .int (nI (k + 1))), (0, .ref h1), (1, .int (nI N))]) hx hb dX1_spare_108 hl (k := 2) rfl (nI_1 k) (by decide) rfl (fun ls hl => ?_)
        refine lv_goto (tgt := 90) hx hb dX1_spare_111 (by decide) ?_
        exact ih (k + 1) hk (by omega) H locs hP hS ls (lv_sub hl [1, 2, 0] rfl)
  have loop2 : ∀ n e1 N Ec, e1 ≤ 144 → 144 < e1 + n → SP E e1 Ec N → ∀ (H : Heap) (locs : List Loc), va_P D vwCl (PM h1 aN aK cI Ec (cpK gK (fN E) 12)) H → va_S A s.heap H locs → ∀ ls : Array Slot, lv_has ls 3 [(0, .ref h1), (1, .int (nI N)), (2, .int (nI e1))] → W p l e (headSpec (ws_ yX1_spare cX1_spare 3 (some .int)) (rmd 4)).room s m ([.ref h1] : List Value).toArray below meth c H locs 0 0 (MQ below (cQi D A (fun (r : Int32) (u : Nat → Int32) => r = aSpare E) (fun (u : Nat → Int32) => PM h1 aN aK cI E u)) ([.ref h1] : List Value).toArray s 0 0 A) (F0 m 30 ls []) := by
    intro n
    induction n with
    | zero => intro e1 N Ec h1 h2; exact absurd h2 (by omega)
    | succ n ih =>
      intro e1 N Ec he hn hp H locs hP hS ls hl
      refine lv_iload_n hx hb dX1_spare_30 rfl (lv_at hl 2 rfl) ?_
      refine lv_sipush (v := 144) hx hb dX1_spare_31 (by decide +kernel) ?_
      refine lv_icmp_ge (tgt := 88) hx hb dX1_spare_34 (by decide) (fun c1 => ?_) (fun c1 => ?_)
      · have e := le144 he c1
        subst e
        refine lv_iconst (v := nI 0) hx hb dX1_spare_88 (by decide +kernel) ?_
        refine lv_istore_n (lv' := [(2, .int (nI 0)), (0, .ref h1), (1, .int (nI N))]) hx hb dX1_spare_89 rfl hl (by decide) rfl (fun ls hl => ?_)
        exact loop3 N Ec hp.1 (sp_end hp) 13 0 (by omega) (by omega) H locs (by rw [cpK_0]; exact hP) hS ls (lv_sub hl [1, 2, 0] rfl)
      · have he := lt144 he c1
        have hq1 : e1 / 12 < 12 := by omega
        have hq2 : e1 % 12 < 12 := by omega
        refine lv_aload_n hx hb dX1_spare_37 rfl (lv_at hl 0 rfl) ?_
        refine lv_iload_n hx hb dX1_spare_38 rfl (lv_at hl 2 rfl) ?_
        refine lv_bipush (v := 12) hx hb dX1_spare_39 (by decide +kernel) ?_
        refine lv_idiv hx hb dX1_spare_41 (by decide +kernel) ?_
        refine g_top (y := nI (e1 / 12)) (dv_n he) ?_
        refine lv_iload_n hx hb dX1_spare_42 rfl (lv_at hl 2 rfl) ?_
        refine lv_bipush (v := 12) hx hb dX1_spare_43 (by decide +kernel) ?_
        refine lv_irem hx hb dX1_spare_45 (by decide +kernel) ?_
        refine g_top (y := nI (e1 % 12)) (md_n he) ?_
        refine g_calli F (mM_isEdge l hD (nI (e1 / 12)) (nI (e1 % 12))) (cwV 2 F.1.2.2.2.2 (lw_V q207 q200 q201 q18 q202) rfl rfl rfl (by decide +kernel) ⟨Nat.le_of_ble_eq_true rfl, Nat.le_of_ble_eq_true rfl⟩) hP hS (fun _ h => h) (ci := 1) rfl rfl rfl hl.1 rfl (Nat.le_of_ble_eq_true rfl) dX1_spare_46 ⟨Nat.zero_le _, Nat.zero_le _⟩ (fun r1 u H locs q1 hP hS _ => ?_)
        have hP : va_P D vwCl (PM h1 aN aK cI Ec (cpK gK (fN E) 12)) H := hP
        rw [b01_cong (onP_n hq1 hq2)] at q1
        refine lv_if_eq (tgt := 82) hx hb dX1_spare_49 (by decide) (fun c2 => ?_) (fun c2 => ?_)
        · have c2 := b01_e (q1 ▸ c2)
          refine lv_iinc (v := nI (e1 + 1)) (lv' := [(2, .int (nI (e1 + 1))), (0, .ref h1), (1, .int (nI N))]) hx hb dX1_spare_82 hl (k := 2) rfl (nI_1 e1) (by decide) rfl (fun ls hl => ?_)
          refine lv_goto (tgt := 30) hx hb dX1_spare_85 (by decide) ?_
          exact ih (e1 + 1) N Ec he (by omega) (sp_no hp (fun q => absurd q c2)) H locs hP hS ls (lv_sub hl [1, 2, 0] rfl)
        · have c2 := b01_n (q1 ▸ c2)
          refine lv_aload_n hx hb dX1_spare_52 rfl (lv_at hl 0 rfl) ?_
          refine lv_iload_n hx hb dX1_spare_53 rfl (lv_at hl 2 rfl) ?_
          refine lv_bipush (v := 12) hx hb dX1_spare_54 (by decide +kernel) ?_
          refine lv_idiv hx hb dX1_spare_56 (by decide +kernel) ?_
          refine g_top (y := nI (e1 / 12)) (dv_n he) ?_
          refine lv_iload_n hx hb dX1_spare_57 rfl (lv_at hl 2 rfl) ?_
          refine lv_bipush (v := 12) hx hb dX1_spare_58 (by decide +kernel) ?_
          refine lv_irem hx hb dX1_spare_60 (by decide +kernel) ?_
          refine g_top (y := nI (e1 % 12)) (md_n he) ?_
          refine g_calli F (mM_isBridge l hD hp.1 (nI (e1 / 12)) (nI (e1 % 12))) (cwV 2 F.1.2.2.2.2 (lw_V q213 q204 q205 q18 q206) rfl rfl rfl (by decide +kernel) ⟨Nat.le_of_ble_eq_true rfl, Nat.le_of_ble_eq_true rfl⟩) hP hS (fun _ h => h) (ci := 1) rfl rfl rfl hl.1 rfl (Nat.le_of_ble_eq_true rfl) dX1_spare_61 ⟨Nat.zero_le _, Nat.zero_le _⟩ (fun r2 u H locs q2 hP hS _ => ?_)
          have hP : va_P D vwCl (PM h1 aN aK cI Ec (cpK gK (fN E) 12)) H := hP
          rw [b01_cong (onP_n hq1 hq2)] at q2
          refine lv_if_ne (tgt := 82) hx hb dX1_spare_64 (by decide) (fun c3 => ?_) (fun c3 => ?_)
          · have c3 := b01_n (q2 ▸ c3)
            refine lv_iinc (v := nI (e1 + 1)) (lv' := [(2, .int (nI (e1 + 1))), (0, .ref h1), (1, .int (nI N))]) hx hb dX1_spare_82 hl (k := 2) rfl (nI_1 e1) (by decide) rfl (fun ls hl => ?_)
            refine lv_goto (tgt := 30) hx hb dX1_spare_85 (by decide) ?_
            exact ih (e1 + 1) N Ec he (by omega) (sp_no hp (fun _ => c3.2)) H locs hP hS ls (lv_sub hl [1, 2, 0] rfl)
          · have c3 : cn (dl Ec (e1 / 12) (e1 % 12)) (e1 / 12) (e1 % 12) := Classical.byContradiction fun z => b01_e (q2 ▸ c3) ⟨c2, z⟩
            refine lv_aload_n hx hb dX1_spare_67 rfl (lv_at hl 0 rfl) ?_
            refine lv_iload_n hx hb dX1_spare_68 rfl (lv_at hl 2 rfl) ?_
            refine lv_bipush (v := 12) hx hb dX1_spare_69 (by decide +kernel) ?_
            refine lv_idiv hx hb dX1_spare_71 (by decide +kernel) ?_
            refine g_top (y := nI (e1 / 12)) (dv_n he) ?_
            refine lv_iload_n hx hb dX1_spare_72 rfl (lv_at hl 2 rfl) ?_
            refine lv_bipush (v := 12) hx hb dX1_spare_73 (by decide +kernel) ?_
            refine lv_irem hx hb dX1_spare_75 (by decide +kernel) ?_
            refine g_top (y := nI (e1 % 12)) (md_n he) ?_
            refine g_callv F (mM_take l hD hq1 hq2 (gr_ne hp.1 c2)) (cwV 2 F.1.2.2.2.2 (lw_V q186 q188 qs15 q18 q189) rfl rfl rfl (by decide +kernel) ⟨Nat.le_of_ble_eq_true rfl, Nat.le_of_ble_eq_true rfl⟩) hP hS (fun _ h => h) (ci := 1) rfl rfl rfl hl.1 rfl (Nat.le_of_ble_eq_true rfl) dX1_spare_76 ⟨Nat.zero_le _, Nat.zero_le _⟩ (fun u H locs hq hP hS _ => ?_)
            have hP : va_P D vwCl (PM h1 aN aK cI (dl Ec (e1 / 12) (e1 % 12)) (cpK gK (fN E) 12)) H := hP
            refine lv_iinc (v := nI (N + 1)) (lv' := [(1, .int (nI (N + 1))), (0, .ref h1), (2, .int (nI e1))]) hx hb dX1_spare_79 hl (k := 1) rfl (nI_1 N) (by decide) rfl (fun ls hl => ?_)
            refine lv_iinc (v := nI (e1 + 1)) (lv' := [(2, .int (nI (e1 + 1))), (1, .int (nI (N + 1))), (0, .ref h1)]) hx hb dX1_spare_82 hl (k := 2) rfl (nI_1 e1) (by decide) rfl (fun ls hl => ?_)
            refine lv_goto (tgt := 30) hx hb dX1_spare_85 (by decide) ?_
            exact ih (e1 + 1) (N + 1) _ he (by omega) (sp_yes hp c2 c3) H locs hP hS ls (lv_sub hl [2, 1, 0] rfl)
  have loop1 : ∀ n k, k ≤ 12 → 12 < k + n → ∀ (H : Heap) (locs : List Loc), va_P D vwCl (PM h1 aN aK cI E (cpK gK (fN E) k)) H → va_S A s.heap H locs → ∀ ls : Array Slot, lv_has ls 3 [(0, .ref h1), (1, .int (nI 0)), (2, .int (nI k))] → W p l e (headSpec (ws_ yX1_spare cX1_spare 3 (some .int)) (rmd 4)).room s m ([.ref h1] : List Value).toArray below meth c H locs 0 0 (MQ below (cQi D A (fun (r : Int32) (u : Nat → Int32) => r = aSpare E) (fun (u : Nat → Int32) => PM h1 aN aK cI E u)) ([.ref h1] : List Value).toArray s 0 0 A) (F0 m 4 ls []) := by
    intro n
    induction n with
    | zero => intro k h1 h2; exact absurd h2 (by omega)
    | succ n ih =>
      intro k hk hn H locs hP hS ls hl
      refine lv_iload_n hx hb dX1_spare_4 rfl (lv_at hl 2 rfl) ?_
      refine lv_bipush (v := 12) hx hb dX1_spare_5 (by decide +kernel) ?_
      refine lv_icmp_ge (tgt := 28) hx hb dX1_spare_7 (by decide) (fun c1 => ?_) (fun c1 => ?_)
      · have e := le12 hk c1
        subst e
        refine lv_iconst (v := nI 0) hx hb dX1_spare_28 (by decide +kernel) ?_
        refine lv_istore_n (lv' := [(2, .int (nI 0)), (0, .ref h1), (1, .int (nI 0))]) hx hb dX1_spare_29 rfl hl (by decide) rfl (fun ls hl => ?_)
        exact loop2 145 0 0 E (by omega) (by omega) (sp_0 hg) H locs hP hS ls (lv_sub hl [1, 2, 0] rfl)
      · have hk := lt12 hk c1
        refine lv_aload_n hx hb dX1_spare_10 rfl (lv_at hl 0 rfl) ?_
        refine m_get1 F hP dX1_spare_11 ?_
        refine lv_iload_n hx hb dX1_spare_14 rfl (lv_at hl 2 rfl) ?_
        refine lv_aload_n hx hb dX1_spare_15 rfl (lv_at hl 0 rfl) ?_
        refine m_get0 F hP dX1_spare_16 ?_
        refine lv_iload_n hx hb dX1_spare_19 rfl (lv_at hl 2 rfl) ?_
        refine m_ldN (v := fN E k) F hP (rfl) (hk) (rfl) dX1_spare_20 ?_
        refine m_stK F hD hP hS (k := k) (v := fN E k) (rfl) (hk) (rfl) dX1_spare_21 (fun H locs hP hS => ?_)
        have hP : va_P D vwCl (PMr h1 aN aK cI (fN E) (upd (cpK gK (fN E) k) (k) (fN E k))) H := hP
        rw [cpK_s] at hP
        refine lv_iinc (v := nI (k + 1)) (lv' := [(2, .int (nI (k + 1))), (0, .ref h1), (1, .int (nI 0))]) hx hb dX1_spare_22 hl (k := 2) rfl (nI_1 k) (by decide) rfl (fun ls hl => ?_)
        refine lv_goto (tgt := 4) hx hb dX1_spare_25 (by decide) ?_
        exact ih (k + 1) hk (by omega) H locs hP hS ls (lv_sub hl [1, 2, 0] rfl)
  refine lv_iconst (v := nI 0) hx hb dX1_spare_0 (by decide +kernel) ?_
  refine lv_istore_n (lv' := [(1, .int (nI 0)), (0, .ref h1)]) hx hb dX1_spare_1 rfl hl (by decide) rfl (fun ls hl => ?_)
  refine lv_iconst (v := nI 0) hx hb dX1_spare_2 (by decide +kernel) ?_
  refine lv_istore_n (lv' := [(2, .int (nI 0)), (1, .int (nI 0)), (0, .ref h1)]) hx hb dX1_spare_3 rfl hl (by decide) rfl (fun ls hl => ?_)
  exact loop1 13 0 (by omega) (by omega) s.heap [] (by rw [cpK_0]; exact hP) hS ls (lv_sub hl [2, 1, 0] rfl)

set_option maxHeartbeats 4000000 in
set_option maxRecDepth 100000 in
theorem mM_isolate (l : Launch) {D : va_G} {A : Nat → Prop} {h1 aN aK : Nat} {cB cZ cS cI : ClassId} (hD : MD A h1 aN aK cI) {E : Nat → Nat → Prop} {gK : Nat → Int32} (hg : gr E) (x : Int32) : Met l yX1_isolate (ws_ yX1_isolate cX1_isolate 4 (some .int)) (rmd 3) (cPc D (XT cB cZ cS cI) (PM h1 aN aK cI E gK) [.ref h1, .int x]) (cQi D A (fun (r : Int32) (u : Nat → Nat → Prop) => u = eIso E x ∧ r = aIso E x) (fun (u : Nat → Nat → Prop) => PM h1 aN aK cI u gK)) 0 0 A := by
  refine g_head (own := RX1) (by decide) rfl (Nat.le_of_ble_eq_true rfl) ?_
  intro p e s m below meth c ls F hx hb hr hlk _ hP hS hl
  have hl : lv_has ls 4 [(0, .ref h1), (1, .int x)] := hl
  refine lv_aload_n hx hb dX1_isolate_0 rfl (lv_at hl 0 rfl) ?_
  refine lv_iload_n hx hb dX1_isolate_1 rfl (lv_at hl 1 rfl) ?_
  refine g_calli F (mM_isPoint l hD x) (cwV 1 F.1.2.2.2.2 (lw_V q154 q156 qs10 q18 q157) rfl rfl rfl (by decide +kernel) ⟨Nat.le_of_ble_eq_true rfl, Nat.le_of_ble_eq_true rfl⟩) hP hS (fun _ h => h) (ci := 1) rfl rfl rfl hl.1 rfl (Nat.le_of_ble_eq_true rfl) dX1_isolate_2 ⟨Nat.zero_le _, Nat.zero_le _⟩ (fun r1 u H locs k1 hP hS _ => ?_)
  have hP : va_P D vwCl (PM h1 aN aK cI E gK) H := hP
  refine lv_if_ne (tgt := 10) hx hb dX1_isolate_5 (by decide) (fun c1 => ?_) (fun c1 => ?_)
  · obtain ⟨a, ha, rfl⟩ := b01_n (k1 ▸ c1)
    have loop : ∀ n v, v ≤ 12 → 12 < v + n → ∀ (H : Heap) (locs : List Loc), va_P D vwCl (PM h1 aN aK cI (isoE E a v) gK) H → va_S A s.heap H locs → ∀ ls : Array Slot, lv_has ls 4 [(0, .ref h1), (1, .int (nI a)), (2, .int (nI (prts E))), (3, .int (nI v))] → W p l e (headSpec (ws_ yX1_isolate cX1_isolate 4 (some .int)) (rmd 3)).room s m ([.ref h1, .int (nI a)] : List Value).toArray below meth c H locs 0 0 (MQ below (cQi D A (fun (r : Int32) (u : Nat → Nat → Prop) => u = eIso E (nI a) ∧ r = aIso E (nI a)) (fun (u : Nat → Nat → Prop) => PM h1 aN aK cI u gK)) ([.ref h1, .int (nI a)] : List Value).toArray s 0 0 A) (F0 m 17 ls []) := by
      intro n
      induction n with
      | zero => intro v h1 h2; exact absurd h2 (by omega)
      | succ n ih =>
        intro v hv hn H locs hP hS ls hl
        refine lv_iload_n hx hb dX1_isolate_17 rfl (lv_at hl 3 rfl) ?_
        refine lv_bipush (v := 12) hx hb dX1_isolate_18 (by decide +kernel) ?_
        refine lv_icmp_ge (tgt := 49) hx hb dX1_isolate_20 (by decide) (fun c2 => ?_) (fun c2 => ?_)
        · have e := le12 hv c2
          subst e
          refine lv_aload_n hx hb dX1_isolate_49 rfl (lv_at hl 0 rfl) ?_
          refine g_calli F (mM_parts l hD (isoE_gr hg a 12)) (cwV 0 F.1.2.2.2.2 (lw_V q218 q196 q197 q18 q198) rfl rfl rfl (by decide +kernel) ⟨Nat.le_of_ble_eq_true rfl, Nat.le_of_ble_eq_true rfl⟩) hP hS (fun _ h => h) (ci := 1) rfl rfl rfl hl.1 rfl (Nat.le_of_ble_eq_true rfl) dX1_isolate_50 ⟨Nat.zero_le _, Nat.zero_le _⟩ (fun r5 u H locs h5 hP hS _ => ?_)
          have hP : va_P D vwCl (PM h1 aN aK cI (isoE E a 12) gK) H := hP
          subst h5
          refine lv_iload_n hx hb dX1_isolate_53 rfl (lv_at hl 2 rfl) ?_
          refine lv_isub hx hb dX1_isolate_54 ?_
          exact r_i (isoE E a 12) F hr hlk hP hS (⟨isoE_12 hg ha, by rw [aIso_n ha, isoE_12 hg ha]⟩) dX1_isolate_55
        · have hv := lt12 hv c2
          refine lv_aload_n hx hb dX1_isolate_23 rfl (lv_at hl 0 rfl) ?_
          refine lv_aload_n hx hb dX1_isolate_24 rfl (lv_at hl 0 rfl) ?_
          refine m_get0 F hP dX1_isolate_25 ?_
          refine lv_iload_n hx hb dX1_isolate_28 rfl (lv_at hl 1 rfl) ?_
          refine m_ldN (v := bm (isoE E a v a)) F hP (rfl) (ha) (rfl) dX1_isolate_29 ?_
          refine lv_iload_n hx hb dX1_isolate_30 rfl (lv_at hl 3 rfl) ?_
          refine g_calli F (mM_in l hD (isoE E a v a) hv) (cwV 2 F.1.2.2.2.2 (lw_V q158 q160 qs11 q18 q161) rfl rfl rfl (by decide +kernel) ⟨Nat.le_of_ble_eq_true rfl, Nat.le_of_ble_eq_true rfl⟩) hP hS (fun _ h => h) (ci := 1) rfl rfl rfl hl.1 rfl (Nat.le_of_ble_eq_true rfl) dX1_isolate_31 ⟨Nat.zero_le _, Nat.zero_le _⟩ (fun r4 u H locs h4 hP hS _ => ?_)
          have hP : va_P D vwCl (PM h1 aN aK cI (isoE E a v) gK) H := hP
          refine lv_if_eq (tgt := 43) hx hb dX1_isolate_34 (by decide) (fun c3 => ?_) (fun c3 => ?_)
          · have c3 := b01_e (h4 ▸ c3)
            rw [← isoE_no hg c3] at hP
            refine lv_iinc (v := nI (v + 1)) (lv' := [(3, .int (nI (v + 1))), (0, .ref h1), (1, .int (nI a)), (2, .int (nI (prts E)))]) hx hb dX1_isolate_43 hl (k := 3) rfl (nI_1 v) (by decide) rfl (fun ls hl => ?_)
            refine lv_goto (tgt := 17) hx hb dX1_isolate_46 (by decide) ?_
            exact ih (v + 1) hv (by omega) H locs hP hS ls (lv_sub hl [1, 2, 3, 0] rfl)
          · have c3 := b01_n (h4 ▸ c3)
            refine lv_aload_n hx hb dX1_isolate_37 rfl (lv_at hl 0 rfl) ?_
            refine lv_iload_n hx hb dX1_isolate_38 rfl (lv_at hl 1 rfl) ?_
            refine lv_iload_n hx hb dX1_isolate_39 rfl (lv_at hl 3 rfl) ?_
            refine g_callv F (mM_take l hD ha hv (gr_ne (isoE_gr hg a v) c3)) (cwV 2 F.1.2.2.2.2 (lw_V q186 q188 qs15 q18 q189) rfl rfl rfl (by decide +kernel) ⟨Nat.le_of_ble_eq_true rfl, Nat.le_of_ble_eq_true rfl⟩) hP hS (fun _ h => h) (ci := 1) rfl rfl rfl hl.1 rfl (Nat.le_of_ble_eq_true rfl) dX1_isolate_40 ⟨Nat.zero_le _, Nat.zero_le _⟩ (fun u H locs hq hP hS _ => ?_)
            have hP : va_P D vwCl (PM h1 aN aK cI (dl (isoE E a v) a v) gK) H := hP
            rw [← isoE_dl hg] at hP
            refine lv_iinc (v := nI (v + 1)) (lv' := [(3, .int (nI (v + 1))), (0, .ref h1), (1, .int (nI a)), (2, .int (nI (prts E)))]) hx hb dX1_isolate_43 hl (k := 3) rfl (nI_1 v) (by decide) rfl (fun ls hl => ?_)
            refine lv_goto (tgt := 17) hx hb dX1_isolate_46 (by decide) ?_
            exact ih (v + 1) hv (by omega) H locs hP hS ls (lv_sub hl [1, 2, 3, 0] rfl)
    refine lv_aload_n hx hb dX1_isolate_10 rfl (lv_at hl 0 rfl) ?_
    refine g_calli F (mM_parts l hD hg) (cwV 0 F.1.2.2.2.2 (lw_V q218 q196 q197 q18 q198) rfl rfl rfl (by decide +kernel) ⟨Nat.le_of_ble_eq_true rfl, Nat.le_of_ble_eq_true rfl⟩) hP hS (fun _ h => h) (ci := 1) rfl rfl rfl hl.1 rfl (Nat.le_of_ble_eq_true rfl) dX1_isolate_11 ⟨Nat.zero_le _, Nat.zero_le _⟩ (fun r2 u H locs h2 hP hS _ => ?_)
    have hP : va_P D vwCl (PM h1 aN aK cI E gK) H := hP
    subst h2
    refine lv_istore_n (lv' := [(2, .int (nI (prts E))), (0, .ref h1), (1, .int (nI a))]) hx hb dX1_isolate_14 rfl hl (by decide) rfl (fun ls hl => ?_)
    refine lv_iconst (v := nI 0) hx hb dX1_isolate_15 (by decide +kernel) ?_
    refine lv_istore_n (lv' := [(3, .int (nI 0)), (2, .int (nI (prts E))), (0, .ref h1), (1, .int (nI a))]) hx hb dX1_isolate_16 rfl hl (by decide) rfl (fun ls hl => ?_)
    exact loop 13 0 (by omega) (by omega) H locs (by rw [isoE_0]; exact hP) hS ls (lv_sub hl [2, 3, 1, 0] rfl)
  · have c1 := b01_e (k1 ▸ c1)
    refine lv_iconst (v := (-1)) hx hb dX1_isolate_8 (by decide +kernel) ?_
    exact r_i (E) F hr hlk hP hS (⟨(eIso_no hg c1).symm, (aIso_b c1).symm⟩) dX1_isolate_9

set_option maxHeartbeats 4000000 in
set_option maxRecDepth 100000 in
theorem mM_greatest (l : Launch) {D : va_G} {A : Nat → Prop} {h1 aN aK : Nat} {cB cZ cS cI : ClassId} (hD : MD A h1 aN aK cI) {E : Nat → Nat → Prop} {gK : Nat → Int32} (hg : gr E) : Met l yX1_greatest (ws_ yX1_greatest cX1_greatest 5 (some .int)) (rmd 2) (cPc D (XT cB cZ cS cI) (PM h1 aN aK cI E gK) [.ref h1]) (cQi D A (fun (r : Int32) (u : Unit) => r = nI (mxN (szE E) 12)) (fun (u : Unit) => PM h1 aN aK cI E gK)) 0 0 A := by
  refine g_head (own := RX1) (by decide) rfl (Nat.le_of_ble_eq_true rfl) ?_
  intro p e s m below meth c ls F hx hb hr hlk _ hP hS hl
  have hl : lv_has ls 5 [(0, .ref h1)] := hl
  have loop : ∀ n k, k ≤ 12 → 12 < k + n → ∀ (H : Heap) (locs : List Loc), va_P D vwCl (PM h1 aN aK cI E gK) H → va_S A s.heap H locs → ∀ ls : Array Slot, lv_has ls 5 [(0, .ref h1), (1, .int (nI (mxN (szE E) k))), (2, .int (nI k))] → W p l e (headSpec (ws_ yX1_greatest cX1_greatest 5 (some .int)) (rmd 2)).room s m ([.ref h1] : List Value).toArray below meth c H locs 0 0 (MQ below (cQi D A (fun (r : Int32) (u : Unit) => r = nI (mxN (szE E) 12)) (fun (u : Unit) => PM h1 aN aK cI E gK)) ([.ref h1] : List Value).toArray s 0 0 A) (F0 m 4 ls []) := by
    intro n
    induction n with
    | zero => intro k h1 h2; exact absurd h2 (by omega)
    | succ n ih =>
      intro k hk hn H locs hP hS ls hl
      refine lv_iload_n hx hb dX1_greatest_4 rfl (lv_at hl 2 rfl) ?_
      refine lv_bipush (v := 12) hx hb dX1_greatest_5 (by decide +kernel) ?_
      refine lv_icmp_ge (tgt := 38) hx hb dX1_greatest_7 (by decide) (fun c1 => ?_) (fun c1 => ?_)
      · have e := le12 hk c1
        subst e
        refine lv_iload_n hx hb dX1_greatest_38 rfl (lv_at hl 1 rfl) ?_
        exact r_i (()) F hr hlk hP hS (rfl) dX1_greatest_39
      · have hk := lt12 hk c1
        have b1 := szE_le E k
        have b2 := mxE_le E k
        refine lv_aload_n hx hb dX1_greatest_10 rfl (lv_at hl 0 rfl) ?_
        refine lv_iload_n hx hb dX1_greatest_11 rfl (lv_at hl 2 rfl) ?_
        refine g_calli F (mM_walk l hD hg hk) (cwV 1 F.1.2.2.2.2 (lw_V q174 q176 qs13 q18 q177) rfl rfl rfl (by decide +kernel) ⟨Nat.le_of_ble_eq_true rfl, Nat.le_of_ble_eq_true rfl⟩) hP hS (fun _ h => h) (ci := 1) rfl rfl rfl hl.1 rfl (Nat.le_of_ble_eq_true rfl) dX1_greatest_12 ⟨Nat.zero_le _, Nat.zero_le _⟩ (fun r1 u H locs q1 hP hS _ => ?_)
        have hP : va_P D vwCl (PM h1 aN aK cI E gK) H := hP
        subst q1
        refine lv_istore_n (lv' := [(3, .int (bm (cn E k))), (0, .ref h1), (1, .int (nI (mxN (szE E) k))), (2, .int (nI k))]) hx hb dX1_greatest_15 rfl hl (by decide) rfl (fun ls hl => ?_)
        refine lv_aload_n hx hb dX1_greatest_16 rfl (lv_at hl 1 rfl) ?_
        refine lv_iload_n hx hb dX1_greatest_17 rfl (lv_at hl 0 rfl) ?_
        refine g_calli F (mM_sizeOf l hD (cn E k)) (cwV 1 F.1.2.2.2.2 (lw_V q166 q168 qs12 q18 q169) rfl rfl rfl (by decide +kernel) ⟨Nat.le_of_ble_eq_true rfl, Nat.le_of_ble_eq_true rfl⟩) hP hS (fun _ h => h) (ci := 1) rfl rfl rfl hl.1 rfl (Nat.le_of_ble_eq_true rfl) dX1_greatest_18 ⟨Nat.zero_le _, Nat.zero_le _⟩ (fun r2 u H locs q2 hP hS _ => ?_)
        have hP : va_P D vwCl (PM h1 aN aK cI E gK) H := hP
        subst q2
        refine g_top (show nI (ctP (cn E k) 12) = nI (szE E k) from rfl) ?_
        refine lv_istore (lv' := [(4, .int (nI (szE E k))), (3, .int (bm (cn E k))), (0, .ref h1), (1, .int (nI (mxN (szE E) k))), (2, .int (nI k))]) hx hb dX1_greatest_21 hl (by decide) rfl (fun ls hl => ?_)
        refine lv_iload hx hb dX1_greatest_23 (lv_at hl 0 rfl) ?_
        refine lv_iload_n hx hb dX1_greatest_25 rfl (lv_at hl 3 rfl) ?_
        refine lv_icmp_le (tgt := 32) hx hb dX1_greatest_26 (by decide) (fun c5 => ?_) (fun c5 => ?_)
        · rw [← mx_le ((nI_leI (by omega) (by omega)).mp c5)] at hl
          refine lv_iinc (v := nI (k + 1)) (lv' := [(2, .int (nI (k + 1))), (4, .int (nI (szE E k))), (3, .int (bm (cn E k))), (0, .ref h1), (1, .int (nI (mxN (szE E) (k + 1))))]) hx hb dX1_greatest_32 hl (k := 4) rfl (nI_1 k) (by decide) rfl (fun ls hl => ?_)
          refine lv_goto (tgt := 4) hx hb dX1_greatest_35 (by decide) ?_
          exact ih (k + 1) hk (by omega) H locs hP hS ls (lv_sub hl [3, 4, 0] rfl)
        · have c5 : mxN (szE E) k < szE E k := Nat.not_le.mp (fun z => c5 (nI_le z (by omega)))
          refine lv_iload hx hb dX1_greatest_29 (lv_at hl 0 rfl) ?_
          refine g_top (y := nI (mxN (szE E) (k + 1))) (by rw [mx_gt c5]) ?_
          refine lv_istore_n (lv' := [(1, .int (nI (mxN (szE E) (k + 1)))), (4, .int (nI (szE E k))), (3, .int (bm (cn E k))), (0, .ref h1), (2, .int (nI k))]) hx hb dX1_greatest_31 rfl hl (by decide) rfl (fun ls hl => ?_)
          refine lv_iinc (v := nI (k + 1)) (lv' := [(2, .int (nI (k + 1))), (1, .int (nI (mxN (szE E) (k + 1)))), (4, .int (nI (szE E k))), (3, .int (bm (cn E k))), (0, .ref h1)]) hx hb dX1_greatest_32 hl (k := 4) rfl (nI_1 k) (by decide) rfl (fun ls hl => ?_)
          refine lv_goto (tgt := 4) hx hb dX1_greatest_35 (by decide) ?_
          exact ih (k + 1) hk (by omega) H locs hP hS ls (lv_sub hl [4, 1, 0] rfl)
  refine lv_iconst (v := nI (mxN (szE E) 0)) hx hb dX1_greatest_0 (rfl) ?_
  refine lv_istore_n (lv' := [(1, .int (nI (mxN (szE E) 0))), (0, .ref h1)]) hx hb dX1_greatest_1 rfl hl (by decide) rfl (fun ls hl => ?_)
  refine lv_iconst (v := nI 0) hx hb dX1_greatest_2 (by decide +kernel) ?_
  refine lv_istore_n (lv' := [(2, .int (nI 0)), (1, .int (nI (mxN (szE E) 0))), (0, .ref h1)]) hx hb dX1_greatest_3 rfl hl (by decide) rfl (fun ls hl => ?_)
  exact loop 13 0 (by omega) (by omega) s.heap [] hP hS ls (lv_sub hl [2, 1, 0] rfl)
end
section
/-! the constructors -/
def AI (h0 sz : Nat) : Nat → Prop := fun q => q = h0 ∨ sz ≤ q
theorem va_D1 {A : Nat → Prop} {a : Nat} {e : va_E} (h : A a) : va_D A [(a, e)] := by
  have h1 : ∀ (i : Nat) (q : Nat × va_E), ([(a, e)] : va_W)[i]? = some q → i = 0 ∧ q = (a, e) := by
    intro i q hq
    match i, hq with
    | 0, hq => cases hq; exact ⟨rfl, rfl⟩
    | i + 1, hq => simp at hq
  refine ⟨fun i j p q hi hj _ => ?_, fun k q hk => ?_⟩
  · rw [(h1 i p hi).1, (h1 j q hj).1]
  · rw [(h1 k q hk).2]; exact h
theorem cell_cong {cA : ClassId} {n : Nat} {f g : Nat → Int32} (h : ∀ k, k < n → f k = g k) : vp_cell cA (n, .inl f) = vp_cell cA (n, .inl g) := by
  rw [vp_cell_i, vp_cell_i]
  unfold arrV
  congr 2
  funext j
  show Value.int (f j.val) = Value.int (g j.val)
  rw [h j.val j.isLt]
theorem PXr_L {D : va_G} {h0 aL aZ aT aO : Nat} {cB cZ cS : ClassId} {ec pt : Int32} {gL gL' gZ gT gO : Nat → Int32} {H : Heap} (h : ∀ k, k < 144 → gL k = gL' k) (hP : va_P D vwCl (PXr h0 aL aZ aT aO cB cZ cS ec pt gL gZ gT gO) H) : va_P D vwCl (PXr h0 aL aZ aT aO cB cZ cS ec pt gL' gZ gT gO) H := by
  intro k q hk
  match k, hk with
  | 0, hk => exact hP 0 q hk
  | 1, hk =>
    cases hk
    have q1 := hP 1 _ rfl
    show H[aL]? = some (vp_cell cB (144, .inl gL'))
    rw [← cell_cong h]
    exact q1
  | 2, hk => exact hP 2 q hk
  | 3, hk => exact hP 3 q hk
  | 4, hk => exact hP 4 q hk
  | k + 5, hk => exact hP (k + 5) q hk
theorem fL_0 : fL lv0 = fun _ => -1 := by
  funext k
  show nI 0 - 1 = -1
  decide +kernel
theorem fZ_0 : fZ tr0 = fun _ => 0 := by
  funext k
  exact b01_f (fun q => q)
theorem fT_0 : fT lv0 tr0 = fun _ => 0 := by
  funext k
  exact bm_z fun y _ q => q.2
theorem fO_0 : fO lv0 tr0 = fun _ => 0 := by
  funext k
  exact bm_z fun y _ q => by
    have h := q.1
    exact absurd (show 0 = k / 12 + 1 from h) (by omega)
theorem fN_0 : fN (fun _ _ => False) = fun _ => 0 := by
  funext k
  exact bm_z fun y _ q => q

theorem va_D.addr {A : Nat → Prop} {ws ws' : va_W} (h : va_D A ws) (e : ws.map (fun q => q.1) = ws'.map (fun q => q.1)) : va_D A ws' := by
  have at' : ∀ (k : Nat) (q : Nat × va_E), ws'[k]? = some q → ∃ q', ws[k]? = some q' ∧ q'.1 = q.1 := by
    intro k q hq
    have h1 : (ws'.map (fun q => q.1))[k]? = some q.1 := by rw [List.getElem?_map, hq]; rfl
    rw [← e, List.getElem?_map] at h1
    cases hk : ws[k]? with
    | none => rw [hk] at h1; cases h1
    | some q' => rw [hk] at h1; exact ⟨q', rfl, Option.some.inj h1⟩
  refine ⟨fun i j p q hi hj hpq => ?_, fun k q hk => ?_⟩
  · obtain ⟨p', h1, h2⟩ := at' i p hi
    obtain ⟨q', h3, h4⟩ := at' j q hj
    exact h.1 i j p' q' h1 h3 (by rw [h2, h4]; exact hpq)
  · obtain ⟨q', h1, h2⟩ := at' k q hk
    rw [← h2]
    exact h.2 k q' h1

set_option maxHeartbeats 4000000 in
set_option maxRecDepth 100000 in
/-- LevelForests(): four arrays, no edge, 12 parts -/
theorem mX_init (l : Launch) {D : va_G} (h0 sz : Nat) : Met l yX0_init (ws_ yX0_init cX0_init 2 none) ({ frames := 1, cells := 4, slots := 384, locals := 12 }) (va_Pc [.ref h0] (fun U => U.heap.size = sz ∧ va_P D vwCl [(h0, .inr (0, [.int 0, .int 0, .null, .null, .null, .null]))] U.heap ∧ va_K D vwCl [] U)) (va_Qv (fun (_ : Nat × Nat × Nat × Nat × ClassId × ClassId × ClassId) => True) (fun (u : Nat × Nat × Nat × Nat × ClassId × ClassId × ClassId) t => va_P D vwCl (PX h0 u.1 u.2.1 u.2.2.1 u.2.2.2.1 u.2.2.2.2.1 u.2.2.2.2.2.1 u.2.2.2.2.2.2 0 12 lv0 tr0) t.heap ∧ va_K D vwCl [(u.2.2.2.2.1, .byte), (u.2.2.2.2.2.1, .boolean), (u.2.2.2.2.2.2, .short)] t ∧ va_D (AI h0 sz) (PX h0 u.1 u.2.1 u.2.2.1 u.2.2.2.1 u.2.2.2.2.1 u.2.2.2.2.2.1 u.2.2.2.2.2.2 0 12 lv0 tr0)) (AI h0 sz)) 4 384 (AI h0 sz) := by
  refine Met.ofW (cc := cX0_init) (maxL := 2) (ret := none) (by decide) rfl ?_
  intro p e s m args below meth c s₁ B hml hv
  obtain ⟨rfl, hsz, hP, hK⟩ := hv
  have hx := B.exec
  have hb := B.bytes
  have hr := B.returns
  have hts := atoms_spec (ws := ws_ yX0_init cX0_init 2 none) B.pre
  have hts : ∀ w ∈ lw_all, w.before _ s = true := fun w h => hts w (List.mem_cons_of_mem _ h)
  have hown : s.vm.findClass RX0 = some m.cls := findClass_of_methodNamed B.named
  have hlocks := B.notSynchronized
  have hin : meth.name = "<init>" := (name_of_methodNamed B.named B.method).1
  subst hsz
  have hD : va_D (AI h0 s.heap.size) [(h0, .inr (0, [.int 0, .int 0, .null, .null, .null, .null]))] := va_D1 (Or.inl rfl)
  have hA : ∀ q : Nat, s.heap.size ≤ q → AI h0 s.heap.size q := fun q h => Or.inr h
  have hS : va_S (AI h0 s.heap.size) s.heap s.heap [] := va_S.rf
  have hl := lv_entry ([.ref h0]) (n := 2) (Nat.le_of_ble_eq_true rfl)
  rw [lg_entry_eq]
  generalize (lg_sl ([.ref h0]) ++ List.replicate (2 - (lg_sl ([.ref h0])).length) Slot.unset).toArray = ls at hl ⊢
  have hl : lv_has ls 2 [(0, .ref h0)] := hl
  refine lv_aload_n hx hb dX0_init_0 rfl (lv_at hl 0 rfl) ?_
  refine W.objInit hx hb hown (hts _ q24) (hts _ q25) (hts _ q26) rfl (by rw [hml]; exact hl.1) rfl dX0_init_1 (Nat.le_of_ble_eq_true rfl) (Nat.le_of_ble_eq_true rfl) ?_
  refine W.eq (g2 := F0 m 4 ls []) rfl ?_
  refine lv_aload_n hx hb dX0_init_4 rfl (lv_at hl 0 rfl) ?_
  refine lv_sipush (v := 144) hx hb dX0_init_5 (by decide +kernel) ?_
  refine va_newa (atype := .byte) (ty := .byte) (a0 := (144, .inl (fun _ => 0))) hx hb (hts _ q46) rfl hK hP hD hS hA (N' := 144) (fun _ => rfl) (by decide +kernel) (by decide +kernel) (by decide +kernel) (Nat.le_of_ble_eq_true rfl) (Nat.le_of_ble_eq_true rfl) dX0_init_8 (fun aL cB H hK hP hD hS => ?_)
  have hP : va_P D vwCl [(h0, .inr (0, [.int 0, .int 0, .null, .null, .null, .null])), (aL, .inl (cB, 144, .inl (fun _ => 0)))] H := hP
  have hD : va_D (AI h0 s.heap.size) [(h0, .inr (0, [.int 0, .int 0, .null, .null, .null, .null])), (aL, .inl (cB, 144, .inl (fun _ => 0)))] := hD
  have hK : va_K D vwCl [(cB, .byte)] s := hK
  refine W.widen (k := 1) (n := 144) (Nat.le_of_ble_eq_true rfl) (Nat.le_of_ble_eq_true rfl) ?_
  refine va_putF (D := D) (ci := 0) (v := .ref aL) (ty := .array .byte) (C := RX0) (T := TX0) (N := 6) hx hb hts in_X0 tyX0 tyX0_ok nmX0 hown hK hP hD hS 0 rfl rfl 2 (by decide) (hts _ q29) (fun _ h9 => h9) rfl hin rfl (by decide +kernel) rfl rfl (Nat.le_of_ble_eq_true rfl) dX0_init_10 (fun H locs hP hD hS => ?_)
  have hP : va_P D vwCl [(h0, .inr (0, [.int 0, .int 0, .ref aL, .null, .null, .null])), (aL, .inl (cB, 144, .inl (fun _ => 0)))] H := hP
  have hD : va_D (AI h0 s.heap.size) [(h0, .inr (0, [.int 0, .int 0, .ref aL, .null, .null, .null])), (aL, .inl (cB, 144, .inl (fun _ => 0)))] := hD
  refine lv_aload_n hx hb dX0_init_13 rfl (lv_at hl 0 rfl) ?_
  refine lv_sipush (v := 144) hx hb dX0_init_14 (by decide +kernel) ?_
  refine va_newa (atype := .boolean) (ty := .boolean) (a0 := (144, .inl (fun _ => 0))) hx hb (hts _ q47) rfl hK hP hD hS hA (N' := 144) (fun _ => rfl) (by decide +kernel) (by decide +kernel) (by decide +kernel) (Nat.le_of_ble_eq_true rfl) (Nat.le_of_ble_eq_true rfl) dX0_init_17 (fun aZ cZ H hK hP hD hS => ?_)
  have hP : va_P D vwCl [(h0, .inr (0, [.int 0, .int 0, .ref aL, .null, .null, .null])), (aL, .inl (cB, 144, .inl (fun _ => 0))), (aZ, .inl (cZ, 144, .inl (fun _ => 0)))] H := hP
  have hD : va_D (AI h0 s.heap.size) [(h0, .inr (0, [.int 0, .int 0, .ref aL, .null, .null, .null])), (aL, .inl (cB, 144, .inl (fun _ => 0))), (aZ, .inl (cZ, 144, .inl (fun _ => 0)))] := hD
  have hK : va_K D vwCl [(cB, .byte), (cZ, .boolean)] s := hK
  refine W.widen (k := 2) (n := 288) (Nat.le_of_ble_eq_true rfl) (Nat.le_of_ble_eq_true rfl) ?_
  refine va_putF (D := D) (ci := 0) (v := .ref aZ) (ty := .array .boolean) (C := RX0) (T := TX0) (N := 6) hx hb hts in_X0 tyX0 tyX0_ok nmX0 hown hK hP hD hS 0 rfl rfl 3 (by decide) (hts _ q30) (fun _ h9 => h9) rfl hin rfl (by decide +kernel) rfl rfl (Nat.le_of_ble_eq_true rfl) dX0_init_19 (fun H locs hP hD hS => ?_)
  have hP : va_P D vwCl [(h0, .inr (0, [.int 0, .int 0, .ref aL, .ref aZ, .null, .null])), (aL, .inl (cB, 144, .inl (fun _ => 0))), (aZ, .inl (cZ, 144, .inl (fun _ => 0)))] H := hP
  have hD : va_D (AI h0 s.heap.size) [(h0, .inr (0, [.int 0, .int 0, .ref aL, .ref aZ, .null, .null])), (aL, .inl (cB, 144, .inl (fun _ => 0))), (aZ, .inl (cZ, 144, .inl (fun _ => 0)))] := hD
  refine lv_aload_n hx hb dX0_init_22 rfl (lv_at hl 0 rfl) ?_
  refine lv_bipush (v := 48) hx hb dX0_init_23 (by decide +kernel) ?_
  refine va_newa (atype := .short) (ty := .short) (a0 := (48, .inl (fun _ => 0))) hx hb (hts _ q48) rfl hK hP hD hS hA (N' := 48) (fun _ => rfl) (by decide +kernel) (by decide +kernel) (by decide +kernel) (Nat.le_of_ble_eq_true rfl) (Nat.le_of_ble_eq_true rfl) dX0_init_25 (fun aT cS H hK hP hD hS => ?_)
  have hP : va_P D vwCl [(h0, .inr (0, [.int 0, .int 0, .ref aL, .ref aZ, .null, .null])), (aL, .inl (cB, 144, .inl (fun _ => 0))), (aZ, .inl (cZ, 144, .inl (fun _ => 0))), (aT, .inl (cS, 48, .inl (fun _ => 0)))] H := hP
  have hD : va_D (AI h0 s.heap.size) [(h0, .inr (0, [.int 0, .int 0, .ref aL, .ref aZ, .null, .null])), (aL, .inl (cB, 144, .inl (fun _ => 0))), (aZ, .inl (cZ, 144, .inl (fun _ => 0))), (aT, .inl (cS, 48, .inl (fun _ => 0)))] := hD
  have hK : va_K D vwCl [(cB, .byte), (cZ, .boolean), (cS, .short)] s := hK
  refine W.widen (k := 3) (n := 336) (Nat.le_of_ble_eq_true rfl) (Nat.le_of_ble_eq_true rfl) ?_
  refine va_putF (D := D) (ci := 0) (v := .ref aT) (ty := .array .short) (C := RX0) (T := TX0) (N := 6) hx hb hts in_X0 tyX0 tyX0_ok nmX0 hown hK hP hD hS 0 rfl rfl 4 (by decide) (hts _ q31) (fun _ h9 => h9) rfl hin rfl (by decide +kernel) rfl rfl (Nat.le_of_ble_eq_true rfl) dX0_init_27 (fun H locs hP hD hS => ?_)
  have hP : va_P D vwCl [(h0, .inr (0, [.int 0, .int 0, .ref aL, .ref aZ, .ref aT, .null])), (aL, .inl (cB, 144, .inl (fun _ => 0))), (aZ, .inl (cZ, 144, .inl (fun _ => 0))), (aT, .inl (cS, 48, .inl (fun _ => 0)))] H := hP
  have hD : va_D (AI h0 s.heap.size) [(h0, .inr (0, [.int 0, .int 0, .ref aL, .ref aZ, .ref aT, .null])), (aL, .inl (cB, 144, .inl (fun _ => 0))), (aZ, .inl (cZ, 144, .inl (fun _ => 0))), (aT, .inl (cS, 48, .inl (fun _ => 0)))] := hD
  refine lv_aload_n hx hb dX0_init_30 rfl (lv_at hl 0 rfl) ?_
  refine lv_bipush (v := 48) hx hb dX0_init_31 (by decide +kernel) ?_
  refine va_newa (atype := .short) (ty := .short) (a0 := (48, .inl (fun _ => 0))) hx hb (hts _ q48) rfl hK hP hD hS hA (N' := 48) (fun _ => rfl) (by decide +kernel) (by decide +kernel) (by decide +kernel) (Nat.le_of_ble_eq_true rfl) (Nat.le_of_ble_eq_true rfl) dX0_init_33 (fun aO cS1 H hK hP hD hS => ?_)
  have hP : va_P D vwCl [(h0, .inr (0, [.int 0, .int 0, .ref aL, .ref aZ, .ref aT, .null])), (aL, .inl (cB, 144, .inl (fun _ => 0))), (aZ, .inl (cZ, 144, .inl (fun _ => 0))), (aT, .inl (cS, 48, .inl (fun _ => 0))), (aO, .inl (cS1, 48, .inl (fun _ => 0)))] H := hP
  have hD : va_D (AI h0 s.heap.size) [(h0, .inr (0, [.int 0, .int 0, .ref aL, .ref aZ, .ref aT, .null])), (aL, .inl (cB, 144, .inl (fun _ => 0))), (aZ, .inl (cZ, 144, .inl (fun _ => 0))), (aT, .inl (cS, 48, .inl (fun _ => 0))), (aO, .inl (cS1, 48, .inl (fun _ => 0)))] := hD
  have hK : va_K D vwCl [(cB, .byte), (cZ, .boolean), (cS, .short), (cS1, .short)] s := hK
  refine W.widen (k := 4) (n := 384) (Nat.le_of_ble_eq_true rfl) (Nat.le_of_ble_eq_true rfl) ?_
  refine va_putF (D := D) (ci := 0) (v := .ref aO) (ty := .array .short) (C := RX0) (T := TX0) (N := 6) hx hb hts in_X0 tyX0 tyX0_ok nmX0 hown hK hP hD hS 0 rfl rfl 5 (by decide) (hts _ q32) (fun _ h9 => h9) rfl hin rfl (by decide +kernel) rfl rfl (Nat.le_of_ble_eq_true rfl) dX0_init_35 (fun H locs hP hD hS => ?_)
  have hP : va_P D vwCl [(h0, .inr (0, [.int 0, .int 0, .ref aL, .ref aZ, .ref aT, .ref aO])), (aL, .inl (cB, 144, .inl (fun _ => 0))), (aZ, .inl (cZ, 144, .inl (fun _ => 0))), (aT, .inl (cS, 48, .inl (fun _ => 0))), (aO, .inl (cS1, 48, .inl (fun _ => 0)))] H := hP
  have hD : va_D (AI h0 s.heap.size) [(h0, .inr (0, [.int 0, .int 0, .ref aL, .ref aZ, .ref aT, .ref aO])), (aL, .inl (cB, 144, .inl (fun _ => 0))), (aZ, .inl (cZ, 144, .inl (fun _ => 0))), (aT, .inl (cS, 48, .inl (fun _ => 0))), (aO, .inl (cS1, 48, .inl (fun _ => 0)))] := hD
  have eS1 : s.vm.findClass ("[" ++ FieldType.short.toString) = some cS := (hK.2 2 _ rfl).2
  have eS2 : s.vm.findClass ("[" ++ FieldType.short.toString) = some cS1 := (hK.2 3 _ rfl).2
  obtain rfl : cS = cS1 := Option.some.inj (eS1.symm.trans eS2)
  have hK := hK.sub (tys' := [(cB, .byte), (cZ, .boolean), (cS, .short)]) [0, 1, 2] rfl
  refine lv_aload_n hx hb dX0_init_38 rfl (lv_at hl 0 rfl) ?_
  refine lv_bipush (v := 12) hx hb dX0_init_39 (by decide +kernel) ?_
  refine va_put (D := D) (ci := 0) (v := .int 12) (ty := .int) (C := RX0) (T := TX0) (N := 6) hx hb hts in_X0 tyX0 tyX0_ok nmX0 hown hK hP hD hS 0 rfl rfl 1 (by decide) (hts _ q28) (fun _ h9 => h9) rfl (by decide +kernel) rfl rfl (Nat.le_of_ble_eq_true rfl) dX0_init_41 (fun H locs hP hD hS => ?_)
  have hP : va_P D vwCl (PXr h0 aL aZ aT aO cB cZ cS 0 12 (fun _ => 0) (fun _ => 0) (fun _ => 0) (fun _ => 0)) H := hP
  have hD : va_D (AI h0 s.heap.size) (PXr h0 aL aZ aT aO cB cZ cS 0 12 (fun _ => 0) (fun _ => 0) (fun _ => 0) (fun _ => 0)) := hD
  have loop : ∀ n k, k ≤ 144 → 144 < k + n → ∀ (H : Heap) (locs : List Loc), va_P D vwCl (PXr h0 aL aZ aT aO cB cZ cS 0 12 (cpK (fun _ => 0) (fun _ => -1) k) (fun _ => 0) (fun _ => 0) (fun _ => 0)) H → va_D (AI h0 s.heap.size) (PXr h0 aL aZ aT aO cB cZ cS 0 12 (cpK (fun _ => 0) (fun _ => -1) k) (fun _ => 0) (fun _ => 0) (fun _ => 0)) → va_S (AI h0 s.heap.size) s.heap H locs → ∀ ls : Array Slot, lv_has ls 2 [(0, .ref h0), (1, .int (nI k))] → W p l e (headSpec (ws_ yX0_init cX0_init 2 none) ({ frames := 1, cells := 4, slots := 384, locals := 12 })).room s m ([.ref h0] : List Value).toArray below meth c H locs 4 384 (MQ below (va_Qv (fun (_ : Nat × Nat × Nat × Nat × ClassId × ClassId × ClassId) => True) (fun (u : Nat × Nat × Nat × Nat × ClassId × ClassId × ClassId) t => va_P D vwCl (PX h0 u.1 u.2.1 u.2.2.1 u.2.2.2.1 u.2.2.2.2.1 u.2.2.2.2.2.1 u.2.2.2.2.2.2 0 12 lv0 tr0) t.heap ∧ va_K D vwCl [(u.2.2.2.2.1, .byte), (u.2.2.2.2.2.1, .boolean), (u.2.2.2.2.2.2, .short)] t ∧ va_D (AI h0 s.heap.size) (PX h0 u.1 u.2.1 u.2.2.1 u.2.2.2.1 u.2.2.2.2.1 u.2.2.2.2.2.1 u.2.2.2.2.2.2 0 12 lv0 tr0)) (AI h0 s.heap.size)) ([.ref h0] : List Value).toArray s 4 384 (AI h0 s.heap.size)) (F0 m 46 ls []) := by
    intro n
    induction n with
    | zero => intro k h1 h2; exact absurd h2 (by omega)
    | succ n ih =>
      intro k hk hn H locs hP hD hS ls hl
      refine lv_iload_n hx hb dX0_init_46 rfl (lv_at hl 1 rfl) ?_
      refine lv_sipush (v := 144) hx hb dX0_init_47 (by decide +kernel) ?_
      refine lv_icmp_ge (tgt := 66) hx hb dX0_init_50 (by decide) (fun c1 => ?_) (fun c1 => ?_)
      · have e := le144 hk c1
        subst e
        have hP := PXr_L (gL' := fun _ => -1) (fun k hk => cpK_in hk) hP
        rw [← fL_0, ← fT_0] at hP
        have hP2 : va_P D vwCl (PX h0 aL aZ aT aO cB cZ cS 0 12 lv0 tr0) H := by
          unfold PX
          rw [fZ_0, fO_0, ← fT_0]
          exact hP
        have hD2 : va_D (AI h0 s.heap.size) (PX h0 aL aZ aT aO cB cZ cS 0 12 lv0 tr0) := hD.addr rfl
        exact W.vret hx hb hr (fun t ht hW => ⟨⟨(aL, aZ, aT, aO, cB, cZ, cS), rfl, trivial, (by show va_P D vwCl (PX h0 aL aZ aT aO cB cZ cS 0 12 lv0 tr0) t.heap; rw [ht]; exact hP2), va_K.moved hW.alike hK, hD2⟩, hS.F ht⟩) hS.2.2 dX0_init_66 hlocks
      · have hk := lt144 hk c1
        refine lv_aload_n hx hb dX0_init_53 rfl (lv_at hl 0 rfl) ?_
        refine va_get (D := D) (ci := 0) (v := .ref aL) (C := RX0) (T := TX0) (N := 6) hx hb hts in_X0 hown hK hP 0 rfl rfl 2 (by decide) (hts _ q29) (fun _ h9 => h9) rfl dX0_init_54 ?_
        refine lv_iload_n hx hb dX0_init_57 rfl (lv_at hl 1 rfl) ?_
        refine lv_iconst (v := (-1)) hx hb dX0_init_58 (by decide +kernel) ?_
        refine va_bast hx hb hK hP hD hS 1 0 rfl rfl (vp_in_nI hk (by omega)) dX0_init_59 (fun H locs hP hD hS => ?_)
        rw [nI_clamp (by omega), i8m, show upd (cpK (fun _ => 0) (fun _ => -1) k) k (-1) = cpK (fun _ => 0) (fun _ => -1) (k + 1) from cpK_s _ _ k] at hP hD
        refine lv_iinc (v := nI (k + 1)) (lv' := [(1, .int (nI (k + 1))), (0, .ref h0)]) hx hb dX0_init_60 hl (k := 1) rfl (nI_1 k) (by decide) rfl (fun ls hl => ?_)
        refine lv_goto (tgt := 46) hx hb dX0_init_63 (by decide) ?_
        exact ih (k + 1) hk (by omega) H locs hP hD hS ls (lv_sub hl [1, 0] rfl)
  refine lv_iconst (v := nI 0) hx hb dX0_init_44 (by decide +kernel) ?_
  refine lv_istore_n (lv' := [(1, .int (nI 0)), (0, .ref h0)]) hx hb dX0_init_45 rfl hl (by decide) rfl (fun ls hl => ?_)
  exact loop 145 0 (by omega) (by omega) H locs (by rw [cpK_0]; exact hP) (by rw [cpK_0]; exact hD) hS ls (lv_sub hl [1, 0] rfl)

set_option maxHeartbeats 4000000 in
set_option maxRecDepth 100000 in
/-- LevelForestsModel(): two arrays, no edge -/
theorem mM_init (l : Launch) {D : va_G} (h1 sz : Nat) : Met l yX1_init (ws_ yX1_init cX1_init 1 none) ({ frames := 1, cells := 2, slots := 24, locals := 12 }) (va_Pc [.ref h1] (fun U => U.heap.size = sz ∧ va_P D vwCl [(h1, .inr (1, [.null, .null]))] U.heap ∧ va_K D vwCl [] U)) (va_Qv (fun (_ : Nat × Nat × ClassId) => True) (fun (u : Nat × Nat × ClassId) t => va_P D vwCl (PM h1 u.1 u.2.1 u.2.2 (fun _ _ => False) (fun _ => 0)) t.heap ∧ va_K D vwCl [(u.2.2, .int)] t ∧ va_D (AI h1 sz) (PM h1 u.1 u.2.1 u.2.2 (fun _ _ => False) (fun _ => 0))) (AI h1 sz)) 2 24 (AI h1 sz) := by
  refine Met.ofW (cc := cX1_init) (maxL := 1) (ret := none) (by decide) rfl ?_
  intro p e s m args below meth c s₁ B hml hv
  obtain ⟨rfl, hsz, hP, hK⟩ := hv
  have hx := B.exec
  have hb := B.bytes
  have hr := B.returns
  have hts := atoms_spec (ws := ws_ yX1_init cX1_init 1 none) B.pre
  have hts : ∀ w ∈ lw_all, w.before _ s = true := fun w h => hts w (List.mem_cons_of_mem _ h)
  have hown : s.vm.findClass RX1 = some m.cls := findClass_of_methodNamed B.named
  have hlocks := B.notSynchronized
  have hin : meth.name = "<init>" := (name_of_methodNamed B.named B.method).1
  subst hsz
  have hD : va_D (AI h1 s.heap.size) [(h1, .inr (1, [.null, .null]))] := va_D1 (Or.inl rfl)
  have hA : ∀ q : Nat, s.heap.size ≤ q → AI h1 s.heap.size q := fun q h => Or.inr h
  have hS : va_S (AI h1 s.heap.size) s.heap s.heap [] := va_S.rf
  have hl := lv_entry ([.ref h1]) (n := 1) (Nat.le_of_ble_eq_true rfl)
  rw [lg_entry_eq]
  generalize (lg_sl ([.ref h1]) ++ List.replicate (1 - (lg_sl ([.ref h1])).length) Slot.unset).toArray = ls at hl ⊢
  have hl : lv_has ls 1 [(0, .ref h1)] := hl
  refine lv_aload_n hx hb dX1_init_0 rfl (lv_at hl 0 rfl) ?_
  refine W.objInit hx hb hown (hts _ q141) (hts _ q25) (hts _ q26) rfl (by rw [hml]; exact hl.1) rfl dX1_init_1 (Nat.le_of_ble_eq_true rfl) (Nat.le_of_ble_eq_true rfl) ?_
  refine W.eq (g2 := F0 m 4 ls []) rfl ?_
  refine lv_aload_n hx hb dX1_init_4 rfl (lv_at hl 0 rfl) ?_
  refine lv_bipush (v := 12) hx hb dX1_init_5 (by decide +kernel) ?_
  refine va_newa (atype := .int) (ty := .int) (a0 := (12, .inl (fun _ => 0))) hx hb (hts _ q149) rfl hK hP hD hS hA (N' := 12) (fun _ => rfl) (by decide +kernel) (by decide +kernel) (by decide +kernel) (Nat.le_of_ble_eq_true rfl) (Nat.le_of_ble_eq_true rfl) dX1_init_7 (fun aN cI H hK hP hD hS => ?_)
  have hP : va_P D vwCl [(h1, .inr (1, [.null, .null])), (aN, .inl (cI, 12, .inl (fun _ => 0)))] H := hP
  have hD : va_D (AI h1 s.heap.size) [(h1, .inr (1, [.null, .null])), (aN, .inl (cI, 12, .inl (fun _ => 0)))] := hD
  have hK : va_K D vwCl [(cI, .int)] s := hK
  refine W.widen (k := 1) (n := 12) (Nat.le_of_ble_eq_true rfl) (Nat.le_of_ble_eq_true rfl) ?_
  refine va_put (D := D) (ci := 1) (v := .ref aN) (ty := .array .int) (C := RX1) (T := TX1) (N := 2) hx hb hts in_X1 tyX1 tyX1_ok nmX1 hown hK hP hD hS 0 rfl rfl 0 (by decide) (hts _ q142) (fun _ h9 => h9) rfl (by decide +kernel) rfl rfl (Nat.le_of_ble_eq_true rfl) dX1_init_9 (fun H locs hP hD hS => ?_)
  have hP : va_P D vwCl [(h1, .inr (1, [.ref aN, .null])), (aN, .inl (cI, 12, .inl (fun _ => 0)))] H := hP
  have hD : va_D (AI h1 s.heap.size) [(h1, .inr (1, [.ref aN, .null])), (aN, .inl (cI, 12, .inl (fun _ => 0)))] := hD
  refine lv_aload_n hx hb dX1_init_12 rfl (lv_at hl 0 rfl) ?_
  refine lv_bipush (v := 12) hx hb dX1_init_13 (by decide +kernel) ?_
  refine va_newa (atype := .int) (ty := .int) (a0 := (12, .inl (fun _ => 0))) hx hb (hts _ q149) rfl hK hP hD hS hA (N' := 12) (fun _ => rfl) (by decide +kernel) (by decide +kernel) (by decide +kernel) (Nat.le_of_ble_eq_true rfl) (Nat.le_of_ble_eq_true rfl) dX1_init_15 (fun aK cI1 H hK hP hD hS => ?_)
  have hP : va_P D vwCl [(h1, .inr (1, [.ref aN, .null])), (aN, .inl (cI, 12, .inl (fun _ => 0))), (aK, .inl (cI1, 12, .inl (fun _ => 0)))] H := hP
  have hD : va_D (AI h1 s.heap.size) [(h1, .inr (1, [.ref aN, .null])), (aN, .inl (cI, 12, .inl (fun _ => 0))), (aK, .inl (cI1, 12, .inl (fun _ => 0)))] := hD
  have hK : va_K D vwCl [(cI, .int), (cI1, .int)] s := hK
  refine W.widen (k := 2) (n := 24) (Nat.le_of_ble_eq_true rfl) (Nat.le_of_ble_eq_true rfl) ?_
  refine va_put (D := D) (ci := 1) (v := .ref aK) (ty := .array .int) (C := RX1) (T := TX1) (N := 2) hx hb hts in_X1 tyX1 tyX1_ok nmX1 hown hK hP hD hS 0 rfl rfl 1 (by decide) (hts _ q143) (fun _ h9 => h9) rfl (by decide +kernel) rfl rfl (Nat.le_of_ble_eq_true rfl) dX1_init_17 (fun H locs hP hD hS => ?_)
  have hP : va_P D vwCl [(h1, .inr (1, [.ref aN, .ref aK])), (aN, .inl (cI, 12, .inl (fun _ => 0))), (aK, .inl (cI1, 12, .inl (fun _ => 0)))] H := hP
  have hD : va_D (AI h1 s.heap.size) [(h1, .inr (1, [.ref aN, .ref aK])), (aN, .inl (cI, 12, .inl (fun _ => 0))), (aK, .inl (cI1, 12, .inl (fun _ => 0)))] := hD
  have eS1 : s.vm.findClass ("[" ++ FieldType.int.toString) = some cI := (hK.2 0 _ rfl).2
  have eS2 : s.vm.findClass ("[" ++ FieldType.int.toString) = some cI1 := (hK.2 1 _ rfl).2
  obtain rfl : cI = cI1 := Option.some.inj (eS1.symm.trans eS2)
  have hK := hK.sub (tys' := [(cI, .int)]) [0] rfl
  have hP2 : va_P D vwCl (PM h1 aN aK cI (fun _ _ => False) (fun _ => 0)) H := by
    unfold PM
    rw [fN_0]
    exact hP
  have hD2 : va_D (AI h1 s.heap.size) (PM h1 aN aK cI (fun _ _ => False) (fun _ => 0)) := hD.addr rfl
  exact W.vret hx hb hr (fun t ht hW => ⟨⟨(aN, aK, cI), rfl, trivial, (by show va_P D vwCl (PM h1 aN aK cI (fun _ _ => False) (fun _ => 0)) t.heap; rw [ht]; exact hP2), va_K.moved hW.alike hK, hD2⟩, hS.F ht⟩) hS.2.2 dX1_init_20 hlocks
end
section
set_option maxRecDepth 100000
/-! THE CLAIM OUT OF ONE WALK OF THE LAW'S BODY. Your part is whole_start (and what it stands on); all else here is the same for every law, but numbers. -/
def R_law : String := "LevelForestsLaw"
def lw_P (b : Addr) (xs : List Int32) (args : Array Value) (s : State) : Prop := args = #[.ref b] ∧ s.IntsAt b xs ∧ xs.length ≤ 192 ∧ (Jvm.Cond.and given_1 narrow_1).before args s = true
def lw_Q (_ : Array Value) (s : State) (o : Outcome) (t : State) : Prop := o = .returned (some (.int 1)) ∧ Framed s o t [] 600000 7290000
def lw_Z (below : List Frame) (a : Array Value) (s : State) : State → Prop := fun t => ∃ o, t.status = .running ∧ Ended t below o ∧ lw_Q a s o t
/-- the law's own end, with 1 on the stack, nothing written that was there before, its room as the claim has it -/
theorem lw_ret {p : Program} {l : Launch} {e : Env} {s : State} {m : MethodId} {below : List Frame} {meth : Method} {c : Code} {b : Nat} (hx : p.tables.exec = Jvm.exec) (hb : c.code = code) (hr : meth.sig.returnType = ret) (hlocks : meth.locks = false) {pc : Nat} {H : Heap} {ls : Array Slot} (hdg : decode code pc = .ok (.ireturn, 1)) : W p l e room_1 s m #[Value.ref b] below meth c H [] 600000 7290000 (lw_Z below #[Value.ref b] s) (F0 m pc ls [.int 1]) := by
  intro T hT X
  obtain ⟨fs, hret, hrun, hended, hW, hframe⟩ := X.leave (v := some (.int 1)) (hlocks := hlocks) (fun h => by rw [hr] at h; cases h)
  have hmeth' : T.vm.method? m = some meth := X.method'
  refine ⟨T.setFrames fs, ?_, .returned (some (.int 1)), hrun, hended, rfl, ⟨_, rfl⟩, hW, hframe⟩
  jvm_step X.here [X.here.top, hx, hb, hdg, hmeth', hr, ret, narrow_b1]
  (try refine ⟨rfl, ?_⟩); (try refine ⟨rfl, ?_⟩)
  first | (intro acts; rw [hret _ acts rfl rfl rfl]) | rw [hret _ _ rfl rfl rfl]
  exact Steps.refl _
/-- what holds at the law's entry: the machine, the code, the tables' words (any of lw_tbl by 'hts w (by decide +kernel)'), the script of L ints xs at the cell b, what the Statement gives of the start (any of its parts by flat_of_before) -/
def lw_At (p : Program) (s : State) (m : MethodId) (meth : Method) (c : Code) (b L : Nat) (xs : Nat → Int32) : Prop :=
  p.tables.exec = Jvm.exec ∧ c.code = code ∧ meth.sig.returnType = ret ∧ c.maxLocals = 4 ∧ s.vm.findClass R_law = some m.cls ∧ (∀ w ∈ lw_tbl, w.before #[Value.ref b] s = true) ∧ va_X b L xs s s.heap ∧ b < s.heap.size ∧ meth.locks = false ∧ (Jvm.Cond.and given_1 narrow_1).before #[Value.ref b] s = true
theorem va_D.own {A : Nat → Prop} {ws : va_W} (h : va_D A ws) : va_D (fun a => a ∈ ws.map (fun q => q.1)) ws := ⟨h.1, fun k q hk => List.mem_map.mpr ⟨q, List.mem_of_getElem? hk, rfl⟩⟩
theorem va_D.sep {A : Nat → Prop} {w1 w2 : va_W} (h : va_D A (w1 ++ w2)) : ∀ a, a ∈ w1.map (fun q => q.1) → ¬ a ∈ w2.map (fun q => q.1) := by
  intro a h1 h2
  obtain ⟨p, hp, e1⟩ := List.mem_map.mp h1
  obtain ⟨q, hq, e2⟩ := List.mem_map.mp h2
  obtain ⟨i, hi⟩ := List.getElem?_of_mem hp
  obtain ⟨j, hj⟩ := List.getElem?_of_mem hq
  have hl := (List.getElem?_eq_some_iff.mp hi).1
  have k1 : (w1 ++ w2)[i]? = some p := by rw [List.getElem?_append_left hl]; exact hi
  have k2 : (w1 ++ w2)[w1.length + j]? = some q := by rw [List.getElem?_append_right (by omega), Nat.add_sub_cancel_left]; exact hj
  have := h.1 i (w1.length + j) p q k1 k2 (e1.trans e2.symm)
  omega
theorem va_D.inA {A : Nat → Prop} {ws : va_W} (h : va_D A ws) : ∀ a, a ∈ ws.map (fun q => q.1) → A a := by
  intro a h1
  obtain ⟨p, hp, e1⟩ := List.mem_map.mp h1
  obtain ⟨i, hi⟩ := List.getElem?_of_mem hp
  rw [← e1]
  exact h.2 i p hi
theorem va_P.keep {D : va_G} {cl : List vw_C} {ws : va_W} {H H1 : Heap} {A1 : Nat → Prop} (hP : va_P D cl ws H) (hn : ∀ a, a ∈ ws.map (fun q => q.1) → ¬ A1 a) (hk : ∀ q : Nat, q < H.size → ¬ A1 q → H1[q]? = H[q]?) : va_P D cl ws H1 :=
  hP.kept (fun k q hk' => hk q.1 ((hP k q hk').lt) (hn q.1 (List.mem_map.mpr ⟨q, List.mem_of_getElem? hk', rfl⟩)))
theorem law_gt {L k : Nat} (hL : L ≤ 192) (hk : k ≤ 192) : (nI L - 3 < nI k) ↔ L < k + 3 := by
  rw [show (3 : Int32) = nI 3 by decide +kernel, Int32.lt_iff_toInt_lt, pk_sub_toInt (by omega) (by omega), nI_toInt (by omega)]
  omega
/-- an int of the script -/
theorem l_ld {p : Program} {l : Launch} {e : Env} {R : Room} {s : State} {m : MethodId} {args : Array Value} {below : List Frame} {meth : Method} {c : Code} {H : Heap} {locs : List Loc} {cells slots : Nat} {Q : State → Prop} {cc : ByteArray} {pc : Nat} {ls : Array Slot} {rest : List Value} {A : Nat → Prop} {i : Int32} {b L k : Nat} {xs : Nat → Int32} (hx : p.tables.exec = Jvm.exec) (hb : c.code = cc) (hX : va_X b L xs s s.heap) (hbl : b < s.heap.size) (hbA : ¬ A b) (hS : va_S A s.heap H locs) (hL : L ≤ 192) (hi : i = nI k) (hk : k < L) (hdg : decode cc pc = .ok (.iaload, 1)) (kk : W p l e R s m args below meth c H locs cells slots Q (F0 m (pc + 1) ls (.int (xs k) :: rest))) : W p l e R s m args below meth c H locs cells slots Q (F0 m pc ls (.int i :: .ref b :: rest)) := by
  subst hi
  refine va_sld hx hb hX hbl hbA hS (vp_in_nI hk (by omega)) hdg ?_
  rw [nI_clamp (by omega)]
  exact kk
theorem n0p (k : Nat) : nI k + 1 = nI (k + 1) ∧ nI k + 2 = nI (k + 2) ∧ nI k + 3 = nI (k + 3) := by
  refine ⟨nI_1 k, ?_, ?_⟩
  · rw [show (2 : Int32) = nI 2 by decide +kernel, nI_add]
  · rw [show (3 : Int32) = nI 3 by decide +kernel, nI_add]
/-- the two classes, known at the start -/
theorem law_classes {s0 : State} {b0 : Addr} (ht0 : ∀ w ∈ lw_tbl, w.before #[Value.ref b0] s0 = true) : ∃ D : va_G, va_K D vwCl [] s0 := by
  obtain ⟨c0_, iS0, hKn0⟩ := u_known (C := RX0) (T := TX0) (N := 6) (n := 6) ht0 (fun w h => lw_all_tbl (in_X0 w h)) (ht0 _ (lw_all_tbl q20))
  obtain ⟨c1_, iS1, hKn1⟩ := u_known (C := RX1) (T := TX1) (N := 2) (n := 2) ht0 (fun w h => lw_all_tbl (in_X1 w h)) (ht0 _ (lw_all_tbl q137))
  refine ⟨(fun k => if k = 0 then c0_ else c1_, fun k => if k = 0 then iS0 else iS1), ?_, fun k q hk => by simp at hk⟩
  intro k q hq
  match k, hq with
  | 0, hq => cases hq; exact hKn0
  | 1, hq => cases hq; exact hKn1
  | k + 2, hq => simp [vwCl] at hq
theorem xi_0 : XI 0 12 lv0 tr0 := ⟨hi_0, 0, by omega, by rw [EE_0]; exact dgs_0 (fun _ _ q => q), rfl, by rw [EE_0, prts_0 (fun _ _ q => q)]; decide +kernel⟩

set_option maxHeartbeats 8000000 in
set_option maxRecDepth 100000 in
/-- the law's loop at its head: both objects stand for one graph -/
theorem law_loop {p : Program} {e : Env} {s : State} {m : MethodId} {below : List Frame} {meth : Method} {c : Code} (l : Launch) {b L : Nat} {xs : Nat → Int32} (hL : L ≤ 192) {D : va_G} {qx aL aZ aT aO qm aN aK : Nat} {cB cZ cS cI : ClassId}
    (F : FX p s m c code 4 #[Value.ref b] D (XT cB cZ cS cI) R_law) (hr : meth.sig.returnType = ret) (hlk : meth.locks = false) (hX : va_X b L xs s s.heap) (hbl : b < s.heap.size)
    (hDX : XD (fun a => a ∈ [qx, aL, aZ, aT, aO]) qx aL aZ aT aO cB cZ cS) (hDM : MD (fun a => a ∈ [qm, aN, aK]) qm aN aK cI) (hsep : ∀ a, a ∈ [qx, aL, aZ, aT, aO] → ¬ a ∈ [qm, aN, aK]) (hAX : ∀ a, a ∈ [qx, aL, aZ, aT, aO] → s.heap.size ≤ a) (hAM : ∀ a, a ∈ [qm, aN, aK] → s.heap.size ≤ a) :
    ∀ (n k : Nat) (ec pt : Int32) (lv : Nat → Nat → Nat) (tr : Nat → Nat → Prop) (gK : Nat → Int32), k ≤ L → L < k + n → XI ec pt lv tr → ∀ (H : Heap) (locs : List Loc), va_P D vwCl (PX qx aL aZ aT aO cB cZ cS ec pt lv tr) H → va_P D vwCl (PM qm aN aK cI (EE lv) gK) H → va_S (fun q => s.heap.size ≤ q) s.heap H locs → ∀ ls : Array Slot, lv_has ls 4 [(0, .ref b), (1, .ref qx), (2, .ref qm), (3, .int (nI k))] → W p l e room_1 s m #[Value.ref b] below meth c H locs 8 416 (lw_Z below #[Value.ref b] s) (F0 m 18 ls []) := by
  have hx := F.1.1
  have hb := F.1.2.1
  have hbA : ¬ s.heap.size ≤ b := by omega
  have hsep2 : ∀ a, a ∈ [qm, aN, aK] → ¬ a ∈ [qx, aL, aZ, aT, aO] := fun a h1 h2 => hsep a h2 h1
  intro n
  induction n with
  | zero => intro k ec pt lv tr gK h1 h2; exact absurd h2 (by omega)
  | succ n ih =>
    intro k ec pt lv tr gK hk hn hI H locs hPX hPM hS ls hl
    refine lv_iload_n hx hb dL_law_18 rfl (lv_at hl 3 rfl) ?_
    refine lv_aload_n hx hb dL_law_19 rfl (lv_at hl 0 rfl) ?_
    refine va_slen hx hb hX hbl hbA hS dL_law_20 ?_
    refine lv_iconst (v := 3) hx hb dL_law_21 (by decide +kernel) ?_
    refine lv_isub hx hb dL_law_22 ?_
    refine lv_icmp_gt (tgt := 361) hx hb dL_law_23 (by decide) (fun c1 => ?_) (fun c1 => ?_)
    · refine lv_iconst (v := 1) hx hb dL_law_361 (by decide +kernel) ?_
      refine va_forget (fun q hq => hS.2.2 q hq) ?_
      refine W.widen (k := 600000) (n := 7290000) (Nat.le_of_ble_eq_true rfl) (Nat.le_of_ble_eq_true rfl) ?_
      exact lw_ret hx hb hr hlk dL_law_362
    · have hk3 : k + 3 ≤ L := by
        have q : ¬ L < k + 3 := fun z => c1 ((law_gt hL (by omega)).mpr z)
        omega
      have hg := xi_gr hI
      have step : ∀ (ec pt : Int32) (lv : Nat → Nat → Nat) (tr : Nat → Nat → Prop) (gK : Nat → Int32), XI ec pt lv tr → ∀ (H : Heap) (locs : List Loc), va_P D vwCl (PX qx aL aZ aT aO cB cZ cS ec pt lv tr) H → va_P D vwCl (PM qm aN aK cI (EE lv) gK) H → va_S (fun q => s.heap.size ≤ q) s.heap H locs → W p l e room_1 s m #[Value.ref b] below meth c H locs 8 416 (lw_Z below #[Value.ref b] s) (F0 m 355 ls []) := by
        intro ec pt lv tr gK hI H locs hPX hPM hS
        refine lv_iinc (v := nI (k + 3)) (lv' := [(3, .int (nI (k + 3))), (0, .ref b), (1, .ref qx), (2, .ref qm)]) hx hb dL_law_355 hl (k := 3) rfl (n0p k).2.2 (by decide) rfl (fun ls hl => ?_)
        refine lv_goto (tgt := 18) hx hb dL_law_358 (by decide) ?_
        exact ih (k + 3) ec pt lv tr gK hk3 (by omega) hI H locs hPX hPM hS ls (lv_sub hl [1, 2, 3, 0] rfl)
      refine lv_aload_n hx hb dL_law_26 rfl (lv_at hl 0 rfl) ?_
      refine lv_iload_n hx hb dL_law_27 rfl (lv_at hl 3 rfl) ?_
      refine l_ld hx hb hX hbl hbA hS hL rfl (show k < L by omega) dL_law_28 ?_
      refine lv_bipush (v := 15) hx hb dL_law_29 (by decide +kernel) ?_
      refine lv_iand hx hb dL_law_31 ?_
      obtain ⟨j, hj, ej⟩ := pk_andE (xs k) (m := 15) 4 (by decide +kernel)
      refine g_top ej ?_
      rcases (show j = 0 ∨ j = 1 ∨ j = 2 ∨ j = 3 ∨ j = 4 ∨ j = 5 ∨ j = 6 ∨ j = 7 ∨ j = 8 ∨ j = 9 ∨ j = 10 ∨ 11 ≤ j by omega) with rfl | rfl | rfl | rfl | rfl | rfl | rfl | rfl | rfl | rfl | rfl | hj11
      · refine lv_tableIn (tgt := 92) hx hb dL_law_32 (by decide +kernel) (by decide +kernel) (off := 60) (by decide +kernel) (by decide +kernel) ?_
        refine lv_aload_n hx hb dL_law_92 rfl (lv_at hl 1 rfl) ?_
        refine lv_aload_n hx hb dL_law_93 rfl (lv_at hl 0 rfl) ?_
        refine lv_iload_n hx hb dL_law_94 rfl (lv_at hl 3 rfl) ?_
        refine lv_iconst (v := 1) hx hb dL_law_95 (by decide +kernel) ?_
        refine lv_iadd hx hb dL_law_96 ?_
        refine l_ld hx hb hX hbl hbA hS hL (n0p k).1 (show k + 1 < L by omega) dL_law_97 ?_
        refine lv_aload_n hx hb dL_law_98 rfl (lv_at hl 0 rfl) ?_
        refine lv_iload_n hx hb dL_law_99 rfl (lv_at hl 3 rfl) ?_
        refine lv_iconst (v := 2) hx hb dL_law_100 (by decide +kernel) ?_
        refine lv_iadd hx hb dL_law_101 ?_
        refine l_ld hx hb hX hbl hbA hS hL (n0p k).2.1 (show k + 2 < L by omega) dL_law_102 ?_
        refine g_calli F (mX_link l hDX hI (xs (k + 1)) (xs (k + 2))) (cwV 2 F.1.2.2.2.2 (lw_V q49 q50 q51 q17 q52) rfl rfl rfl (by decide +kernel) ⟨Nat.le_of_ble_eq_true rfl, Nat.le_of_ble_eq_true rfl⟩) hPX hS hAX (ci := 0) rfl rfl rfl hl.1 rfl (Nat.le_of_ble_eq_true rfl) dL_law_103 ⟨Nat.le_of_ble_eq_true rfl, Nat.le_of_ble_eq_true rfl⟩ (fun r1 u H locs hq1 hPX hS hkeep => ?_)
        have hPX : va_P D vwCl (PX qx aL aZ aT aO cB cZ cS u.1 u.2.1 u.2.2.1 u.2.2.2) H := hPX
        have hPM := hPM.keep (A1 := fun a => a ∈ [qx, aL, aZ, aT, aO]) hsep2 hkeep
        have hev : ∃ k, k ≤ 30 ∧ dgs (EE lv) = 2 * k := by obtain ⟨_, k, h1, h2, _⟩ := hI; exact ⟨k, h1, h2⟩
        refine lv_aload_n hx hb dL_law_106 rfl (lv_at hl 2 rfl) ?_
        refine lv_aload_n hx hb dL_law_107 rfl (lv_at hl 0 rfl) ?_
        refine lv_iload_n hx hb dL_law_108 rfl (lv_at hl 3 rfl) ?_
        refine lv_iconst (v := 1) hx hb dL_law_109 (by decide +kernel) ?_
        refine lv_iadd hx hb dL_law_110 ?_
        refine l_ld hx hb hX hbl hbA hS hL (n0p k).1 (show k + 1 < L by omega) dL_law_111 ?_
        refine lv_aload_n hx hb dL_law_112 rfl (lv_at hl 0 rfl) ?_
        refine lv_iload_n hx hb dL_law_113 rfl (lv_at hl 3 rfl) ?_
        refine lv_iconst (v := 2) hx hb dL_law_114 (by decide +kernel) ?_
        refine lv_iadd hx hb dL_law_115 ?_
        refine l_ld hx hb hX hbl hbA hS hL (n0p k).2.1 (show k + 2 < L by omega) dL_law_116 ?_
        refine g_calli F (mM_link l hDM hg hev (xs (k + 1)) (xs (k + 2))) (cwV 2 F.1.2.2.2.2 (lw_V q150 q151 q152 q18 q153) rfl rfl rfl (by decide +kernel) ⟨Nat.le_of_ble_eq_true rfl, Nat.le_of_ble_eq_true rfl⟩) hPM hS hAM (ci := 1) rfl rfl rfl hl.1 rfl (Nat.le_of_ble_eq_true rfl) dL_law_117 ⟨Nat.le_of_ble_eq_true rfl, Nat.le_of_ble_eq_true rfl⟩ (fun r2 u2 H locs hq2 hPM hS hkeep => ?_)
        have hPX := hPX.keep (A1 := fun a => a ∈ [qm, aN, aK]) hsep hkeep
        refine lv_icmp_eq (tgt := 355) hx hb dL_law_120 (by decide) (fun c2 => ?_) (fun c2 => ?_)
        · have hPM : va_P D vwCl (PM qm aN aK cI (EE u.2.2.1) gK) H := by rw [hq1.2.2, ← hq2.1]; exact hPM
          exact step u.1 u.2.1 u.2.2.1 u.2.2.2 gK hq1.1 H locs hPX hPM hS
        · exact absurd (hq1.2.1.trans hq2.2.symm) c2
      · refine lv_tableIn (tgt := 125) hx hb dL_law_32 (by decide +kernel) (by decide +kernel) (off := 93) (by decide +kernel) (by decide +kernel) ?_
        refine lv_aload_n hx hb dL_law_125 rfl (lv_at hl 1 rfl) ?_
        refine lv_aload_n hx hb dL_law_126 rfl (lv_at hl 0 rfl) ?_
        refine lv_iload_n hx hb dL_law_127 rfl (lv_at hl 3 rfl) ?_
        refine lv_iconst (v := 1) hx hb dL_law_128 (by decide +kernel) ?_
        refine lv_iadd hx hb dL_law_129 ?_
        refine l_ld hx hb hX hbl hbA hS hL (n0p k).1 (show k + 1 < L by omega) dL_law_130 ?_
        refine lv_aload_n hx hb dL_law_131 rfl (lv_at hl 0 rfl) ?_
        refine lv_iload_n hx hb dL_law_132 rfl (lv_at hl 3 rfl) ?_
        refine lv_iconst (v := 2) hx hb dL_law_133 (by decide +kernel) ?_
        refine lv_iadd hx hb dL_law_134 ?_
        refine l_ld hx hb hX hbl hbA hS hL (n0p k).2.1 (show k + 2 < L by omega) dL_law_135 ?_
        refine g_calli F (mX_cut l hDX hI (xs (k + 1)) (xs (k + 2))) (cwV 2 F.1.2.2.2.2 (lw_V q77 q78 q79 q17 q80) rfl rfl rfl (by decide +kernel) ⟨Nat.le_of_ble_eq_true rfl, Nat.le_of_ble_eq_true rfl⟩) hPX hS hAX (ci := 0) rfl rfl rfl hl.1 rfl (Nat.le_of_ble_eq_true rfl) dL_law_136 ⟨Nat.le_of_ble_eq_true rfl, Nat.le_of_ble_eq_true rfl⟩ (fun r1 u H locs hq1 hPX hS hkeep => ?_)
        have hPX : va_P D vwCl (PX qx aL aZ aT aO cB cZ cS u.1 u.2.1 u.2.2.1 u.2.2.2) H := hPX
        have hPM := hPM.keep (A1 := fun a => a ∈ [qx, aL, aZ, aT, aO]) hsep2 hkeep
        refine lv_aload_n hx hb dL_law_139 rfl (lv_at hl 2 rfl) ?_
        refine lv_aload_n hx hb dL_law_140 rfl (lv_at hl 0 rfl) ?_
        refine lv_iload_n hx hb dL_law_141 rfl (lv_at hl 3 rfl) ?_
        refine lv_iconst (v := 1) hx hb dL_law_142 (by decide +kernel) ?_
        refine lv_iadd hx hb dL_law_143 ?_
        refine l_ld hx hb hX hbl hbA hS hL (n0p k).1 (show k + 1 < L by omega) dL_law_144 ?_
        refine lv_aload_n hx hb dL_law_145 rfl (lv_at hl 0 rfl) ?_
        refine lv_iload_n hx hb dL_law_146 rfl (lv_at hl 3 rfl) ?_
        refine lv_iconst (v := 2) hx hb dL_law_147 (by decide +kernel) ?_
        refine lv_iadd hx hb dL_law_148 ?_
        refine l_ld hx hb hX hbl hbA hS hL (n0p k).2.1 (show k + 2 < L by omega) dL_law_149 ?_
        refine g_calli F (mM_cut l hDM hg (xs (k + 1)) (xs (k + 2))) (cwV 2 F.1.2.2.2.2 (lw_V q182 q183 q184 q18 q185) rfl rfl rfl (by decide +kernel) ⟨Nat.le_of_ble_eq_true rfl, Nat.le_of_ble_eq_true rfl⟩) hPM hS hAM (ci := 1) rfl rfl rfl hl.1 rfl (Nat.le_of_ble_eq_true rfl) dL_law_150 ⟨Nat.le_of_ble_eq_true rfl, Nat.le_of_ble_eq_true rfl⟩ (fun r2 u2 H locs hq2 hPM hS hkeep => ?_)
        have hPX := hPX.keep (A1 := fun a => a ∈ [qm, aN, aK]) hsep hkeep
        refine lv_icmp_eq (tgt := 355) hx hb dL_law_153 (by decide) (fun c2 => ?_) (fun c2 => ?_)
        · have hPM : va_P D vwCl (PM qm aN aK cI (EE u.2.2.1) gK) H := by rw [hq1.2.2, ← hq2.1]; exact hPM
          exact step u.1 u.2.1 u.2.2.1 u.2.2.2 gK hq1.1 H locs hPX hPM hS
        · exact absurd (hq1.2.1.trans hq2.2.symm) c2
      · refine lv_tableIn (tgt := 158) hx hb dL_law_32 (by decide +kernel) (by decide +kernel) (off := 126) (by decide +kernel) (by decide +kernel) ?_
        refine lv_aload_n hx hb dL_law_158 rfl (lv_at hl 1 rfl) ?_
        refine lv_aload_n hx hb dL_law_159 rfl (lv_at hl 0 rfl) ?_
        refine lv_iload_n hx hb dL_law_160 rfl (lv_at hl 3 rfl) ?_
        refine lv_iconst (v := 1) hx hb dL_law_161 (by decide +kernel) ?_
        refine lv_iadd hx hb dL_law_162 ?_
        refine l_ld hx hb hX hbl hbA hS hL (n0p k).1 (show k + 1 < L by omega) dL_law_163 ?_
        refine lv_aload_n hx hb dL_law_164 rfl (lv_at hl 0 rfl) ?_
        refine lv_iload_n hx hb dL_law_165 rfl (lv_at hl 3 rfl) ?_
        refine lv_iconst (v := 2) hx hb dL_law_166 (by decide +kernel) ?_
        refine lv_iadd hx hb dL_law_167 ?_
        refine l_ld hx hb hX hbl hbA hS hL (n0p k).2.1 (show k + 2 < L by omega) dL_law_168 ?_
        refine g_calli F (mX_connected l hDX hI.1 (xs (k + 1)) (xs (k + 2))) (cwV 2 F.1.2.2.2.2 (lw_V q105 q66 q67 q17 q68) rfl rfl rfl (by decide +kernel) ⟨Nat.le_of_ble_eq_true rfl, Nat.le_of_ble_eq_true rfl⟩) hPX hS hAX (ci := 0) rfl rfl rfl hl.1 rfl (Nat.le_of_ble_eq_true rfl) dL_law_169 ⟨Nat.le_of_ble_eq_true rfl, Nat.le_of_ble_eq_true rfl⟩ (fun r1 _u H locs hq1 hPX hS hkeep => ?_)
        have hPX : va_P D vwCl (PX qx aL aZ aT aO cB cZ cS ec pt lv tr) H := hPX
        have hPM := hPM.keep (A1 := fun a => a ∈ [qx, aL, aZ, aT, aO]) hsep2 hkeep
        refine lv_aload_n hx hb dL_law_172 rfl (lv_at hl 2 rfl) ?_
        refine lv_aload_n hx hb dL_law_173 rfl (lv_at hl 0 rfl) ?_
        refine lv_iload_n hx hb dL_law_174 rfl (lv_at hl 3 rfl) ?_
        refine lv_iconst (v := 1) hx hb dL_law_175 (by decide +kernel) ?_
        refine lv_iadd hx hb dL_law_176 ?_
        refine l_ld hx hb hX hbl hbA hS hL (n0p k).1 (show k + 1 < L by omega) dL_law_177 ?_
        refine lv_aload_n hx hb dL_law_178 rfl (lv_at hl 0 rfl) ?_
        refine lv_iload_n hx hb dL_law_179 rfl (lv_at hl 3 rfl) ?_
        refine lv_iconst (v := 2) hx hb dL_law_180 (by decide +kernel) ?_
        refine lv_iadd hx hb dL_law_181 ?_
        refine l_ld hx hb hX hbl hbA hS hL (n0p k).2.1 (show k + 2 < L by omega) dL_law_182 ?_
        refine g_calli F (mM_connected l hDM hg (xs (k + 1)) (xs (k + 2))) (cwV 2 F.1.2.2.2.2 (lw_V q190 q171 q172 q18 q173) rfl rfl rfl (by decide +kernel) ⟨Nat.le_of_ble_eq_true rfl, Nat.le_of_ble_eq_true rfl⟩) hPM hS hAM (ci := 1) rfl rfl rfl hl.1 rfl (Nat.le_of_ble_eq_true rfl) dL_law_183 ⟨Nat.le_of_ble_eq_true rfl, Nat.le_of_ble_eq_true rfl⟩ (fun r2 _u2 H locs hq2 hPM hS hkeep => ?_)
        have hPX := hPX.keep (A1 := fun a => a ∈ [qm, aN, aK]) hsep hkeep
        refine lv_icmp_eq (tgt := 355) hx hb dL_law_186 (by decide) (fun c2 => ?_) (fun c2 => ?_)
        · exact step ec pt lv tr gK hI H locs hPX hPM hS
        · exact absurd (hq1.trans hq2.symm) c2
      · refine lv_tableIn (tgt := 191) hx hb dL_law_32 (by decide +kernel) (by decide +kernel) (off := 159) (by decide +kernel) (by decide +kernel) ?_
        refine lv_aload_n hx hb dL_law_191 rfl (lv_at hl 1 rfl) ?_
        refine lv_aload_n hx hb dL_law_192 rfl (lv_at hl 0 rfl) ?_
        refine lv_iload_n hx hb dL_law_193 rfl (lv_at hl 3 rfl) ?_
        refine lv_iconst (v := 1) hx hb dL_law_194 (by decide +kernel) ?_
        refine lv_iadd hx hb dL_law_195 ?_
        refine l_ld hx hb hX hbl hbA hS hL (n0p k).1 (show k + 1 < L by omega) dL_law_196 ?_
        refine g_calli F (mX_part l hDX hI.1 (xs (k + 1))) (cwV 1 F.1.2.2.2.2 (lw_V q106 q107 q108 q17 q109) rfl rfl rfl (by decide +kernel) ⟨Nat.le_of_ble_eq_true rfl, Nat.le_of_ble_eq_true rfl⟩) hPX hS hAX (ci := 0) rfl rfl rfl hl.1 rfl (Nat.le_of_ble_eq_true rfl) dL_law_197 ⟨Nat.le_of_ble_eq_true rfl, Nat.le_of_ble_eq_true rfl⟩ (fun r1 _u H locs hq1 hPX hS hkeep => ?_)
        have hPX : va_P D vwCl (PX qx aL aZ aT aO cB cZ cS ec pt lv tr) H := hPX
        have hPM := hPM.keep (A1 := fun a => a ∈ [qx, aL, aZ, aT, aO]) hsep2 hkeep
        refine lv_aload_n hx hb dL_law_200 rfl (lv_at hl 2 rfl) ?_
        refine lv_aload_n hx hb dL_law_201 rfl (lv_at hl 0 rfl) ?_
        refine lv_iload_n hx hb dL_law_202 rfl (lv_at hl 3 rfl) ?_
        refine lv_iconst (v := 1) hx hb dL_law_203 (by decide +kernel) ?_
        refine lv_iadd hx hb dL_law_204 ?_
        refine l_ld hx hb hX hbl hbA hS hL (n0p k).1 (show k + 1 < L by omega) dL_law_205 ?_
        refine g_calli F (mM_part l hDM hg (xs (k + 1))) (cwV 1 F.1.2.2.2.2 (lw_V q191 q192 q193 q18 q194) rfl rfl rfl (by decide +kernel) ⟨Nat.le_of_ble_eq_true rfl, Nat.le_of_ble_eq_true rfl⟩) hPM hS hAM (ci := 1) rfl rfl rfl hl.1 rfl (Nat.le_of_ble_eq_true rfl) dL_law_206 ⟨Nat.le_of_ble_eq_true rfl, Nat.le_of_ble_eq_true rfl⟩ (fun r2 _u2 H locs hq2 hPM hS hkeep => ?_)
        have hPX := hPX.keep (A1 := fun a => a ∈ [qm, aN, aK]) hsep hkeep
        refine lv_icmp_eq (tgt := 355) hx hb dL_law_209 (by decide) (fun c2 => ?_) (fun c2 => ?_)
        · exact step ec pt lv tr gK hI H locs hPX hPM hS
        · exact absurd (hq1.trans hq2.symm) c2
      · refine lv_tableIn (tgt := 214) hx hb dL_law_32 (by decide +kernel) (by decide +kernel) (off := 182) (by decide +kernel) (by decide +kernel) ?_
        refine lv_aload_n hx hb dL_law_214 rfl (lv_at hl 1 rfl) ?_
        refine g_calli F (mX_parts l hDX ) (cwV 0 F.1.2.2.2.2 (lw_V q110 q111 q112 q17 q113) rfl rfl rfl (by decide +kernel) ⟨Nat.le_of_ble_eq_true rfl, Nat.le_of_ble_eq_true rfl⟩) hPX hS hAX (ci := 0) rfl rfl rfl hl.1 rfl (Nat.le_of_ble_eq_true rfl) dL_law_215 ⟨Nat.le_of_ble_eq_true rfl, Nat.le_of_ble_eq_true rfl⟩ (fun r1 _u H locs hq1 hPX hS hkeep => ?_)
        have hPX : va_P D vwCl (PX qx aL aZ aT aO cB cZ cS ec pt lv tr) H := hPX
        have hPM := hPM.keep (A1 := fun a => a ∈ [qx, aL, aZ, aT, aO]) hsep2 hkeep
        refine lv_aload_n hx hb dL_law_218 rfl (lv_at hl 2 rfl) ?_
        refine g_calli F (mM_parts l hDM hg ) (cwV 0 F.1.2.2.2.2 (lw_V q195 q196 q197 q18 q198) rfl rfl rfl (by decide +kernel) ⟨Nat.le_of_ble_eq_true rfl, Nat.le_of_ble_eq_true rfl⟩) hPM hS hAM (ci := 1) rfl rfl rfl hl.1 rfl (Nat.le_of_ble_eq_true rfl) dL_law_219 ⟨Nat.le_of_ble_eq_true rfl, Nat.le_of_ble_eq_true rfl⟩ (fun r2 _u2 H locs hq2 hPM hS hkeep => ?_)
        have hPX := hPX.keep (A1 := fun a => a ∈ [qm, aN, aK]) hsep hkeep
        refine lv_icmp_eq (tgt := 355) hx hb dL_law_222 (by decide) (fun c2 => ?_) (fun c2 => ?_)
        · exact step ec pt lv tr gK hI H locs hPX hPM hS
        · obtain ⟨_, k1, _, hd, e1, e2⟩ := hI
          exact absurd (hq1.trans (e2.trans hq2.symm)) c2
      · refine lv_tableIn (tgt := 227) hx hb dL_law_32 (by decide +kernel) (by decide +kernel) (off := 195) (by decide +kernel) (by decide +kernel) ?_
        refine lv_aload_n hx hb dL_law_227 rfl (lv_at hl 1 rfl) ?_
        refine lv_aload_n hx hb dL_law_228 rfl (lv_at hl 0 rfl) ?_
        refine lv_iload_n hx hb dL_law_229 rfl (lv_at hl 3 rfl) ?_
        refine lv_iconst (v := 1) hx hb dL_law_230 (by decide +kernel) ?_
        refine lv_iadd hx hb dL_law_231 ?_
        refine l_ld hx hb hX hbl hbA hS hL (n0p k).1 (show k + 1 < L by omega) dL_law_232 ?_
        refine lv_aload_n hx hb dL_law_233 rfl (lv_at hl 0 rfl) ?_
        refine lv_iload_n hx hb dL_law_234 rfl (lv_at hl 3 rfl) ?_
        refine lv_iconst (v := 2) hx hb dL_law_235 (by decide +kernel) ?_
        refine lv_iadd hx hb dL_law_236 ?_
        refine l_ld hx hb hX hbl hbA hS hL (n0p k).2.1 (show k + 2 < L by omega) dL_law_237 ?_
        refine g_calli F (mX_isEdge l hDX hI.1.1 (xi_le hI) (xs (k + 1)) (xs (k + 2))) (cwV 2 F.1.2.2.2.2 (lw_V q114 q62 q63 q17 q64) rfl rfl rfl (by decide +kernel) ⟨Nat.le_of_ble_eq_true rfl, Nat.le_of_ble_eq_true rfl⟩) hPX hS hAX (ci := 0) rfl rfl rfl hl.1 rfl (Nat.le_of_ble_eq_true rfl) dL_law_238 ⟨Nat.le_of_ble_eq_true rfl, Nat.le_of_ble_eq_true rfl⟩ (fun r1 _u H locs hq1 hPX hS hkeep => ?_)
        have hPX : va_P D vwCl (PX qx aL aZ aT aO cB cZ cS ec pt lv tr) H := hPX
        have hPM := hPM.keep (A1 := fun a => a ∈ [qx, aL, aZ, aT, aO]) hsep2 hkeep
        refine lv_aload_n hx hb dL_law_241 rfl (lv_at hl 2 rfl) ?_
        refine lv_aload_n hx hb dL_law_242 rfl (lv_at hl 0 rfl) ?_
        refine lv_iload_n hx hb dL_law_243 rfl (lv_at hl 3 rfl) ?_
        refine lv_iconst (v := 1) hx hb dL_law_244 (by decide +kernel) ?_
        refine lv_iadd hx hb dL_law_245 ?_
        refine l_ld hx hb hX hbl hbA hS hL (n0p k).1 (show k + 1 < L by omega) dL_law_246 ?_
        refine lv_aload_n hx hb dL_law_247 rfl (lv_at hl 0 rfl) ?_
        refine lv_iload_n hx hb dL_law_248 rfl (lv_at hl 3 rfl) ?_
        refine lv_iconst (v := 2) hx hb dL_law_249 (by decide +kernel) ?_
        refine lv_iadd hx hb dL_law_250 ?_
        refine l_ld hx hb hX hbl hbA hS hL (n0p k).2.1 (show k + 2 < L by omega) dL_law_251 ?_
        refine g_calli F (mM_isEdge l hDM (xs (k + 1)) (xs (k + 2))) (cwV 2 F.1.2.2.2.2 (lw_V q199 q200 q201 q18 q202) rfl rfl rfl (by decide +kernel) ⟨Nat.le_of_ble_eq_true rfl, Nat.le_of_ble_eq_true rfl⟩) hPM hS hAM (ci := 1) rfl rfl rfl hl.1 rfl (Nat.le_of_ble_eq_true rfl) dL_law_252 ⟨Nat.le_of_ble_eq_true rfl, Nat.le_of_ble_eq_true rfl⟩ (fun r2 _u2 H locs hq2 hPM hS hkeep => ?_)
        have hPX := hPX.keep (A1 := fun a => a ∈ [qm, aN, aK]) hsep hkeep
        refine lv_icmp_eq (tgt := 355) hx hb dL_law_255 (by decide) (fun c2 => ?_) (fun c2 => ?_)
        · exact step ec pt lv tr gK hI H locs hPX hPM hS
        · exact absurd (hq1.trans hq2.symm) c2
      · refine lv_tableIn (tgt := 260) hx hb dL_law_32 (by decide +kernel) (by decide +kernel) (off := 228) (by decide +kernel) (by decide +kernel) ?_
        refine lv_aload_n hx hb dL_law_260 rfl (lv_at hl 1 rfl) ?_
        refine lv_aload_n hx hb dL_law_261 rfl (lv_at hl 0 rfl) ?_
        refine lv_iload_n hx hb dL_law_262 rfl (lv_at hl 3 rfl) ?_
        refine lv_iconst (v := 1) hx hb dL_law_263 (by decide +kernel) ?_
        refine lv_iadd hx hb dL_law_264 ?_
        refine l_ld hx hb hX hbl hbA hS hL (n0p k).1 (show k + 1 < L by omega) dL_law_265 ?_
        refine lv_aload_n hx hb dL_law_266 rfl (lv_at hl 0 rfl) ?_
        refine lv_iload_n hx hb dL_law_267 rfl (lv_at hl 3 rfl) ?_
        refine lv_iconst (v := 2) hx hb dL_law_268 (by decide +kernel) ?_
        refine lv_iadd hx hb dL_law_269 ?_
        refine l_ld hx hb hX hbl hbA hS hL (n0p k).2.1 (show k + 2 < L by omega) dL_law_270 ?_
        refine g_calli F (mX_isBridge l hDX hI.1 (xs (k + 1)) (xs (k + 2))) (cwV 2 F.1.2.2.2.2 (lw_V q115 q116 q117 q17 q118) rfl rfl rfl (by decide +kernel) ⟨Nat.le_of_ble_eq_true rfl, Nat.le_of_ble_eq_true rfl⟩) hPX hS hAX (ci := 0) rfl rfl rfl hl.1 rfl (Nat.le_of_ble_eq_true rfl) dL_law_271 ⟨Nat.le_of_ble_eq_true rfl, Nat.le_of_ble_eq_true rfl⟩ (fun r1 _u H locs hq1 hPX hS hkeep => ?_)
        have hPX : va_P D vwCl (PX qx aL aZ aT aO cB cZ cS ec pt lv tr) H := hPX
        have hPM := hPM.keep (A1 := fun a => a ∈ [qx, aL, aZ, aT, aO]) hsep2 hkeep
        refine lv_aload_n hx hb dL_law_274 rfl (lv_at hl 2 rfl) ?_
        refine lv_aload_n hx hb dL_law_275 rfl (lv_at hl 0 rfl) ?_
        refine lv_iload_n hx hb dL_law_276 rfl (lv_at hl 3 rfl) ?_
        refine lv_iconst (v := 1) hx hb dL_law_277 (by decide +kernel) ?_
        refine lv_iadd hx hb dL_law_278 ?_
        refine l_ld hx hb hX hbl hbA hS hL (n0p k).1 (show k + 1 < L by omega) dL_law_279 ?_
        refine lv_aload_n hx hb dL_law_280 rfl (lv_at hl 0 rfl) ?_
        refine lv_iload_n hx hb dL_law_281 rfl (lv_at hl 3 rfl) ?_
        refine lv_iconst (v := 2) hx hb dL_law_282 (by decide +kernel) ?_
        refine lv_iadd hx hb dL_law_283 ?_
        refine l_ld hx hb hX hbl hbA hS hL (n0p k).2.1 (show k + 2 < L by omega) dL_law_284 ?_
        refine g_calli F (mM_isBridge l hDM hg (xs (k + 1)) (xs (k + 2))) (cwV 2 F.1.2.2.2.2 (lw_V q203 q204 q205 q18 q206) rfl rfl rfl (by decide +kernel) ⟨Nat.le_of_ble_eq_true rfl, Nat.le_of_ble_eq_true rfl⟩) hPM hS hAM (ci := 1) rfl rfl rfl hl.1 rfl (Nat.le_of_ble_eq_true rfl) dL_law_285 ⟨Nat.le_of_ble_eq_true rfl, Nat.le_of_ble_eq_true rfl⟩ (fun r2 _u2 H locs hq2 hPM hS hkeep => ?_)
        have hPX := hPX.keep (A1 := fun a => a ∈ [qm, aN, aK]) hsep hkeep
        refine lv_icmp_eq (tgt := 355) hx hb dL_law_288 (by decide) (fun c2 => ?_) (fun c2 => ?_)
        · exact step ec pt lv tr gK hI H locs hPX hPM hS
        · exact absurd (hq1.trans hq2.symm) c2
      · refine lv_tableIn (tgt := 293) hx hb dL_law_32 (by decide +kernel) (by decide +kernel) (off := 261) (by decide +kernel) (by decide +kernel) ?_
        refine lv_aload_n hx hb dL_law_293 rfl (lv_at hl 1 rfl) ?_
        refine g_calli F (mX_edges l hDX ) (cwV 0 F.1.2.2.2.2 (lw_V q119 q120 q121 q17 q122) rfl rfl rfl (by decide +kernel) ⟨Nat.le_of_ble_eq_true rfl, Nat.le_of_ble_eq_true rfl⟩) hPX hS hAX (ci := 0) rfl rfl rfl hl.1 rfl (Nat.le_of_ble_eq_true rfl) dL_law_294 ⟨Nat.le_of_ble_eq_true rfl, Nat.le_of_ble_eq_true rfl⟩ (fun r1 _u H locs hq1 hPX hS hkeep => ?_)
        have hPX : va_P D vwCl (PX qx aL aZ aT aO cB cZ cS ec pt lv tr) H := hPX
        have hPM := hPM.keep (A1 := fun a => a ∈ [qx, aL, aZ, aT, aO]) hsep2 hkeep
        refine lv_aload_n hx hb dL_law_297 rfl (lv_at hl 2 rfl) ?_
        refine g_calli F (mM_edges l hDM ) (cwV 0 F.1.2.2.2.2 (lw_V q208 q163 q164 q18 q165) rfl rfl rfl (by decide +kernel) ⟨Nat.le_of_ble_eq_true rfl, Nat.le_of_ble_eq_true rfl⟩) hPM hS hAM (ci := 1) rfl rfl rfl hl.1 rfl (Nat.le_of_ble_eq_true rfl) dL_law_298 ⟨Nat.le_of_ble_eq_true rfl, Nat.le_of_ble_eq_true rfl⟩ (fun r2 _u2 H locs hq2 hPM hS hkeep => ?_)
        have hPX := hPX.keep (A1 := fun a => a ∈ [qm, aN, aK]) hsep hkeep
        refine lv_icmp_eq (tgt := 355) hx hb dL_law_301 (by decide) (fun c2 => ?_) (fun c2 => ?_)
        · exact step ec pt lv tr gK hI H locs hPX hPM hS
        · obtain ⟨_, k1, _, hd, e1, e2⟩ := hI
          refine absurd (hq1.trans (Eq.trans ?_ hq2.symm)) c2
          rw [e1, hd, show 2 * k1 / 2 = k1 by omega]
      · refine lv_tableIn (tgt := 306) hx hb dL_law_32 (by decide +kernel) (by decide +kernel) (off := 274) (by decide +kernel) (by decide +kernel) ?_
        refine lv_aload_n hx hb dL_law_306 rfl (lv_at hl 1 rfl) ?_
        refine g_calli F (mX_spare l hDX ) (cwV 0 F.1.2.2.2.2 (lw_V q123 q124 q125 q17 q126) rfl rfl rfl (by decide +kernel) ⟨Nat.le_of_ble_eq_true rfl, Nat.le_of_ble_eq_true rfl⟩) hPX hS hAX (ci := 0) rfl rfl rfl hl.1 rfl (Nat.le_of_ble_eq_true rfl) dL_law_307 ⟨Nat.le_of_ble_eq_true rfl, Nat.le_of_ble_eq_true rfl⟩ (fun r1 _u H locs hq1 hPX hS hkeep => ?_)
        have hPX : va_P D vwCl (PX qx aL aZ aT aO cB cZ cS ec pt lv tr) H := hPX
        have hPM := hPM.keep (A1 := fun a => a ∈ [qx, aL, aZ, aT, aO]) hsep2 hkeep
        refine lv_aload_n hx hb dL_law_310 rfl (lv_at hl 2 rfl) ?_
        refine g_calli F (mM_spare l hDM hg ) (cwV 0 F.1.2.2.2.2 (lw_V q209 q210 q211 q18 q212) rfl rfl rfl (by decide +kernel) ⟨Nat.le_of_ble_eq_true rfl, Nat.le_of_ble_eq_true rfl⟩) hPM hS hAM (ci := 1) rfl rfl rfl hl.1 rfl (Nat.le_of_ble_eq_true rfl) dL_law_311 ⟨Nat.le_of_ble_eq_true rfl, Nat.le_of_ble_eq_true rfl⟩ (fun r2 u2 H locs hq2 hPM hS hkeep => ?_)
        have hPX := hPX.keep (A1 := fun a => a ∈ [qm, aN, aK]) hsep hkeep
        refine lv_icmp_eq (tgt := 355) hx hb dL_law_314 (by decide) (fun c2 => ?_) (fun c2 => ?_)
        · exact step ec pt lv tr u2 hI H locs hPX hPM hS
        · obtain ⟨_, k1, _, hd, e1, e2⟩ := hI
          refine absurd (hq1.trans (Eq.trans ?_ hq2.symm)) c2
          unfold aSpare
          rw [e1, e2, hd, show 2 * k1 / 2 = k1 by omega]
      · refine lv_tableIn (tgt := 319) hx hb dL_law_32 (by decide +kernel) (by decide +kernel) (off := 287) (by decide +kernel) (by decide +kernel) ?_
        refine lv_aload_n hx hb dL_law_319 rfl (lv_at hl 1 rfl) ?_
        refine lv_aload_n hx hb dL_law_320 rfl (lv_at hl 0 rfl) ?_
        refine lv_iload_n hx hb dL_law_321 rfl (lv_at hl 3 rfl) ?_
        refine lv_iconst (v := 1) hx hb dL_law_322 (by decide +kernel) ?_
        refine lv_iadd hx hb dL_law_323 ?_
        refine l_ld hx hb hX hbl hbA hS hL (n0p k).1 (show k + 1 < L by omega) dL_law_324 ?_
        refine g_calli F (mX_isolate l hDX hI (xs (k + 1))) (cwV 1 F.1.2.2.2.2 (lw_V q127 q128 q129 q17 q130) rfl rfl rfl (by decide +kernel) ⟨Nat.le_of_ble_eq_true rfl, Nat.le_of_ble_eq_true rfl⟩) hPX hS hAX (ci := 0) rfl rfl rfl hl.1 rfl (Nat.le_of_ble_eq_true rfl) dL_law_325 ⟨Nat.le_of_ble_eq_true rfl, Nat.le_of_ble_eq_true rfl⟩ (fun r1 u H locs hq1 hPX hS hkeep => ?_)
        have hPX : va_P D vwCl (PX qx aL aZ aT aO cB cZ cS u.1 u.2.1 u.2.2.1 u.2.2.2) H := hPX
        have hPM := hPM.keep (A1 := fun a => a ∈ [qx, aL, aZ, aT, aO]) hsep2 hkeep
        refine lv_aload_n hx hb dL_law_328 rfl (lv_at hl 2 rfl) ?_
        refine lv_aload_n hx hb dL_law_329 rfl (lv_at hl 0 rfl) ?_
        refine lv_iload_n hx hb dL_law_330 rfl (lv_at hl 3 rfl) ?_
        refine lv_iconst (v := 1) hx hb dL_law_331 (by decide +kernel) ?_
        refine lv_iadd hx hb dL_law_332 ?_
        refine l_ld hx hb hX hbl hbA hS hL (n0p k).1 (show k + 1 < L by omega) dL_law_333 ?_
        refine g_calli F (mM_isolate l hDM hg (xs (k + 1))) (cwV 1 F.1.2.2.2.2 (lw_V q214 q215 q216 q18 q217) rfl rfl rfl (by decide +kernel) ⟨Nat.le_of_ble_eq_true rfl, Nat.le_of_ble_eq_true rfl⟩) hPM hS hAM (ci := 1) rfl rfl rfl hl.1 rfl (Nat.le_of_ble_eq_true rfl) dL_law_334 ⟨Nat.le_of_ble_eq_true rfl, Nat.le_of_ble_eq_true rfl⟩ (fun r2 u2 H locs hq2 hPM hS hkeep => ?_)
        have hPX := hPX.keep (A1 := fun a => a ∈ [qm, aN, aK]) hsep hkeep
        refine lv_icmp_eq (tgt := 355) hx hb dL_law_337 (by decide) (fun c2 => ?_) (fun c2 => ?_)
        · have hPM : va_P D vwCl (PM qm aN aK cI (EE u.2.2.1) gK) H := by rw [hq1.2.2, ← hq2.1]; exact hPM
          exact step u.1 u.2.1 u.2.2.1 u.2.2.2 gK hq1.1 H locs hPX hPM hS
        · exact absurd (hq1.2.1.trans hq2.2.symm) c2
      · refine lv_tableIn (tgt := 342) hx hb dL_law_32 (by decide +kernel) (by decide +kernel) (off := 310) (by decide +kernel) (by decide +kernel) ?_
        refine lv_aload_n hx hb dL_law_342 rfl (lv_at hl 1 rfl) ?_
        refine g_calli F (mX_greatest l hDX hI.1 ) (cwV 0 F.1.2.2.2.2 (lw_V q132 q133 q134 q17 q135) rfl rfl rfl (by decide +kernel) ⟨Nat.le_of_ble_eq_true rfl, Nat.le_of_ble_eq_true rfl⟩) hPX hS hAX (ci := 0) rfl rfl rfl hl.1 rfl (Nat.le_of_ble_eq_true rfl) dL_law_343 ⟨Nat.le_of_ble_eq_true rfl, Nat.le_of_ble_eq_true rfl⟩ (fun r1 _u H locs hq1 hPX hS hkeep => ?_)
        have hPX : va_P D vwCl (PX qx aL aZ aT aO cB cZ cS ec pt lv tr) H := hPX
        have hPM := hPM.keep (A1 := fun a => a ∈ [qx, aL, aZ, aT, aO]) hsep2 hkeep
        refine lv_aload_n hx hb dL_law_346 rfl (lv_at hl 2 rfl) ?_
        refine g_calli F (mM_greatest l hDM hg ) (cwV 0 F.1.2.2.2.2 (lw_V q219 q220 q221 q18 q222) rfl rfl rfl (by decide +kernel) ⟨Nat.le_of_ble_eq_true rfl, Nat.le_of_ble_eq_true rfl⟩) hPM hS hAM (ci := 1) rfl rfl rfl hl.1 rfl (Nat.le_of_ble_eq_true rfl) dL_law_347 ⟨Nat.le_of_ble_eq_true rfl, Nat.le_of_ble_eq_true rfl⟩ (fun r2 _u2 H locs hq2 hPM hS hkeep => ?_)
        have hPX := hPX.keep (A1 := fun a => a ∈ [qm, aN, aK]) hsep hkeep
        refine lv_icmp_eq (tgt := 355) hx hb dL_law_350 (by decide) (fun c2 => ?_) (fun c2 => ?_)
        · exact step ec pt lv tr gK hI H locs hPX hPM hS
        · exact absurd (hq1.trans hq2.symm) c2
      · refine lv_tableOut (tgt := 355) hx hb dL_law_32 (Or.inr (by rw [nI_toInt (by omega)]; omega)) (by decide +kernel) ?_
        exact step ec pt lv tr gK hI H locs hPX hPM hS

set_option maxHeartbeats 8000000 in
set_option maxRecDepth 100000 in
theorem whole_start {p : Program} {e : Env} {s : State} {m : MethodId} {below : List Frame} {meth : Method} {c : Code} (l : Launch) {b L : Nat} {xs : Nat → Int32} (hL : L ≤ 192) (C0 : lw_At p s m meth c b L xs) : W p l e room_1 s m #[Value.ref b] below meth c s.heap [] 0 0 (lw_Z below #[Value.ref b] s) (entryFrame m ([Value.ref b] : List Value).toArray 4) := by
  obtain ⟨hx, hb, hr, hml, hown, hts0, hX, hbl, hlk, -⟩ := C0
  have hts : ∀ w ∈ lw_all, w.before #[Value.ref b] s = true := fun w h => hts0 w (lw_all_tbl h)
  obtain ⟨D, hK⟩ := law_classes hts0
  have hP : va_P D vwCl [] s.heap := fun k q hk => by simp at hk
  have hD : va_D (fun q => s.heap.size ≤ q) [] := ⟨fun i j p q hi => by simp at hi, fun k q hk => by simp at hk⟩
  have hA : ∀ q : Nat, s.heap.size ≤ q → s.heap.size ≤ q := fun q h => h
  have hS : va_S (fun q => s.heap.size ≤ q) s.heap s.heap [] := va_S.rf
  have hl := lv_entry ([.ref b]) (n := 4) (Nat.le_of_ble_eq_true rfl)
  rw [lg_entry_eq]
  generalize (lg_sl ([.ref b]) ++ List.replicate (4 - (lg_sl ([.ref b])).length) Slot.unset).toArray = ls at hl ⊢
  have hl : lv_has ls 4 [(0, .ref b)] := hl
  refine va_new (ci := 0) (fs := [.int 0, .int 0, .null, .null, .null, .null]) (C := RX0) (T := TX0) (N := 6) hx hb hts in_X0 tyX0 tyX0_ok hown (hts _ q19) (hts _ q20) (hts _ q17) hK hP hD hS hA rfl (fun j hj => by rcases (show j = 0 ∨ j = 1 ∨ j = 2 ∨ j = 3 ∨ j = 4 ∨ j = 5 by omega) with rfl | rfl | rfl | rfl | rfl | rfl <;> rfl) (Nat.le_of_ble_eq_true rfl) (Nat.le_of_ble_eq_true rfl) dL_law_0 (fun qx H hP hD hS => ?_)
  have hP : va_P D vwCl [(qx, .inr (0, [.int 0, .int 0, .null, .null, .null, .null]))] H := hP
  have hD : va_D (fun q => s.heap.size ≤ q) [(qx, .inr (0, [.int 0, .int 0, .null, .null, .null, .null]))] := hD
  have hqx : s.heap.size ≤ qx := hD.2 0 _ rfl
  refine W.widen (k := 1) (n := 6) (Nat.le_of_ble_eq_true rfl) (Nat.le_of_ble_eq_true rfl) ?_
  refine lv_dup hx hb dL_law_3 rfl ?_
  have hFc : ∀ q, AI qx H.size q → s.heap.size ≤ q := fun q h => h.elim (fun z => by rw [z]; exact hqx) (fun z => Nat.le_trans hS.1 z)
  refine va_callv (va_runI (As := []) (rest := [.ref qx]) ⟨hx, hb, hml, hown, hts⟩ (mX_init l (D := D) qx H.size) (cwI 0 hts (lw_meth q23) rfl rfl rfl (hts _ q17) (hts _ q21) (hts _ q22) rfl (by decide +kernel) ⟨Nat.le_of_ble_eq_true rfl, Nat.le_of_ble_eq_true rfl⟩) ⟨fun a U g mk q => by obtain ⟨q0, q1, qP, qK⟩ := q; exact ⟨q0, q1, qP, va_K.moved (u := U) (U := U.calling g mk a) (Vm.Alike.refl U.vm) qK⟩, fun U hU hW => ⟨rfl, by rw [hU], by rw [hU]; exact hP, va_K.moved hW.alike hK⟩⟩ rfl rfl hl.1 rfl (lv_room (Nat.le_of_ble_eq_true rfl)) dL_law_4 ⟨Nat.le_of_ble_eq_true rfl, Nat.le_of_ble_eq_true rfl⟩) hS (fun q _ h => hFc q h) hFc (fun u t H1 locs ht hvm _ hB hz1 hk1 hS => ?_)
  obtain ⟨aL, aZ, aT, aO, cB, cZ, cS⟩ := u
  obtain ⟨hP1, hK1, hD1⟩ := hB
  rw [ht] at hP1
  have hP : va_P D vwCl (PX qx aL aZ aT aO cB cZ cS 0 12 lv0 tr0) H1 := hP1
  have hKX : va_K D vwCl [(cB, .byte), (cZ, .boolean), (cS, .short)] s := va_K.moved hvm.symm hK1
  have hD : va_D (fun q => s.heap.size ≤ q) (PX qx aL aZ aT aO cB cZ cS 0 12 lv0 tr0) := hD1.weaken (fun k q _ h => hFc q.1 h)
  refine W.widen (k := 5) (n := 390) (Nat.le_of_ble_eq_true rfl) (Nat.le_of_ble_eq_true rfl) ?_
  refine lv_astore_n (lv' := [(1, .ref qx), (0, .ref b)]) hx hb dL_law_7 rfl hl (by decide) rfl (fun ls hl => ?_)
  refine va_new (ci := 1) (fs := [.null, .null]) (C := RX1) (T := TX1) (N := 2) hx hb hts in_X1 tyX1 tyX1_ok hown (hts _ q136) (hts _ q137) (hts _ q18) hK hP hD hS hA rfl (fun j hj => by rcases (show j = 0 ∨ j = 1 by omega) with rfl | rfl <;> rfl) (Nat.le_of_ble_eq_true rfl) (Nat.le_of_ble_eq_true rfl) dL_law_8 (fun qm H hP hD hS => ?_)
  have hPX : va_P D vwCl (PX qx aL aZ aT aO cB cZ cS 0 12 lv0 tr0) H := hP.sub [0, 1, 2, 3, 4] rfl
  have hPM : va_P D vwCl [(qm, .inr (1, [.null, .null]))] H := hP.sub [5] rfl
  have hsep0 : ∀ a, a ∈ (PX qx aL aZ aT aO cB cZ cS 0 12 lv0 tr0).map (fun q => q.1) → ¬ a ∈ ([(qm, .inr (1, [.null, .null]))] : va_W).map (fun q => q.1) := va_D.sep hD
  have hDX := hD.sub (ws' := PX qx aL aZ aT aO cB cZ cS 0 12 lv0 tr0) [0, 1, 2, 3, 4] (by decide) rfl
  have hqm : s.heap.size ≤ qm := hD.2 5 _ rfl
  refine W.widen (k := 6) (n := 392) (Nat.le_of_ble_eq_true rfl) (Nat.le_of_ble_eq_true rfl) ?_
  refine lv_dup hx hb dL_law_11 rfl ?_
  have hFc : ∀ q, AI qm H.size q → s.heap.size ≤ q := fun q h => h.elim (fun z => by rw [z]; exact hqm) (fun z => Nat.le_trans hS.1 z)
  refine va_callv (va_runI (As := []) (rest := [.ref qm]) ⟨hx, hb, hml, hown, hts⟩ (mM_init l (D := D) qm H.size) (cwI 0 hts (lw_meth q140) rfl rfl rfl (hts _ q18) (hts _ q138) (hts _ q139) rfl (by decide +kernel) ⟨Nat.le_of_ble_eq_true rfl, Nat.le_of_ble_eq_true rfl⟩) ⟨fun a U g mk q => by obtain ⟨q0, q1, qP, qK⟩ := q; exact ⟨q0, q1, qP, va_K.moved (u := U) (U := U.calling g mk a) (Vm.Alike.refl U.vm) qK⟩, fun U hU hW => ⟨rfl, by rw [hU], by rw [hU]; exact hPM, va_K.moved hW.alike hK⟩⟩ rfl rfl hl.1 rfl (lv_room (Nat.le_of_ble_eq_true rfl)) dL_law_12 ⟨Nat.le_of_ble_eq_true rfl, Nat.le_of_ble_eq_true rfl⟩) hS (fun q _ h => hFc q h) hFc (fun u t H2 locs ht hvm _ hB hz1 hk1 hS => ?_)
  obtain ⟨aN, aK, cI⟩ := u
  obtain ⟨hP1, hK1, hD1⟩ := hB
  rw [ht] at hP1
  have hPM : va_P D vwCl (PM qm aN aK cI (fun _ _ => False) (fun _ => 0)) H2 := hP1
  have hKM : va_K D vwCl [(cI, .int)] s := va_K.moved hvm.symm hK1
  have hltX : ∀ a, a ∈ [qx, aL, aZ, aT, aO] → a < H.size := by
    intro a ha
    obtain ⟨q, hq, e1⟩ := List.mem_map.mp (show a ∈ (PX qx aL aZ aT aO cB cZ cS 0 12 lv0 tr0).map (fun q => q.1) from ha)
    obtain ⟨i, hi⟩ := List.getElem?_of_mem hq
    rw [← e1]
    exact (hPX i q hi).lt
  have hnX : ∀ a, a ∈ [qx, aL, aZ, aT, aO] → ¬ AI qm H.size a := by
    intro a ha h
    rcases h with h | h
    · exact hsep0 a ha (by rw [h]; exact List.mem_cons_self)
    · have := hltX a ha
      omega
  have hPX := hPX.keep (A1 := AI qm H.size) hnX hk1
  have hK := hKX.app hKM
  refine W.widen (k := 8) (n := 416) (Nat.le_of_ble_eq_true rfl) (Nat.le_of_ble_eq_true rfl) ?_
  refine lv_astore_n (lv' := [(2, .ref qm), (1, .ref qx), (0, .ref b)]) hx hb dL_law_15 rfl hl (by decide) rfl (fun ls hl => ?_)
  refine lv_iconst (v := nI 0) hx hb dL_law_16 (by decide +kernel) ?_
  refine lv_istore_n (lv' := [(3, .int (nI 0)), (2, .ref qm), (1, .ref qx), (0, .ref b)]) hx hb dL_law_17 rfl hl (by decide) rfl (fun ls hl => ?_)
  have hDX2 : XD (fun a => a ∈ [qx, aL, aZ, aT, aO]) qx aL aZ aT aO cB cZ cS := fun ec pt gL gZ gT gO => (hDX.own).addr rfl
  have hDM2 : MD (fun a => a ∈ [qm, aN, aK]) qm aN aK cI := fun gN gK => (hD1.own).addr rfl
  have hsep : ∀ a, a ∈ [qx, aL, aZ, aT, aO] → ¬ a ∈ [qm, aN, aK] := fun a h1 h2 => hnX a h1 (hD1.inA a h2)
  have hAX : ∀ a, a ∈ [qx, aL, aZ, aT, aO] → s.heap.size ≤ a := fun a h => hDX.inA a h
  have hAM : ∀ a, a ∈ [qm, aN, aK] → s.heap.size ≤ a := fun a h => hFc a (hD1.inA a h)
  exact law_loop l hL (D := D) ⟨⟨hx, hb, hml, hown, hts⟩, hK⟩ hr hlk hX hbl hDX2 hDM2 hsep hAX hAM (L + 1) 0 0 12 lv0 tr0 (fun _ => 0) (Nat.zero_le L) (by omega) xi_0 H2 locs hPX (by rw [EE_0]; exact hPM) hS ls (lv_sub hl [3, 2, 1, 0] rfl)
end
section
set_option maxRecDepth 100000
set_option maxHeartbeats 4000000 in
theorem lw_walk (l : Launch) (b : Addr) (xs : List Int32) : MetFree l x (headSpec (Jvm.Cond.code x code maxLocals ret :: tables_1) room_1) (lw_P b xs) (fun _ _ _ _ _ => True) lw_Q := by
  refine MetFree.of_bodyS (code := code) (maxLocals := maxLocals) (ret := ret) (by decide) ?_ ?_
  · intro args s m h hn
    obtain ⟨meth, c, h1, h2, h3, h4, h5, h6, -, -⟩ := Cond.code_spec hn (atoms_spec (ws := Jvm.Cond.code x code maxLocals ret :: tables_1) h _ List.mem_cons_self)
    exact ⟨meth, c, h1, h2, h3, h4, h5, h6⟩
  · intro p e s m args below meth c s₁ B hml0 hP _
    obtain ⟨rfl, hx, hbd, hgv⟩ := hP
    obtain ⟨scr, harrAt, hlist, hof, hsmall⟩ := hx
    obtain ⟨hcb, hkn, -, -⟩ := State.arrayAt?_spec harrAt
    have hown : s.vm.findClass R_law = some m.cls := findClass_of_methodNamed B.named
    have hts0 : ∀ c ∈ (Jvm.Cond.code x code maxLocals ret :: tables_1), c.before #[Value.ref b] s = true := atoms_spec (ws := Jvm.Cond.code x code maxLocals ret :: tables_1) B.pre
    have hts : ∀ w ∈ lw_tbl, w.before #[Value.ref b] s = true := k2_hts_sels lw_privs (fun w hw => hts0 w (List.mem_cons_of_mem _ hw)) lw_privs_ok
    have hml : c.maxLocals = 4 := B.maxLocals_eq (hts0 _ List.mem_cons_self)
    have X₀ : Stand p l e room_1 s m #[Value.ref b] below meth c s₁ [] 0 0 := Stand.of_body B
    have hh0 : s₁.heap = s.heap := by rw [B.state]; rfl
    have hsz : scr.slots.size = xs.length := by rw [← Array.length_toList, hlist, List.length_map]
    have hval : ∀ j : Nat, j < xs.length → scr.slots[j]? = some (.int (xs.getD j 0)) := fun j hj => by
      rw [← Array.getElem?_toList, hlist]
      simp [hj]
    have hbl : b < s.heap.size := (Array.getElem?_eq_some_iff.mp hcb).1
    have hX : va_X b xs.length (fun j => xs.getD j 0) s s.heap := ⟨scr, hcb, hof, hkn, hsz, hval⟩
    have K : W p l e room_1 s m #[Value.ref b] below meth c s₁.heap [] 0 0 (lw_Z below #[Value.ref b] s) (entryFrame m ([Value.ref b] : List Value).toArray 4) := by
      rw [hh0]
      exact whole_start l hbd ⟨B.exec, B.bytes, B.returns, hml, hown, hts, hX, hbl, B.notSynchronized, hgv⟩
    obtain ⟨t, a1, o, b1, b2, b3⟩ := K s₁ rfl X₀
    exact ⟨t, o, a1, b1, b2, b3⟩
theorem lw_pre_spec {args : Array Value} {s : State} (h : (Jvm.Cond.and given_1 narrow_1).before args s = true) (hr : rest_1_c.before args s = true) : ∃ (b : Addr) (xs : List Int32), lw_P b xs args s := by
  have hs := flat_of_before _ h
  have hq := flat_of_before _ hr
  have hc : (Cond.count 1).before args s = true := hs _ (by decide +kernel)
  have harr : (Cond.arrayOf (.arg 0) .int).before args s = true := hs _ (by decide +kernel)
  have hle : (Cond.le (.length (.arg 0)) (.int 192)).before args s = true := hs _ (by decide +kernel)
  have hlen : (Cond.isInt (.length (.arg 0))).before args s = true := hq _ (by decide +kernel)
  have hall : (Cond.all (.arg 0) (.isInt (.elem (.arg 0) (.index 0)))).before args s = true := hq _ (by decide +kernel)
  obtain ⟨b, xs, hb, hx⟩ := State.ints_of_pre rfl harr hlen hall
  have hsm : xs.length < 2 ^ 31 := hx.choose_spec.2.2.2
  have hev : (Term.length (.arg 0)).eval args s none [] s = some (.int xs.length.toInt32) := hx.length_eval hb
  have hv := Cond.le_ints hev (show (Term.int 192).eval args s none [] s = some (.int 192) from rfl)
  have hd : xs.length.toInt32 ≤ 192 := by
    simpa [Cond.before, Cond.holds, hv] using hle
  have hN : xs.length ≤ 192 := (Int32.ofNat_le_ofNat hsm (by decide)).mp (show Int32.ofNat xs.length ≤ Int32.ofNat 192 from hd)
  exact ⟨b, xs, Cond.one_arg hc (show args[0]? = some (.ref b) from hb), hx, hN, h⟩
theorem lw_comes (l : Launch) : Comes l x (Jvm.Cond.code x code maxLocals ret :: tables_1) room_1 (fun tb e args s => Calls_1 tb e args s ∧ rest_1 tb e args s ∧ Pre_1 tb e args s)
    (fun _ _ args s o t => lw_Q args s o t) := by
  intro p e ha hc hk s m args below hf hfit hheap happ hpre
  obtain ⟨b, xs, hP⟩ := lw_pre_spec hpre.2.2 hpre.2.1
  obtain ⟨k, o, h1, h2, h3, hQ⟩ := lw_walk l b xs p e ha hc hk s m args below hf ((Spec.applies_iff_loose hf).mp happ).1 hP trivial
  exact ⟨k, o, h1, h2, h3, hQ⟩
theorem lw_frame {s t : State} {o : Outcome} {args : Array Value} (h : Framed s o t [] 600000 7290000) :
    Framed s o t (fieldLocs frame_1_writes args s ++ arrayLocs frame_1_arrays args s ++ staticLocs frame_1_statics s) 600000 7290000 := h
theorem lw_limb (L : Cond) (hL : ∀ (args : Array Value) (s t : State), L.after args s (.returned (some (.int 1))) t = true) :
    ArmFor flags0 classFile x code maxLocals ret World_1 tables_1 room_1 Calls_1 rest_1 Pre_1
      (fun tb e a s o t => postC L tb e a s o t ∧ Framed s o t (fieldLocs frame_1_writes a s ++ arrayLocs frame_1_arrays a s ++ staticLocs frame_1_statics s) 600000 7290000) := by
  intro l _ _ _ p e ha hc hk s m args below hf hfit hheap happ hpre
  obtain ⟨k, o, h1, h2, h3, rfl, hF⟩ := lw_comes l p e ha hc hk s m args below hf hfit hheap happ hpre
  exact ⟨k, _, h1, h2, h3, hL args s _, lw_frame hF⟩
theorem i_vc : Claimed_1_1 ∧ Claimed_1_2 := ⟨lw_limb limb_1_1 (fun args s t => by simp [limb_1_1, Cond.after, Cond.holds, Cond.value]), lw_limb limb_1_2 (fun args s t => Cond.after_iff.mpr (by
  first | (rw [show limb_1_2 = Cond.eq .result (.int 1) from rfl, Cond.eq_ints (x := 1) (y := 1) rfl rfl]; simp; done) | (simp [limb_1_2, Cond.value, Term.eval]; done)))⟩
end
