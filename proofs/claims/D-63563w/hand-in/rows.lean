section
-- ===== PART A: goes FIRST, ahead of the names: the tables' words, and 'selects' of the private methods out of them =====
/-- a private method of a class that the tables say can be made, by its rows of tables_1 -/
def lw_okq (q : MethodName × Nat) : Prop := (q.1.cls ≠ "java/lang/invoke/MethodHandle" ∧ q.1.cls ≠ "java/lang/invoke/VarHandle") ∧ Cond.instantiable q.1.cls q.2 ∈ tables_1 ∧ Cond.privateMethod q.1 ∈ tables_1 ∧ Cond.instanceMethod q.1 ∈ tables_1
set_option maxRecDepth 100000
theorem lw_p0 : lw_okq (⟨"AreaMap", "mappedIn", "(II)I"⟩, 8) := ⟨⟨by decide +kernel, by decide +kernel⟩, List.mem_of_getElem? (i := 4) rfl, List.mem_of_getElem? (i := 48) rfl, List.mem_of_getElem? (i := 49) rfl⟩
theorem lw_p1 : lw_okq (⟨"AreaMap", "rewrite", "(III)Z"⟩, 8) := ⟨⟨by decide +kernel, by decide +kernel⟩, List.mem_of_getElem? (i := 4) rfl, List.mem_of_getElem? (i := 58) rfl, List.mem_of_getElem? (i := 59) rfl⟩
theorem lw_p2 : lw_okq (⟨"AreaMap", "emit", "(III)V"⟩, 8) := ⟨⟨by decide +kernel, by decide +kernel⟩, List.mem_of_getElem? (i := 4) rfl, List.mem_of_getElem? (i := 62) rfl, List.mem_of_getElem? (i := 63) rfl⟩
theorem lw_p3 : lw_okq (⟨"AreaMap", "commit", "()Z"⟩, 8) := ⟨⟨by decide +kernel, by decide +kernel⟩, List.mem_of_getElem? (i := 4) rfl, List.mem_of_getElem? (i := 66) rfl, List.mem_of_getElem? (i := 67) rfl⟩
theorem lw_p4 : lw_okq (⟨"AreaMap", "room", "(II)I"⟩, 8) := ⟨⟨by decide +kernel, by decide +kernel⟩, List.mem_of_getElem? (i := 4) rfl, List.mem_of_getElem? (i := 74) rfl, List.mem_of_getElem? (i := 75) rfl⟩
theorem lw_p5 : lw_okq (⟨"AreaMap", "find", "(I)I"⟩, 8) := ⟨⟨by decide +kernel, by decide +kernel⟩, List.mem_of_getElem? (i := 4) rfl, List.mem_of_getElem? (i := 93) rfl, List.mem_of_getElem? (i := 94) rfl⟩
theorem lw_p6 : lw_okq (⟨"AreaMap", "isArea", "(I)Z"⟩, 8) := ⟨⟨by decide +kernel, by decide +kernel⟩, List.mem_of_getElem? (i := 4) rfl, List.mem_of_getElem? (i := 109) rfl, List.mem_of_getElem? (i := 110) rfl⟩
theorem lw_p7 : lw_okq (⟨"AreaMapModel", "proper", "(II)Z"⟩, 2) := ⟨⟨by decide +kernel, by decide +kernel⟩, List.mem_of_getElem? (i := 137) rfl, List.mem_of_getElem? (i := 155) rfl, List.mem_of_getElem? (i := 156) rfl⟩
theorem lw_p8 : lw_okq (⟨"AreaMapModel", "used", "(II)I"⟩, 2) := ⟨⟨by decide +kernel, by decide +kernel⟩, List.mem_of_getElem? (i := 137) rfl, List.mem_of_getElem? (i := 159) rfl, List.mem_of_getElem? (i := 160) rfl⟩
theorem lw_p9 : lw_okq (⟨"AreaMapModel", "keep", "()V"⟩, 2) := ⟨⟨by decide +kernel, by decide +kernel⟩, List.mem_of_getElem? (i := 137) rfl, List.mem_of_getElem? (i := 163) rfl, List.mem_of_getElem? (i := 164) rfl⟩
theorem lw_p10 : lw_okq (⟨"AreaMapModel", "fill", "(III)V"⟩, 2) := ⟨⟨by decide +kernel, by decide +kernel⟩, List.mem_of_getElem? (i := 137) rfl, List.mem_of_getElem? (i := 167) rfl, List.mem_of_getElem? (i := 168) rfl⟩
theorem lw_p11 : lw_okq (⟨"AreaMapModel", "tooMany", "()Z"⟩, 2) := ⟨⟨by decide +kernel, by decide +kernel⟩, List.mem_of_getElem? (i := 137) rfl, List.mem_of_getElem? (i := 171) rfl, List.mem_of_getElem? (i := 172) rfl⟩
theorem lw_p12 : lw_okq (⟨"AreaMapModel", "begins", "(I)Z"⟩, 2) := ⟨⟨by decide +kernel, by decide +kernel⟩, List.mem_of_getElem? (i := 137) rfl, List.mem_of_getElem? (i := 179) rfl, List.mem_of_getElem? (i := 180) rfl⟩
theorem lw_p13 : lw_okq (⟨"AreaMapModel", "room", "(II)I"⟩, 2) := ⟨⟨by decide +kernel, by decide +kernel⟩, List.mem_of_getElem? (i := 137) rfl, List.mem_of_getElem? (i := 187) rfl, List.mem_of_getElem? (i := 188) rfl⟩
theorem lw_p14 : lw_okq (⟨"AreaMapModel", "page", "(I)Z"⟩, 2) := ⟨⟨by decide +kernel, by decide +kernel⟩, List.mem_of_getElem? (i := 137) rfl, List.mem_of_getElem? (i := 203) rfl, List.mem_of_getElem? (i := 204) rfl⟩
def lw_privs_1 : List (MethodName × Nat) := [(⟨"AreaMap", "mappedIn", "(II)I"⟩, 8), (⟨"AreaMap", "rewrite", "(III)Z"⟩, 8), (⟨"AreaMap", "emit", "(III)V"⟩, 8), (⟨"AreaMap", "commit", "()Z"⟩, 8), (⟨"AreaMap", "room", "(II)I"⟩, 8), (⟨"AreaMap", "find", "(I)I"⟩, 8), (⟨"AreaMap", "isArea", "(I)Z"⟩, 8), (⟨"AreaMapModel", "proper", "(II)Z"⟩, 2), (⟨"AreaMapModel", "used", "(II)I"⟩, 2), (⟨"AreaMapModel", "keep", "()V"⟩, 2), (⟨"AreaMapModel", "fill", "(III)V"⟩, 2), (⟨"AreaMapModel", "tooMany", "()Z"⟩, 2), (⟨"AreaMapModel", "begins", "(I)Z"⟩, 2), (⟨"AreaMapModel", "room", "(II)I"⟩, 2), (⟨"AreaMapModel", "page", "(I)Z"⟩, 2)]
theorem lw_r1 : ∀ q ∈ lw_privs_1, lw_okq q := List.forall_mem_cons.mpr ⟨lw_p0, List.forall_mem_cons.mpr ⟨lw_p1, List.forall_mem_cons.mpr ⟨lw_p2, List.forall_mem_cons.mpr ⟨lw_p3, List.forall_mem_cons.mpr ⟨lw_p4, List.forall_mem_cons.mpr ⟨lw_p5, List.forall_mem_cons.mpr ⟨lw_p6, List.forall_mem_cons.mpr ⟨lw_p7, List.forall_mem_cons.mpr ⟨lw_p8, List.forall_mem_cons.mpr ⟨lw_p9, List.forall_mem_cons.mpr ⟨lw_p10, List.forall_mem_cons.mpr ⟨lw_p11, List.forall_mem_cons.mpr ⟨lw_p12, List.forall_mem_cons.mpr ⟨lw_p13, List.forall_mem_cons.mpr ⟨lw_p14, fun _ h => absurd h List.not_mem_nil⟩⟩⟩⟩⟩⟩⟩⟩⟩⟩⟩⟩⟩⟩⟩
def lw_privs : List (MethodName × Nat) := lw_privs_1
def lw_tbl : List Cond := k2_sels lw_privs ++ tables_1
theorem lw_privs_ok : ∀ q ∈ lw_privs, lw_okq q := lw_r1
-- ===== ONE list of words for every method: the tables' words that hold all through a run =====
def lw_all : List Cond := lw_tbl.filter goodWord
/-- a word of the tables by its place: claim/WORDS.tsv -/
theorem lw_w {w : Cond} (i : Nat) (h : lw_tbl[i]? = some w) (g : goodWord w = true) : w ∈ lw_all := List.mem_filter.mpr ⟨List.mem_of_getElem? h, g⟩
theorem lw_all_tbl {w : Cond} (h : w ∈ lw_all) : w ∈ lw_tbl := (List.mem_filter.mp h).1
theorem lw_self : GoodIn lw_all lw_all := fun w h => ⟨h, good_of_word (List.mem_filter.mp h).2⟩
/-- a class's field words, by their places -/
theorem lw_in (ws : List Cond) (ps : List Nat) (hp : ws = ps.filterMap (fun i => lw_tbl[i]?)) (hg : ws.all goodWord = true) : ∀ w ∈ ws, w ∈ lw_all := by
  intro w h
  have h1 := List.all_eq_true.mp hg w h
  rw [hp] at h
  obtain ⟨i, -, hi⟩ := List.mem_filterMap.mp h
  exact lw_w i hi h1
/-- the words of a contract for the method y with code b, L locals, answer r -/
abbrev ws_ (y : MethodName) (b : ByteArray) (L : Nat) (r : Option FieldType) : List Cond := Cond.code y b L r :: lw_all
theorem lw_meth {y : MethodName} {b : ByteArray} {L : Nat} {r : Option FieldType} (h : Cond.code y b L r ∈ lw_all) : GoodIn lw_all (ws_ y b L r) := by
  intro w hw
  rcases List.mem_cons.mp hw with e | e
  · rw [e]
    exact lw_self _ h
  · exact lw_self _ e
theorem lw_app {a c : List Cond} (ha : ∀ w ∈ a, w ∈ lw_all) (hc : GoodIn lw_all c) : GoodIn lw_all (a ++ c) := by
  intro w hw
  rcases List.mem_append.mp hw with e | e
  · exact lw_self w (ha w e)
  · exact hc w e
/-- what a call through an object asks: cwV n hts (lw_V ..) -/
theorem lw_V {own : String} {idx : Nat} {C : String} {y : MethodName} {b : ByteArray} {L : Nat} {r : Option FieldType} (h1 : Cond.methodLink own idx y ∈ lw_all) (h2 : Cond.instanceMethod y ∈ lw_all) (h3 : Cond.selects C y y ∈ lw_all) (h4 : Cond.initialized C ∈ lw_all) (h5 : Cond.code y b L r ∈ lw_all) : GoodIn lw_all (wsV own idx C y (ws_ y b L r)) := by
  refine lw_app ?_ (lw_meth h5)
  intro w hw
  simp only [List.mem_cons, List.not_mem_nil, or_false] at hw
  rcases hw with e | e | e | e
  · rw [e]; exact h1
  · rw [e]; exact h2
  · rw [e]; exact h3
  · rw [e]; exact h4
/-- what a static call asks: va_cwS n hts (lw_S ..) -/
theorem lw_S {own : String} {idx : Nat} {y : MethodName} {b : ByteArray} {L : Nat} {r : Option FieldType} (h1 : Cond.methodLink own idx y ∈ lw_all) (h2 : Cond.static y ∈ lw_all) (h3 : Cond.initialized y.cls ∈ lw_all) (h4 : Cond.code y b L r ∈ lw_all) : GoodIn lw_all (va_wsS own idx y (ws_ y b L r)) := by
  refine lw_app ?_ (lw_meth h4)
  intro w hw
  simp only [List.mem_cons, List.not_mem_nil, or_false] at hw
  rcases hw with e | e | e
  · rw [e]; exact h1
  · rw [e]; exact h2
  · rw [e]; exact h3
/-- the words of a contract for a method WITH HANDLERS (hh: its table) -/
abbrev wsW_ (y : MethodName) (b : ByteArray) (L : Nat) (r : Option FieldType) (hh : List (Nat × Nat × Nat × Nat)) : List Cond := Cond.codeWith y b L r hh :: lw_all
theorem lw_methW {y : MethodName} {b : ByteArray} {L : Nat} {r : Option FieldType} {hh : List (Nat × Nat × Nat × Nat)} (h : Cond.codeWith y b L r hh ∈ lw_all) : GoodIn lw_all (wsW_ y b L r hh) := by
  intro w hw
  rcases List.mem_cons.mp hw with e | e
  · rw [e]
    exact lw_self _ h
  · exact lw_self _ e
/-- any list of words by their places (lw_in), good -/
theorem lw_good {ws : List Cond} (h : ∀ w ∈ ws, w ∈ lw_all) : GoodIn lw_all ws := fun w hw => lw_self w (h w hw)
/-- what a call of a method with handlers asks: vx_cwVW n hts (lw_VW ..), vx_cwSW n hts (lw_SW ..) -/
theorem lw_VW {own : String} {idx : Nat} {C : String} {y : MethodName} {b : ByteArray} {L : Nat} {r : Option FieldType} {hh : List (Nat × Nat × Nat × Nat)} (h1 : Cond.methodLink own idx y ∈ lw_all) (h2 : Cond.instanceMethod y ∈ lw_all) (h3 : Cond.selects C y y ∈ lw_all) (h4 : Cond.initialized C ∈ lw_all) (h5 : Cond.codeWith y b L r hh ∈ lw_all) : GoodIn lw_all (wsV own idx C y (wsW_ y b L r hh)) := by
  refine lw_app ?_ (lw_methW h5)
  intro w hw
  simp only [List.mem_cons, List.not_mem_nil, or_false] at hw
  rcases hw with e | e | e | e
  · rw [e]; exact h1
  · rw [e]; exact h2
  · rw [e]; exact h3
  · rw [e]; exact h4
theorem lw_SW {own : String} {idx : Nat} {y : MethodName} {b : ByteArray} {L : Nat} {r : Option FieldType} {hh : List (Nat × Nat × Nat × Nat)} (h1 : Cond.methodLink own idx y ∈ lw_all) (h2 : Cond.static y ∈ lw_all) (h3 : Cond.initialized y.cls ∈ lw_all) (h4 : Cond.codeWith y b L r hh ∈ lw_all) : GoodIn lw_all (va_wsS own idx y (wsW_ y b L r hh)) := by
  refine lw_app ?_ (lw_methW h4)
  intro w hw
  simp only [List.mem_cons, List.not_mem_nil, or_false] at hw
  rcases hw with e | e | e
  · rw [e]; exact h1
  · rw [e]; exact h2
  · rw [e]; exact h3
/-- a word by its place in its run of the tables -/
theorem lw_at {r : List Cond} (hr : ∀ w ∈ r, w ∈ lw_tbl) {w : Cond} (i : Nat) (h : r[i]? = some w) : w ∈ lw_tbl := hr w (List.mem_of_getElem? h)
theorem lw_g {w : Cond} (h : w ∈ lw_tbl) (g : goodWord w = true) : w ∈ lw_all := List.mem_filter.mpr ⟨h, g⟩
theorem lw_ms : ∀ w ∈ k2_sels lw_privs, w ∈ lw_tbl := fun w h => show w ∈ k2_sels lw_privs ++ tables_1 from List.mem_append_left _ h
theorem lw_m0 : ∀ w ∈ tables_1, w ∈ lw_tbl := fun w h => show w ∈ k2_sels lw_privs ++ tables_1 from List.mem_append_right (k2_sels lw_privs) h
theorem qs0 : (Cond.selects "AreaMap" ⟨"AreaMap", "mappedIn", "(II)I"⟩ ⟨"AreaMap", "mappedIn", "(II)I"⟩) ∈ lw_all := lw_g (lw_at lw_ms 0 rfl) rfl
theorem qs1 : (Cond.selects "AreaMap" ⟨"AreaMap", "rewrite", "(III)Z"⟩ ⟨"AreaMap", "rewrite", "(III)Z"⟩) ∈ lw_all := lw_g (lw_at lw_ms 1 rfl) rfl
theorem qs2 : (Cond.selects "AreaMap" ⟨"AreaMap", "emit", "(III)V"⟩ ⟨"AreaMap", "emit", "(III)V"⟩) ∈ lw_all := lw_g (lw_at lw_ms 2 rfl) rfl
theorem qs3 : (Cond.selects "AreaMap" ⟨"AreaMap", "commit", "()Z"⟩ ⟨"AreaMap", "commit", "()Z"⟩) ∈ lw_all := lw_g (lw_at lw_ms 3 rfl) rfl
theorem qs4 : (Cond.selects "AreaMap" ⟨"AreaMap", "room", "(II)I"⟩ ⟨"AreaMap", "room", "(II)I"⟩) ∈ lw_all := lw_g (lw_at lw_ms 4 rfl) rfl
theorem qs5 : (Cond.selects "AreaMap" ⟨"AreaMap", "find", "(I)I"⟩ ⟨"AreaMap", "find", "(I)I"⟩) ∈ lw_all := lw_g (lw_at lw_ms 5 rfl) rfl
theorem qs6 : (Cond.selects "AreaMap" ⟨"AreaMap", "isArea", "(I)Z"⟩ ⟨"AreaMap", "isArea", "(I)Z"⟩) ∈ lw_all := lw_g (lw_at lw_ms 6 rfl) rfl
theorem qs7 : (Cond.selects "AreaMapModel" ⟨"AreaMapModel", "proper", "(II)Z"⟩ ⟨"AreaMapModel", "proper", "(II)Z"⟩) ∈ lw_all := lw_g (lw_at lw_ms 7 rfl) rfl
theorem qs8 : (Cond.selects "AreaMapModel" ⟨"AreaMapModel", "used", "(II)I"⟩ ⟨"AreaMapModel", "used", "(II)I"⟩) ∈ lw_all := lw_g (lw_at lw_ms 8 rfl) rfl
theorem qs9 : (Cond.selects "AreaMapModel" ⟨"AreaMapModel", "keep", "()V"⟩ ⟨"AreaMapModel", "keep", "()V"⟩) ∈ lw_all := lw_g (lw_at lw_ms 9 rfl) rfl
theorem qs10 : (Cond.selects "AreaMapModel" ⟨"AreaMapModel", "fill", "(III)V"⟩ ⟨"AreaMapModel", "fill", "(III)V"⟩) ∈ lw_all := lw_g (lw_at lw_ms 10 rfl) rfl
theorem qs11 : (Cond.selects "AreaMapModel" ⟨"AreaMapModel", "tooMany", "()Z"⟩ ⟨"AreaMapModel", "tooMany", "()Z"⟩) ∈ lw_all := lw_g (lw_at lw_ms 11 rfl) rfl
theorem qs12 : (Cond.selects "AreaMapModel" ⟨"AreaMapModel", "begins", "(I)Z"⟩ ⟨"AreaMapModel", "begins", "(I)Z"⟩) ∈ lw_all := lw_g (lw_at lw_ms 12 rfl) rfl
theorem qs13 : (Cond.selects "AreaMapModel" ⟨"AreaMapModel", "room", "(II)I"⟩ ⟨"AreaMapModel", "room", "(II)I"⟩) ∈ lw_all := lw_g (lw_at lw_ms 13 rfl) rfl
theorem qs14 : (Cond.selects "AreaMapModel" ⟨"AreaMapModel", "page", "(I)Z"⟩ ⟨"AreaMapModel", "page", "(I)Z"⟩) ∈ lw_all := lw_g (lw_at lw_ms 14 rfl) rfl
end
section
/-! AreaMap -/
set_option maxRecDepth 100000
def RX0 : String := "AreaMap"
def TX0 : u_T := fun k => match k with
  | 0 => ("AreaMap", "count", "I", false)
  | 1 => ("AreaMap", "from", "[B", true)
  | 2 => ("AreaMap", "to", "[B", true)
  | 3 => ("AreaMap", "kinds", "[B", true)
  | 4 => ("AreaMap", "made", "I", false)
  | 5 => ("AreaMap", "newFrom", "[B", true)
  | 6 => ("AreaMap", "newTo", "[B", true)
  | _ => ("AreaMap", "newKinds", "[B", true)
def tyX0 : Nat → FieldType := fun k => match k with
  | 0 => .int
  | 1 => .array .byte
  | 2 => .array .byte
  | 3 => .array .byte
  | 4 => .int
  | 5 => .array .byte
  | 6 => .array .byte
  | _ => .array .byte
abbrev wsX00 : List Cond := u_ws RX0 TX0 8
theorem nmX0 : ∀ a, a < 8 → ∀ b, b < 8 → a ≠ b → (TX0 a).2.1 ≠ (TX0 b).2.1 := by decide +kernel
theorem tyX0_ok : ∀ k, k < 8 → parseFieldDescriptor (TX0 k).2.2.1 = some (tyX0 k) := by decide +kernel
abbrev cX0_init : ByteArray := prog_1_method_1_code
def yX0_init : MethodName := ⟨RX0, "<init>", "()V"⟩
theorem dX0_init_0 : decode cX0_init 0 = .ok (.aload_n 0, 1) := by decide +kernel
theorem dX0_init_1 : decode cX0_init 1 = .ok (.invokespecial 1, 3) := by decide +kernel
theorem dX0_init_4 : decode cX0_init 4 = .ok (.aload_n 0, 1) := by decide +kernel
theorem dX0_init_5 : decode cX0_init 5 = .ok (.bipush 20, 2) := by decide +kernel
theorem dX0_init_7 : decode cX0_init 7 = .ok (.newarray .byte, 2) := by decide +kernel
theorem dX0_init_9 : decode cX0_init 9 = .ok (.putfield 7, 3) := by decide +kernel
theorem dX0_init_12 : decode cX0_init 12 = .ok (.aload_n 0, 1) := by decide +kernel
theorem dX0_init_13 : decode cX0_init 13 = .ok (.bipush 20, 2) := by decide +kernel
theorem dX0_init_15 : decode cX0_init 15 = .ok (.newarray .byte, 2) := by decide +kernel
theorem dX0_init_17 : decode cX0_init 17 = .ok (.putfield 13, 3) := by decide +kernel
theorem dX0_init_20 : decode cX0_init 20 = .ok (.aload_n 0, 1) := by decide +kernel
theorem dX0_init_21 : decode cX0_init 21 = .ok (.bipush 20, 2) := by decide +kernel
theorem dX0_init_23 : decode cX0_init 23 = .ok (.newarray .byte, 2) := by decide +kernel
theorem dX0_init_25 : decode cX0_init 25 = .ok (.putfield 16, 3) := by decide +kernel
theorem dX0_init_28 : decode cX0_init 28 = .ok (.aload_n 0, 1) := by decide +kernel
theorem dX0_init_29 : decode cX0_init 29 = .ok (.bipush 48, 2) := by decide +kernel
theorem dX0_init_31 : decode cX0_init 31 = .ok (.newarray .byte, 2) := by decide +kernel
theorem dX0_init_33 : decode cX0_init 33 = .ok (.putfield 19, 3) := by decide +kernel
theorem dX0_init_36 : decode cX0_init 36 = .ok (.aload_n 0, 1) := by decide +kernel
theorem dX0_init_37 : decode cX0_init 37 = .ok (.bipush 48, 2) := by decide +kernel
theorem dX0_init_39 : decode cX0_init 39 = .ok (.newarray .byte, 2) := by decide +kernel
theorem dX0_init_41 : decode cX0_init 41 = .ok (.putfield 22, 3) := by decide +kernel
theorem dX0_init_44 : decode cX0_init 44 = .ok (.aload_n 0, 1) := by decide +kernel
theorem dX0_init_45 : decode cX0_init 45 = .ok (.bipush 48, 2) := by decide +kernel
theorem dX0_init_47 : decode cX0_init 47 = .ok (.newarray .byte, 2) := by decide +kernel
theorem dX0_init_49 : decode cX0_init 49 = .ok (.putfield 25, 3) := by decide +kernel
theorem dX0_init_52 : decode cX0_init 52 = .ok (.return_, 1) := by decide +kernel
abbrev cX0_map : ByteArray := prog_1_method_10_code
def yX0_map : MethodName := ⟨RX0, "map", "(III)I"⟩
theorem dX0_map_0 : decode cX0_map 0 = .ok (.iload_n 1, 1) := by decide +kernel
theorem dX0_map_1 : decode cX0_map 1 = .ok (.iload_n 2, 1) := by decide +kernel
theorem dX0_map_2 : decode cX0_map 2 = .ok (.invokestatic 50, 3) := by decide +kernel
theorem dX0_map_5 : decode cX0_map 5 = .ok (.ifCond .eq 10, 3) := by decide +kernel
theorem dX0_map_8 : decode cX0_map 8 = .ok (.iload_n 3, 1) := by decide +kernel
theorem dX0_map_9 : decode cX0_map 9 = .ok (.invokestatic 54, 3) := by decide +kernel
theorem dX0_map_12 : decode cX0_map 12 = .ok (.ifCond .ne 5, 3) := by decide +kernel
theorem dX0_map_15 : decode cX0_map 15 = .ok (.iconst (-1), 1) := by decide +kernel
theorem dX0_map_16 : decode cX0_map 16 = .ok (.ireturn, 1) := by decide +kernel
theorem dX0_map_17 : decode cX0_map 17 = .ok (.aload_n 0, 1) := by decide +kernel
theorem dX0_map_18 : decode cX0_map 18 = .ok (.iload_n 1, 1) := by decide +kernel
theorem dX0_map_19 : decode cX0_map 19 = .ok (.iload_n 1, 1) := by decide +kernel
theorem dX0_map_20 : decode cX0_map 20 = .ok (.iload_n 2, 1) := by decide +kernel
theorem dX0_map_21 : decode cX0_map 21 = .ok (.iadd, 1) := by decide +kernel
theorem dX0_map_22 : decode cX0_map 22 = .ok (.invokevirtual 58, 3) := by decide +kernel
theorem dX0_map_25 : decode cX0_map 25 = .ok (.istore 4, 2) := by decide +kernel
theorem dX0_map_27 : decode cX0_map 27 = .ok (.aload_n 0, 1) := by decide +kernel
theorem dX0_map_28 : decode cX0_map 28 = .ok (.iload_n 1, 1) := by decide +kernel
theorem dX0_map_29 : decode cX0_map 29 = .ok (.iload_n 1, 1) := by decide +kernel
theorem dX0_map_30 : decode cX0_map 30 = .ok (.iload_n 2, 1) := by decide +kernel
theorem dX0_map_31 : decode cX0_map 31 = .ok (.iadd, 1) := by decide +kernel
theorem dX0_map_32 : decode cX0_map 32 = .ok (.iload_n 3, 1) := by decide +kernel
theorem dX0_map_33 : decode cX0_map 33 = .ok (.invokevirtual 61, 3) := by decide +kernel
theorem dX0_map_36 : decode cX0_map 36 = .ok (.ifCond .eq 8, 3) := by decide +kernel
theorem dX0_map_39 : decode cX0_map 39 = .ok (.iload 4, 2) := by decide +kernel
theorem dX0_map_41 : decode cX0_map 41 = .ok (.goto 5, 3) := by decide +kernel
theorem dX0_map_44 : decode cX0_map 44 = .ok (.bipush (-2), 2) := by decide +kernel
theorem dX0_map_46 : decode cX0_map 46 = .ok (.ireturn, 1) := by decide +kernel
abbrev cX0_isProper : ByteArray := prog_1_method_2_code
def yX0_isProper : MethodName := ⟨RX0, "isProper", "(II)Z"⟩
theorem dX0_isProper_0 : decode cX0_isProper 0 = .ok (.iload_n 0, 1) := by decide +kernel
theorem dX0_isProper_1 : decode cX0_isProper 1 = .ok (.ifCond .lt 26, 3) := by decide +kernel
theorem dX0_isProper_4 : decode cX0_isProper 4 = .ok (.iload_n 0, 1) := by decide +kernel
theorem dX0_isProper_5 : decode cX0_isProper 5 = .ok (.bipush 64, 2) := by decide +kernel
theorem dX0_isProper_7 : decode cX0_isProper 7 = .ok (.if_icmp .ge 20, 3) := by decide +kernel
theorem dX0_isProper_10 : decode cX0_isProper 10 = .ok (.iload_n 1, 1) := by decide +kernel
theorem dX0_isProper_11 : decode cX0_isProper 11 = .ok (.iconst 1, 1) := by decide +kernel
theorem dX0_isProper_12 : decode cX0_isProper 12 = .ok (.if_icmp .lt 15, 3) := by decide +kernel
theorem dX0_isProper_15 : decode cX0_isProper 15 = .ok (.iload_n 1, 1) := by decide +kernel
theorem dX0_isProper_16 : decode cX0_isProper 16 = .ok (.bipush 64, 2) := by decide +kernel
theorem dX0_isProper_18 : decode cX0_isProper 18 = .ok (.iload_n 0, 1) := by decide +kernel
theorem dX0_isProper_19 : decode cX0_isProper 19 = .ok (.isub, 1) := by decide +kernel
theorem dX0_isProper_20 : decode cX0_isProper 20 = .ok (.if_icmp .gt 7, 3) := by decide +kernel
theorem dX0_isProper_23 : decode cX0_isProper 23 = .ok (.iconst 1, 1) := by decide +kernel
theorem dX0_isProper_24 : decode cX0_isProper 24 = .ok (.goto 4, 3) := by decide +kernel
theorem dX0_isProper_27 : decode cX0_isProper 27 = .ok (.iconst 0, 1) := by decide +kernel
theorem dX0_isProper_28 : decode cX0_isProper 28 = .ok (.ireturn, 1) := by decide +kernel
abbrev cX0_isKind : ByteArray := prog_1_method_3_code
def yX0_isKind : MethodName := ⟨RX0, "isKind", "(I)Z"⟩
theorem dX0_isKind_0 : decode cX0_isKind 0 = .ok (.iload_n 0, 1) := by decide +kernel
theorem dX0_isKind_1 : decode cX0_isKind 1 = .ok (.ifCond .lt 13, 3) := by decide +kernel
theorem dX0_isKind_4 : decode cX0_isKind 4 = .ok (.iload_n 0, 1) := by decide +kernel
theorem dX0_isKind_5 : decode cX0_isKind 5 = .ok (.bipush 127, 2) := by decide +kernel
theorem dX0_isKind_7 : decode cX0_isKind 7 = .ok (.if_icmp .gt 7, 3) := by decide +kernel
theorem dX0_isKind_10 : decode cX0_isKind 10 = .ok (.iconst 1, 1) := by decide +kernel
theorem dX0_isKind_11 : decode cX0_isKind 11 = .ok (.goto 4, 3) := by decide +kernel
theorem dX0_isKind_14 : decode cX0_isKind 14 = .ok (.iconst 0, 1) := by decide +kernel
theorem dX0_isKind_15 : decode cX0_isKind 15 = .ok (.ireturn, 1) := by decide +kernel
abbrev cX0_mappedIn : ByteArray := prog_1_method_9_code
def yX0_mappedIn : MethodName := ⟨RX0, "mappedIn", "(II)I"⟩
theorem dX0_mappedIn_0 : decode cX0_mappedIn 0 = .ok (.iconst 0, 1) := by decide +kernel
theorem dX0_mappedIn_1 : decode cX0_mappedIn 1 = .ok (.istore_n 3, 1) := by decide +kernel
theorem dX0_mappedIn_2 : decode cX0_mappedIn 2 = .ok (.iconst 0, 1) := by decide +kernel
theorem dX0_mappedIn_3 : decode cX0_mappedIn 3 = .ok (.istore 4, 2) := by decide +kernel
theorem dX0_mappedIn_5 : decode cX0_mappedIn 5 = .ok (.iload 4, 2) := by decide +kernel
theorem dX0_mappedIn_7 : decode cX0_mappedIn 7 = .ok (.aload_n 0, 1) := by decide +kernel
theorem dX0_mappedIn_8 : decode cX0_mappedIn 8 = .ok (.getfield 32, 3) := by decide +kernel
theorem dX0_mappedIn_11 : decode cX0_mappedIn 11 = .ok (.if_icmp .ge 54, 3) := by decide +kernel
theorem dX0_mappedIn_14 : decode cX0_mappedIn 14 = .ok (.aload_n 0, 1) := by decide +kernel
theorem dX0_mappedIn_15 : decode cX0_mappedIn 15 = .ok (.getfield 7, 3) := by decide +kernel
theorem dX0_mappedIn_18 : decode cX0_mappedIn 18 = .ok (.iload 4, 2) := by decide +kernel
theorem dX0_mappedIn_20 : decode cX0_mappedIn 20 = .ok (.baload, 1) := by decide +kernel
theorem dX0_mappedIn_21 : decode cX0_mappedIn 21 = .ok (.iload_n 1, 1) := by decide +kernel
theorem dX0_mappedIn_22 : decode cX0_mappedIn 22 = .ok (.invokestatic 43, 3) := by decide +kernel
theorem dX0_mappedIn_25 : decode cX0_mappedIn 25 = .ok (.istore 5, 2) := by decide +kernel
theorem dX0_mappedIn_27 : decode cX0_mappedIn 27 = .ok (.aload_n 0, 1) := by decide +kernel
theorem dX0_mappedIn_28 : decode cX0_mappedIn 28 = .ok (.getfield 13, 3) := by decide +kernel
theorem dX0_mappedIn_31 : decode cX0_mappedIn 31 = .ok (.iload 4, 2) := by decide +kernel
theorem dX0_mappedIn_33 : decode cX0_mappedIn 33 = .ok (.baload, 1) := by decide +kernel
theorem dX0_mappedIn_34 : decode cX0_mappedIn 34 = .ok (.iload_n 2, 1) := by decide +kernel
theorem dX0_mappedIn_35 : decode cX0_mappedIn 35 = .ok (.invokestatic 35, 3) := by decide +kernel
theorem dX0_mappedIn_38 : decode cX0_mappedIn 38 = .ok (.istore 6, 2) := by decide +kernel
theorem dX0_mappedIn_40 : decode cX0_mappedIn 40 = .ok (.iload_n 3, 1) := by decide +kernel
theorem dX0_mappedIn_41 : decode cX0_mappedIn 41 = .ok (.iload 6, 2) := by decide +kernel
theorem dX0_mappedIn_43 : decode cX0_mappedIn 43 = .ok (.iload 5, 2) := by decide +kernel
theorem dX0_mappedIn_45 : decode cX0_mappedIn 45 = .ok (.if_icmp .le 11, 3) := by decide +kernel
theorem dX0_mappedIn_48 : decode cX0_mappedIn 48 = .ok (.iload 6, 2) := by decide +kernel
theorem dX0_mappedIn_50 : decode cX0_mappedIn 50 = .ok (.iload 5, 2) := by decide +kernel
theorem dX0_mappedIn_52 : decode cX0_mappedIn 52 = .ok (.isub, 1) := by decide +kernel
theorem dX0_mappedIn_53 : decode cX0_mappedIn 53 = .ok (.goto 4, 3) := by decide +kernel
theorem dX0_mappedIn_56 : decode cX0_mappedIn 56 = .ok (.iconst 0, 1) := by decide +kernel
theorem dX0_mappedIn_57 : decode cX0_mappedIn 57 = .ok (.iadd, 1) := by decide +kernel
theorem dX0_mappedIn_58 : decode cX0_mappedIn 58 = .ok (.istore_n 3, 1) := by decide +kernel
theorem dX0_mappedIn_59 : decode cX0_mappedIn 59 = .ok (.iinc 4 1, 3) := by decide +kernel
theorem dX0_mappedIn_62 : decode cX0_mappedIn 62 = .ok (.goto (-57), 3) := by decide +kernel
theorem dX0_mappedIn_65 : decode cX0_mappedIn 65 = .ok (.iload_n 3, 1) := by decide +kernel
theorem dX0_mappedIn_66 : decode cX0_mappedIn 66 = .ok (.ireturn, 1) := by decide +kernel
abbrev cX0_greatest : ByteArray := prog_1_method_7_code
def yX0_greatest : MethodName := ⟨RX0, "greatest", "(II)I"⟩
theorem dX0_greatest_0 : decode cX0_greatest 0 = .ok (.iload_n 0, 1) := by decide +kernel
theorem dX0_greatest_1 : decode cX0_greatest 1 = .ok (.iload_n 1, 1) := by decide +kernel
theorem dX0_greatest_2 : decode cX0_greatest 2 = .ok (.if_icmp .le 7, 3) := by decide +kernel
theorem dX0_greatest_5 : decode cX0_greatest 5 = .ok (.iload_n 0, 1) := by decide +kernel
theorem dX0_greatest_6 : decode cX0_greatest 6 = .ok (.goto 4, 3) := by decide +kernel
theorem dX0_greatest_9 : decode cX0_greatest 9 = .ok (.iload_n 1, 1) := by decide +kernel
theorem dX0_greatest_10 : decode cX0_greatest 10 = .ok (.ireturn, 1) := by decide +kernel
abbrev cX0_least : ByteArray := prog_1_method_6_code
def yX0_least : MethodName := ⟨RX0, "least", "(II)I"⟩
theorem dX0_least_0 : decode cX0_least 0 = .ok (.iload_n 0, 1) := by decide +kernel
theorem dX0_least_1 : decode cX0_least 1 = .ok (.iload_n 1, 1) := by decide +kernel
theorem dX0_least_2 : decode cX0_least 2 = .ok (.if_icmp .ge 7, 3) := by decide +kernel
theorem dX0_least_5 : decode cX0_least 5 = .ok (.iload_n 0, 1) := by decide +kernel
theorem dX0_least_6 : decode cX0_least 6 = .ok (.goto 4, 3) := by decide +kernel
theorem dX0_least_9 : decode cX0_least 9 = .ok (.iload_n 1, 1) := by decide +kernel
theorem dX0_least_10 : decode cX0_least 10 = .ok (.ireturn, 1) := by decide +kernel
abbrev cX0_rewrite : ByteArray := prog_1_method_8_code
def yX0_rewrite : MethodName := ⟨RX0, "rewrite", "(III)Z"⟩
theorem dX0_rewrite_0 : decode cX0_rewrite 0 = .ok (.aload_n 0, 1) := by decide +kernel
theorem dX0_rewrite_1 : decode cX0_rewrite 1 = .ok (.iconst 0, 1) := by decide +kernel
theorem dX0_rewrite_2 : decode cX0_rewrite 2 = .ok (.putfield 28, 3) := by decide +kernel
theorem dX0_rewrite_5 : decode cX0_rewrite 5 = .ok (.iload_n 3, 1) := by decide +kernel
theorem dX0_rewrite_6 : decode cX0_rewrite 6 = .ok (.iconst (-1), 1) := by decide +kernel
theorem dX0_rewrite_7 : decode cX0_rewrite 7 = .ok (.if_icmp .ne 7, 3) := by decide +kernel
theorem dX0_rewrite_10 : decode cX0_rewrite 10 = .ok (.iconst 1, 1) := by decide +kernel
theorem dX0_rewrite_11 : decode cX0_rewrite 11 = .ok (.goto 4, 3) := by decide +kernel
theorem dX0_rewrite_14 : decode cX0_rewrite 14 = .ok (.iconst 0, 1) := by decide +kernel
theorem dX0_rewrite_15 : decode cX0_rewrite 15 = .ok (.istore 4, 2) := by decide +kernel
theorem dX0_rewrite_17 : decode cX0_rewrite 17 = .ok (.iconst 0, 1) := by decide +kernel
theorem dX0_rewrite_18 : decode cX0_rewrite 18 = .ok (.istore 5, 2) := by decide +kernel
theorem dX0_rewrite_20 : decode cX0_rewrite 20 = .ok (.iload 5, 2) := by decide +kernel
theorem dX0_rewrite_22 : decode cX0_rewrite 22 = .ok (.aload_n 0, 1) := by decide +kernel
theorem dX0_rewrite_23 : decode cX0_rewrite 23 = .ok (.getfield 32, 3) := by decide +kernel
theorem dX0_rewrite_26 : decode cX0_rewrite 26 = .ok (.if_icmp .ge 101, 3) := by decide +kernel
theorem dX0_rewrite_29 : decode cX0_rewrite 29 = .ok (.aload_n 0, 1) := by decide +kernel
theorem dX0_rewrite_30 : decode cX0_rewrite 30 = .ok (.getfield 13, 3) := by decide +kernel
theorem dX0_rewrite_33 : decode cX0_rewrite 33 = .ok (.iload 5, 2) := by decide +kernel
theorem dX0_rewrite_35 : decode cX0_rewrite 35 = .ok (.baload, 1) := by decide +kernel
theorem dX0_rewrite_36 : decode cX0_rewrite 36 = .ok (.iload_n 1, 1) := by decide +kernel
theorem dX0_rewrite_37 : decode cX0_rewrite 37 = .ok (.invokestatic 35, 3) := by decide +kernel
theorem dX0_rewrite_40 : decode cX0_rewrite 40 = .ok (.istore 6, 2) := by decide +kernel
theorem dX0_rewrite_42 : decode cX0_rewrite 42 = .ok (.aload_n 0, 1) := by decide +kernel
theorem dX0_rewrite_43 : decode cX0_rewrite 43 = .ok (.aload_n 0, 1) := by decide +kernel
theorem dX0_rewrite_44 : decode cX0_rewrite 44 = .ok (.getfield 7, 3) := by decide +kernel
theorem dX0_rewrite_47 : decode cX0_rewrite 47 = .ok (.iload 5, 2) := by decide +kernel
theorem dX0_rewrite_49 : decode cX0_rewrite 49 = .ok (.baload, 1) := by decide +kernel
theorem dX0_rewrite_50 : decode cX0_rewrite 50 = .ok (.iload 6, 2) := by decide +kernel
theorem dX0_rewrite_52 : decode cX0_rewrite 52 = .ok (.aload_n 0, 1) := by decide +kernel
theorem dX0_rewrite_53 : decode cX0_rewrite 53 = .ok (.getfield 16, 3) := by decide +kernel
theorem dX0_rewrite_56 : decode cX0_rewrite 56 = .ok (.iload 5, 2) := by decide +kernel
theorem dX0_rewrite_58 : decode cX0_rewrite 58 = .ok (.baload, 1) := by decide +kernel
theorem dX0_rewrite_59 : decode cX0_rewrite 59 = .ok (.invokevirtual 39, 3) := by decide +kernel
theorem dX0_rewrite_62 : decode cX0_rewrite 62 = .ok (.iload 4, 2) := by decide +kernel
theorem dX0_rewrite_64 : decode cX0_rewrite 64 = .ok (.ifCond .ne 24, 3) := by decide +kernel
theorem dX0_rewrite_67 : decode cX0_rewrite 67 = .ok (.aload_n 0, 1) := by decide +kernel
theorem dX0_rewrite_68 : decode cX0_rewrite 68 = .ok (.getfield 13, 3) := by decide +kernel
theorem dX0_rewrite_71 : decode cX0_rewrite 71 = .ok (.iload 5, 2) := by decide +kernel
theorem dX0_rewrite_73 : decode cX0_rewrite 73 = .ok (.baload, 1) := by decide +kernel
theorem dX0_rewrite_74 : decode cX0_rewrite 74 = .ok (.iload_n 1, 1) := by decide +kernel
theorem dX0_rewrite_75 : decode cX0_rewrite 75 = .ok (.if_icmp .le 13, 3) := by decide +kernel
theorem dX0_rewrite_78 : decode cX0_rewrite 78 = .ok (.aload_n 0, 1) := by decide +kernel
theorem dX0_rewrite_79 : decode cX0_rewrite 79 = .ok (.iload_n 1, 1) := by decide +kernel
theorem dX0_rewrite_80 : decode cX0_rewrite 80 = .ok (.iload_n 2, 1) := by decide +kernel
theorem dX0_rewrite_81 : decode cX0_rewrite 81 = .ok (.iload_n 3, 1) := by decide +kernel
theorem dX0_rewrite_82 : decode cX0_rewrite 82 = .ok (.invokevirtual 39, 3) := by decide +kernel
theorem dX0_rewrite_85 : decode cX0_rewrite 85 = .ok (.iconst 1, 1) := by decide +kernel
theorem dX0_rewrite_86 : decode cX0_rewrite 86 = .ok (.istore 4, 2) := by decide +kernel
theorem dX0_rewrite_88 : decode cX0_rewrite 88 = .ok (.aload_n 0, 1) := by decide +kernel
theorem dX0_rewrite_89 : decode cX0_rewrite 89 = .ok (.getfield 7, 3) := by decide +kernel
theorem dX0_rewrite_92 : decode cX0_rewrite 92 = .ok (.iload 5, 2) := by decide +kernel
theorem dX0_rewrite_94 : decode cX0_rewrite 94 = .ok (.baload, 1) := by decide +kernel
theorem dX0_rewrite_95 : decode cX0_rewrite 95 = .ok (.iload_n 2, 1) := by decide +kernel
theorem dX0_rewrite_96 : decode cX0_rewrite 96 = .ok (.invokestatic 43, 3) := by decide +kernel
theorem dX0_rewrite_99 : decode cX0_rewrite 99 = .ok (.istore 7, 2) := by decide +kernel
theorem dX0_rewrite_101 : decode cX0_rewrite 101 = .ok (.aload_n 0, 1) := by decide +kernel
theorem dX0_rewrite_102 : decode cX0_rewrite 102 = .ok (.iload 7, 2) := by decide +kernel
theorem dX0_rewrite_104 : decode cX0_rewrite 104 = .ok (.aload_n 0, 1) := by decide +kernel
theorem dX0_rewrite_105 : decode cX0_rewrite 105 = .ok (.getfield 13, 3) := by decide +kernel
theorem dX0_rewrite_108 : decode cX0_rewrite 108 = .ok (.iload 5, 2) := by decide +kernel
theorem dX0_rewrite_110 : decode cX0_rewrite 110 = .ok (.baload, 1) := by decide +kernel
theorem dX0_rewrite_111 : decode cX0_rewrite 111 = .ok (.aload_n 0, 1) := by decide +kernel
theorem dX0_rewrite_112 : decode cX0_rewrite 112 = .ok (.getfield 16, 3) := by decide +kernel
theorem dX0_rewrite_115 : decode cX0_rewrite 115 = .ok (.iload 5, 2) := by decide +kernel
theorem dX0_rewrite_117 : decode cX0_rewrite 117 = .ok (.baload, 1) := by decide +kernel
theorem dX0_rewrite_118 : decode cX0_rewrite 118 = .ok (.invokevirtual 39, 3) := by decide +kernel
theorem dX0_rewrite_121 : decode cX0_rewrite 121 = .ok (.iinc 5 1, 3) := by decide +kernel
theorem dX0_rewrite_124 : decode cX0_rewrite 124 = .ok (.goto (-104), 3) := by decide +kernel
theorem dX0_rewrite_127 : decode cX0_rewrite 127 = .ok (.iload 4, 2) := by decide +kernel
theorem dX0_rewrite_129 : decode cX0_rewrite 129 = .ok (.ifCond .ne 10, 3) := by decide +kernel
theorem dX0_rewrite_132 : decode cX0_rewrite 132 = .ok (.aload_n 0, 1) := by decide +kernel
theorem dX0_rewrite_133 : decode cX0_rewrite 133 = .ok (.iload_n 1, 1) := by decide +kernel
theorem dX0_rewrite_134 : decode cX0_rewrite 134 = .ok (.iload_n 2, 1) := by decide +kernel
theorem dX0_rewrite_135 : decode cX0_rewrite 135 = .ok (.iload_n 3, 1) := by decide +kernel
theorem dX0_rewrite_136 : decode cX0_rewrite 136 = .ok (.invokevirtual 39, 3) := by decide +kernel
theorem dX0_rewrite_139 : decode cX0_rewrite 139 = .ok (.aload_n 0, 1) := by decide +kernel
theorem dX0_rewrite_140 : decode cX0_rewrite 140 = .ok (.invokevirtual 46, 3) := by decide +kernel
theorem dX0_rewrite_143 : decode cX0_rewrite 143 = .ok (.ireturn, 1) := by decide +kernel
abbrev cX0_emit : ByteArray := prog_1_method_4_code
def yX0_emit : MethodName := ⟨RX0, "emit", "(III)V"⟩
theorem dX0_emit_0 : decode cX0_emit 0 = .ok (.iload_n 1, 1) := by decide +kernel
theorem dX0_emit_1 : decode cX0_emit 1 = .ok (.iload_n 2, 1) := by decide +kernel
theorem dX0_emit_2 : decode cX0_emit 2 = .ok (.if_icmp .lt 4, 3) := by decide +kernel
theorem dX0_emit_5 : decode cX0_emit 5 = .ok (.return_, 1) := by decide +kernel
theorem dX0_emit_6 : decode cX0_emit 6 = .ok (.aload_n 0, 1) := by decide +kernel
theorem dX0_emit_7 : decode cX0_emit 7 = .ok (.getfield 28, 3) := by decide +kernel
theorem dX0_emit_10 : decode cX0_emit 10 = .ok (.ifCond .le 37, 3) := by decide +kernel
theorem dX0_emit_13 : decode cX0_emit 13 = .ok (.aload_n 0, 1) := by decide +kernel
theorem dX0_emit_14 : decode cX0_emit 14 = .ok (.getfield 22, 3) := by decide +kernel
theorem dX0_emit_17 : decode cX0_emit 17 = .ok (.aload_n 0, 1) := by decide +kernel
theorem dX0_emit_18 : decode cX0_emit 18 = .ok (.getfield 28, 3) := by decide +kernel
theorem dX0_emit_21 : decode cX0_emit 21 = .ok (.iconst 1, 1) := by decide +kernel
theorem dX0_emit_22 : decode cX0_emit 22 = .ok (.isub, 1) := by decide +kernel
theorem dX0_emit_23 : decode cX0_emit 23 = .ok (.baload, 1) := by decide +kernel
theorem dX0_emit_24 : decode cX0_emit 24 = .ok (.iload_n 1, 1) := by decide +kernel
theorem dX0_emit_25 : decode cX0_emit 25 = .ok (.if_icmp .ne 22, 3) := by decide +kernel
theorem dX0_emit_28 : decode cX0_emit 28 = .ok (.aload_n 0, 1) := by decide +kernel
theorem dX0_emit_29 : decode cX0_emit 29 = .ok (.getfield 25, 3) := by decide +kernel
theorem dX0_emit_32 : decode cX0_emit 32 = .ok (.aload_n 0, 1) := by decide +kernel
theorem dX0_emit_33 : decode cX0_emit 33 = .ok (.getfield 28, 3) := by decide +kernel
theorem dX0_emit_36 : decode cX0_emit 36 = .ok (.iconst 1, 1) := by decide +kernel
theorem dX0_emit_37 : decode cX0_emit 37 = .ok (.isub, 1) := by decide +kernel
theorem dX0_emit_38 : decode cX0_emit 38 = .ok (.baload, 1) := by decide +kernel
theorem dX0_emit_39 : decode cX0_emit 39 = .ok (.iload_n 3, 1) := by decide +kernel
theorem dX0_emit_40 : decode cX0_emit 40 = .ok (.if_icmp .ne 7, 3) := by decide +kernel
theorem dX0_emit_43 : decode cX0_emit 43 = .ok (.iconst 1, 1) := by decide +kernel
theorem dX0_emit_44 : decode cX0_emit 44 = .ok (.goto 4, 3) := by decide +kernel
theorem dX0_emit_47 : decode cX0_emit 47 = .ok (.iconst 0, 1) := by decide +kernel
theorem dX0_emit_48 : decode cX0_emit 48 = .ok (.istore 4, 2) := by decide +kernel
theorem dX0_emit_50 : decode cX0_emit 50 = .ok (.iload 4, 2) := by decide +kernel
theorem dX0_emit_52 : decode cX0_emit 52 = .ok (.ifCond .eq 19, 3) := by decide +kernel
theorem dX0_emit_55 : decode cX0_emit 55 = .ok (.aload_n 0, 1) := by decide +kernel
theorem dX0_emit_56 : decode cX0_emit 56 = .ok (.getfield 22, 3) := by decide +kernel
theorem dX0_emit_59 : decode cX0_emit 59 = .ok (.aload_n 0, 1) := by decide +kernel
theorem dX0_emit_60 : decode cX0_emit 60 = .ok (.getfield 28, 3) := by decide +kernel
theorem dX0_emit_63 : decode cX0_emit 63 = .ok (.iconst 1, 1) := by decide +kernel
theorem dX0_emit_64 : decode cX0_emit 64 = .ok (.isub, 1) := by decide +kernel
theorem dX0_emit_65 : decode cX0_emit 65 = .ok (.iload_n 2, 1) := by decide +kernel
theorem dX0_emit_66 : decode cX0_emit 66 = .ok (.i2b, 1) := by decide +kernel
theorem dX0_emit_67 : decode cX0_emit 67 = .ok (.bastore, 1) := by decide +kernel
theorem dX0_emit_68 : decode cX0_emit 68 = .ok (.goto 46, 3) := by decide +kernel
theorem dX0_emit_71 : decode cX0_emit 71 = .ok (.aload_n 0, 1) := by decide +kernel
theorem dX0_emit_72 : decode cX0_emit 72 = .ok (.getfield 19, 3) := by decide +kernel
theorem dX0_emit_75 : decode cX0_emit 75 = .ok (.aload_n 0, 1) := by decide +kernel
theorem dX0_emit_76 : decode cX0_emit 76 = .ok (.getfield 28, 3) := by decide +kernel
theorem dX0_emit_79 : decode cX0_emit 79 = .ok (.iload_n 1, 1) := by decide +kernel
theorem dX0_emit_80 : decode cX0_emit 80 = .ok (.i2b, 1) := by decide +kernel
theorem dX0_emit_81 : decode cX0_emit 81 = .ok (.bastore, 1) := by decide +kernel
theorem dX0_emit_82 : decode cX0_emit 82 = .ok (.aload_n 0, 1) := by decide +kernel
theorem dX0_emit_83 : decode cX0_emit 83 = .ok (.getfield 22, 3) := by decide +kernel
theorem dX0_emit_86 : decode cX0_emit 86 = .ok (.aload_n 0, 1) := by decide +kernel
theorem dX0_emit_87 : decode cX0_emit 87 = .ok (.getfield 28, 3) := by decide +kernel
theorem dX0_emit_90 : decode cX0_emit 90 = .ok (.iload_n 2, 1) := by decide +kernel
theorem dX0_emit_91 : decode cX0_emit 91 = .ok (.i2b, 1) := by decide +kernel
theorem dX0_emit_92 : decode cX0_emit 92 = .ok (.bastore, 1) := by decide +kernel
theorem dX0_emit_93 : decode cX0_emit 93 = .ok (.aload_n 0, 1) := by decide +kernel
theorem dX0_emit_94 : decode cX0_emit 94 = .ok (.getfield 25, 3) := by decide +kernel
theorem dX0_emit_97 : decode cX0_emit 97 = .ok (.aload_n 0, 1) := by decide +kernel
theorem dX0_emit_98 : decode cX0_emit 98 = .ok (.getfield 28, 3) := by decide +kernel
theorem dX0_emit_101 : decode cX0_emit 101 = .ok (.iload_n 3, 1) := by decide +kernel
theorem dX0_emit_102 : decode cX0_emit 102 = .ok (.i2b, 1) := by decide +kernel
theorem dX0_emit_103 : decode cX0_emit 103 = .ok (.bastore, 1) := by decide +kernel
theorem dX0_emit_104 : decode cX0_emit 104 = .ok (.aload_n 0, 1) := by decide +kernel
theorem dX0_emit_105 : decode cX0_emit 105 = .ok (.dup, 1) := by decide +kernel
theorem dX0_emit_106 : decode cX0_emit 106 = .ok (.getfield 28, 3) := by decide +kernel
theorem dX0_emit_109 : decode cX0_emit 109 = .ok (.iconst 1, 1) := by decide +kernel
theorem dX0_emit_110 : decode cX0_emit 110 = .ok (.iadd, 1) := by decide +kernel
theorem dX0_emit_111 : decode cX0_emit 111 = .ok (.putfield 28, 3) := by decide +kernel
theorem dX0_emit_114 : decode cX0_emit 114 = .ok (.return_, 1) := by decide +kernel
abbrev cX0_commit : ByteArray := prog_1_method_5_code
def yX0_commit : MethodName := ⟨RX0, "commit", "()Z"⟩
theorem dX0_commit_0 : decode cX0_commit 0 = .ok (.aload_n 0, 1) := by decide +kernel
theorem dX0_commit_1 : decode cX0_commit 1 = .ok (.getfield 28, 3) := by decide +kernel
theorem dX0_commit_4 : decode cX0_commit 4 = .ok (.bipush 20, 2) := by decide +kernel
theorem dX0_commit_6 : decode cX0_commit 6 = .ok (.if_icmp .le 5, 3) := by decide +kernel
theorem dX0_commit_9 : decode cX0_commit 9 = .ok (.iconst 0, 1) := by decide +kernel
theorem dX0_commit_10 : decode cX0_commit 10 = .ok (.ireturn, 1) := by decide +kernel
theorem dX0_commit_11 : decode cX0_commit 11 = .ok (.aload_n 0, 1) := by decide +kernel
theorem dX0_commit_12 : decode cX0_commit 12 = .ok (.aload_n 0, 1) := by decide +kernel
theorem dX0_commit_13 : decode cX0_commit 13 = .ok (.getfield 28, 3) := by decide +kernel
theorem dX0_commit_16 : decode cX0_commit 16 = .ok (.putfield 32, 3) := by decide +kernel
theorem dX0_commit_19 : decode cX0_commit 19 = .ok (.iconst 0, 1) := by decide +kernel
theorem dX0_commit_20 : decode cX0_commit 20 = .ok (.istore_n 1, 1) := by decide +kernel
theorem dX0_commit_21 : decode cX0_commit 21 = .ok (.iload_n 1, 1) := by decide +kernel
theorem dX0_commit_22 : decode cX0_commit 22 = .ok (.aload_n 0, 1) := by decide +kernel
theorem dX0_commit_23 : decode cX0_commit 23 = .ok (.getfield 28, 3) := by decide +kernel
theorem dX0_commit_26 : decode cX0_commit 26 = .ok (.if_icmp .ge 45, 3) := by decide +kernel
theorem dX0_commit_29 : decode cX0_commit 29 = .ok (.aload_n 0, 1) := by decide +kernel
theorem dX0_commit_30 : decode cX0_commit 30 = .ok (.getfield 7, 3) := by decide +kernel
theorem dX0_commit_33 : decode cX0_commit 33 = .ok (.iload_n 1, 1) := by decide +kernel
theorem dX0_commit_34 : decode cX0_commit 34 = .ok (.aload_n 0, 1) := by decide +kernel
theorem dX0_commit_35 : decode cX0_commit 35 = .ok (.getfield 19, 3) := by decide +kernel
theorem dX0_commit_38 : decode cX0_commit 38 = .ok (.iload_n 1, 1) := by decide +kernel
theorem dX0_commit_39 : decode cX0_commit 39 = .ok (.baload, 1) := by decide +kernel
theorem dX0_commit_40 : decode cX0_commit 40 = .ok (.bastore, 1) := by decide +kernel
theorem dX0_commit_41 : decode cX0_commit 41 = .ok (.aload_n 0, 1) := by decide +kernel
theorem dX0_commit_42 : decode cX0_commit 42 = .ok (.getfield 13, 3) := by decide +kernel
theorem dX0_commit_45 : decode cX0_commit 45 = .ok (.iload_n 1, 1) := by decide +kernel
theorem dX0_commit_46 : decode cX0_commit 46 = .ok (.aload_n 0, 1) := by decide +kernel
theorem dX0_commit_47 : decode cX0_commit 47 = .ok (.getfield 22, 3) := by decide +kernel
theorem dX0_commit_50 : decode cX0_commit 50 = .ok (.iload_n 1, 1) := by decide +kernel
theorem dX0_commit_51 : decode cX0_commit 51 = .ok (.baload, 1) := by decide +kernel
theorem dX0_commit_52 : decode cX0_commit 52 = .ok (.bastore, 1) := by decide +kernel
theorem dX0_commit_53 : decode cX0_commit 53 = .ok (.aload_n 0, 1) := by decide +kernel
theorem dX0_commit_54 : decode cX0_commit 54 = .ok (.getfield 16, 3) := by decide +kernel
theorem dX0_commit_57 : decode cX0_commit 57 = .ok (.iload_n 1, 1) := by decide +kernel
theorem dX0_commit_58 : decode cX0_commit 58 = .ok (.aload_n 0, 1) := by decide +kernel
theorem dX0_commit_59 : decode cX0_commit 59 = .ok (.getfield 25, 3) := by decide +kernel
theorem dX0_commit_62 : decode cX0_commit 62 = .ok (.iload_n 1, 1) := by decide +kernel
theorem dX0_commit_63 : decode cX0_commit 63 = .ok (.baload, 1) := by decide +kernel
theorem dX0_commit_64 : decode cX0_commit 64 = .ok (.bastore, 1) := by decide +kernel
theorem dX0_commit_65 : decode cX0_commit 65 = .ok (.iinc 1 1, 3) := by decide +kernel
theorem dX0_commit_68 : decode cX0_commit 68 = .ok (.goto (-47), 3) := by decide +kernel
theorem dX0_commit_71 : decode cX0_commit 71 = .ok (.iconst 1, 1) := by decide +kernel
theorem dX0_commit_72 : decode cX0_commit 72 = .ok (.ireturn, 1) := by decide +kernel
abbrev cX0_place : ByteArray := prog_1_method_11_code
def yX0_place : MethodName := ⟨RX0, "place", "(III)I"⟩
theorem dX0_place_0 : decode cX0_place 0 = .ok (.iload_n 2, 1) := by decide +kernel
theorem dX0_place_1 : decode cX0_place 1 = .ok (.iconst 1, 1) := by decide +kernel
theorem dX0_place_2 : decode cX0_place 2 = .ok (.if_icmp .lt 20, 3) := by decide +kernel
theorem dX0_place_5 : decode cX0_place 5 = .ok (.iload_n 1, 1) := by decide +kernel
theorem dX0_place_6 : decode cX0_place 6 = .ok (.ifCond .lt 16, 3) := by decide +kernel
theorem dX0_place_9 : decode cX0_place 9 = .ok (.iload_n 1, 1) := by decide +kernel
theorem dX0_place_10 : decode cX0_place 10 = .ok (.bipush 64, 2) := by decide +kernel
theorem dX0_place_12 : decode cX0_place 12 = .ok (.if_icmp .ge 10, 3) := by decide +kernel
theorem dX0_place_15 : decode cX0_place 15 = .ok (.iload_n 3, 1) := by decide +kernel
theorem dX0_place_16 : decode cX0_place 16 = .ok (.invokestatic 54, 3) := by decide +kernel
theorem dX0_place_19 : decode cX0_place 19 = .ok (.ifCond .ne 5, 3) := by decide +kernel
theorem dX0_place_22 : decode cX0_place 22 = .ok (.iconst (-1), 1) := by decide +kernel
theorem dX0_place_23 : decode cX0_place 23 = .ok (.ireturn, 1) := by decide +kernel
theorem dX0_place_24 : decode cX0_place 24 = .ok (.iload_n 2, 1) := by decide +kernel
theorem dX0_place_25 : decode cX0_place 25 = .ok (.bipush 64, 2) := by decide +kernel
theorem dX0_place_27 : decode cX0_place 27 = .ok (.if_icmp .le 7, 3) := by decide +kernel
theorem dX0_place_30 : decode cX0_place 30 = .ok (.iconst (-1), 1) := by decide +kernel
theorem dX0_place_31 : decode cX0_place 31 = .ok (.goto 9, 3) := by decide +kernel
theorem dX0_place_34 : decode cX0_place 34 = .ok (.aload_n 0, 1) := by decide +kernel
theorem dX0_place_35 : decode cX0_place 35 = .ok (.iload_n 1, 1) := by decide +kernel
theorem dX0_place_36 : decode cX0_place 36 = .ok (.iload_n 2, 1) := by decide +kernel
theorem dX0_place_37 : decode cX0_place 37 = .ok (.invokevirtual 65, 3) := by decide +kernel
theorem dX0_place_40 : decode cX0_place 40 = .ok (.istore 4, 2) := by decide +kernel
theorem dX0_place_42 : decode cX0_place 42 = .ok (.iload 4, 2) := by decide +kernel
theorem dX0_place_44 : decode cX0_place 44 = .ok (.ifCond .ge 17, 3) := by decide +kernel
theorem dX0_place_47 : decode cX0_place 47 = .ok (.iload_n 2, 1) := by decide +kernel
theorem dX0_place_48 : decode cX0_place 48 = .ok (.bipush 64, 2) := by decide +kernel
theorem dX0_place_50 : decode cX0_place 50 = .ok (.if_icmp .gt 11, 3) := by decide +kernel
theorem dX0_place_53 : decode cX0_place 53 = .ok (.aload_n 0, 1) := by decide +kernel
theorem dX0_place_54 : decode cX0_place 54 = .ok (.iconst 0, 1) := by decide +kernel
theorem dX0_place_55 : decode cX0_place 55 = .ok (.iload_n 2, 1) := by decide +kernel
theorem dX0_place_56 : decode cX0_place 56 = .ok (.invokevirtual 65, 3) := by decide +kernel
theorem dX0_place_59 : decode cX0_place 59 = .ok (.istore 4, 2) := by decide +kernel
theorem dX0_place_61 : decode cX0_place 61 = .ok (.iload 4, 2) := by decide +kernel
theorem dX0_place_63 : decode cX0_place 63 = .ok (.ifCond .ge 6, 3) := by decide +kernel
theorem dX0_place_66 : decode cX0_place 66 = .ok (.bipush (-3), 2) := by decide +kernel
theorem dX0_place_68 : decode cX0_place 68 = .ok (.ireturn, 1) := by decide +kernel
theorem dX0_place_69 : decode cX0_place 69 = .ok (.aload_n 0, 1) := by decide +kernel
theorem dX0_place_70 : decode cX0_place 70 = .ok (.iload 4, 2) := by decide +kernel
theorem dX0_place_72 : decode cX0_place 72 = .ok (.iload 4, 2) := by decide +kernel
theorem dX0_place_74 : decode cX0_place 74 = .ok (.iload_n 2, 1) := by decide +kernel
theorem dX0_place_75 : decode cX0_place 75 = .ok (.iadd, 1) := by decide +kernel
theorem dX0_place_76 : decode cX0_place 76 = .ok (.iload_n 3, 1) := by decide +kernel
theorem dX0_place_77 : decode cX0_place 77 = .ok (.invokevirtual 61, 3) := by decide +kernel
theorem dX0_place_80 : decode cX0_place 80 = .ok (.ifCond .eq 8, 3) := by decide +kernel
theorem dX0_place_83 : decode cX0_place 83 = .ok (.iload 4, 2) := by decide +kernel
theorem dX0_place_85 : decode cX0_place 85 = .ok (.goto 5, 3) := by decide +kernel
theorem dX0_place_88 : decode cX0_place 88 = .ok (.bipush (-2), 2) := by decide +kernel
theorem dX0_place_90 : decode cX0_place 90 = .ok (.ireturn, 1) := by decide +kernel
abbrev cX0_room : ByteArray := prog_1_method_12_code
def yX0_room : MethodName := ⟨RX0, "room", "(II)I"⟩
theorem dX0_room_0 : decode cX0_room 0 = .ok (.iload_n 1, 1) := by decide +kernel
theorem dX0_room_1 : decode cX0_room 1 = .ok (.istore_n 3, 1) := by decide +kernel
theorem dX0_room_2 : decode cX0_room 2 = .ok (.iconst 0, 1) := by decide +kernel
theorem dX0_room_3 : decode cX0_room 3 = .ok (.istore 4, 2) := by decide +kernel
theorem dX0_room_5 : decode cX0_room 5 = .ok (.iload 4, 2) := by decide +kernel
theorem dX0_room_7 : decode cX0_room 7 = .ok (.aload_n 0, 1) := by decide +kernel
theorem dX0_room_8 : decode cX0_room 8 = .ok (.getfield 32, 3) := by decide +kernel
theorem dX0_room_11 : decode cX0_room 11 = .ok (.if_icmp .ge 43, 3) := by decide +kernel
theorem dX0_room_14 : decode cX0_room 14 = .ok (.aload_n 0, 1) := by decide +kernel
theorem dX0_room_15 : decode cX0_room 15 = .ok (.getfield 13, 3) := by decide +kernel
theorem dX0_room_18 : decode cX0_room 18 = .ok (.iload 4, 2) := by decide +kernel
theorem dX0_room_20 : decode cX0_room 20 = .ok (.baload, 1) := by decide +kernel
theorem dX0_room_21 : decode cX0_room 21 = .ok (.iload_n 3, 1) := by decide +kernel
theorem dX0_room_22 : decode cX0_room 22 = .ok (.if_icmp .le 26, 3) := by decide +kernel
theorem dX0_room_25 : decode cX0_room 25 = .ok (.aload_n 0, 1) := by decide +kernel
theorem dX0_room_26 : decode cX0_room 26 = .ok (.getfield 7, 3) := by decide +kernel
theorem dX0_room_29 : decode cX0_room 29 = .ok (.iload 4, 2) := by decide +kernel
theorem dX0_room_31 : decode cX0_room 31 = .ok (.baload, 1) := by decide +kernel
theorem dX0_room_32 : decode cX0_room 32 = .ok (.iload_n 3, 1) := by decide +kernel
theorem dX0_room_33 : decode cX0_room 33 = .ok (.isub, 1) := by decide +kernel
theorem dX0_room_34 : decode cX0_room 34 = .ok (.iload_n 2, 1) := by decide +kernel
theorem dX0_room_35 : decode cX0_room 35 = .ok (.if_icmp .lt 5, 3) := by decide +kernel
theorem dX0_room_38 : decode cX0_room 38 = .ok (.iload_n 3, 1) := by decide +kernel
theorem dX0_room_39 : decode cX0_room 39 = .ok (.ireturn, 1) := by decide +kernel
theorem dX0_room_40 : decode cX0_room 40 = .ok (.aload_n 0, 1) := by decide +kernel
theorem dX0_room_41 : decode cX0_room 41 = .ok (.getfield 13, 3) := by decide +kernel
theorem dX0_room_44 : decode cX0_room 44 = .ok (.iload 4, 2) := by decide +kernel
theorem dX0_room_46 : decode cX0_room 46 = .ok (.baload, 1) := by decide +kernel
theorem dX0_room_47 : decode cX0_room 47 = .ok (.istore_n 3, 1) := by decide +kernel
theorem dX0_room_48 : decode cX0_room 48 = .ok (.iinc 4 1, 3) := by decide +kernel
theorem dX0_room_51 : decode cX0_room 51 = .ok (.goto (-46), 3) := by decide +kernel
theorem dX0_room_54 : decode cX0_room 54 = .ok (.bipush 64, 2) := by decide +kernel
theorem dX0_room_56 : decode cX0_room 56 = .ok (.iload_n 3, 1) := by decide +kernel
theorem dX0_room_57 : decode cX0_room 57 = .ok (.isub, 1) := by decide +kernel
theorem dX0_room_58 : decode cX0_room 58 = .ok (.iload_n 2, 1) := by decide +kernel
theorem dX0_room_59 : decode cX0_room 59 = .ok (.if_icmp .lt 7, 3) := by decide +kernel
theorem dX0_room_62 : decode cX0_room 62 = .ok (.iload_n 3, 1) := by decide +kernel
theorem dX0_room_63 : decode cX0_room 63 = .ok (.goto 4, 3) := by decide +kernel
theorem dX0_room_66 : decode cX0_room 66 = .ok (.iconst (-1), 1) := by decide +kernel
theorem dX0_room_67 : decode cX0_room 67 = .ok (.ireturn, 1) := by decide +kernel
abbrev cX0_free : ByteArray := prog_1_method_13_code
def yX0_free : MethodName := ⟨RX0, "free", "(II)I"⟩
theorem dX0_free_0 : decode cX0_free 0 = .ok (.iload_n 1, 1) := by decide +kernel
theorem dX0_free_1 : decode cX0_free 1 = .ok (.iload_n 2, 1) := by decide +kernel
theorem dX0_free_2 : decode cX0_free 2 = .ok (.invokestatic 50, 3) := by decide +kernel
theorem dX0_free_5 : decode cX0_free 5 = .ok (.ifCond .ne 5, 3) := by decide +kernel
theorem dX0_free_8 : decode cX0_free 8 = .ok (.iconst (-1), 1) := by decide +kernel
theorem dX0_free_9 : decode cX0_free 9 = .ok (.ireturn, 1) := by decide +kernel
theorem dX0_free_10 : decode cX0_free 10 = .ok (.aload_n 0, 1) := by decide +kernel
theorem dX0_free_11 : decode cX0_free 11 = .ok (.iload_n 1, 1) := by decide +kernel
theorem dX0_free_12 : decode cX0_free 12 = .ok (.iload_n 1, 1) := by decide +kernel
theorem dX0_free_13 : decode cX0_free 13 = .ok (.iload_n 2, 1) := by decide +kernel
theorem dX0_free_14 : decode cX0_free 14 = .ok (.iadd, 1) := by decide +kernel
theorem dX0_free_15 : decode cX0_free 15 = .ok (.invokevirtual 58, 3) := by decide +kernel
theorem dX0_free_18 : decode cX0_free 18 = .ok (.istore_n 3, 1) := by decide +kernel
theorem dX0_free_19 : decode cX0_free 19 = .ok (.aload_n 0, 1) := by decide +kernel
theorem dX0_free_20 : decode cX0_free 20 = .ok (.iload_n 1, 1) := by decide +kernel
theorem dX0_free_21 : decode cX0_free 21 = .ok (.iload_n 1, 1) := by decide +kernel
theorem dX0_free_22 : decode cX0_free 22 = .ok (.iload_n 2, 1) := by decide +kernel
theorem dX0_free_23 : decode cX0_free 23 = .ok (.iadd, 1) := by decide +kernel
theorem dX0_free_24 : decode cX0_free 24 = .ok (.iconst (-1), 1) := by decide +kernel
theorem dX0_free_25 : decode cX0_free 25 = .ok (.invokevirtual 61, 3) := by decide +kernel
theorem dX0_free_28 : decode cX0_free 28 = .ok (.ifCond .eq 7, 3) := by decide +kernel
theorem dX0_free_31 : decode cX0_free 31 = .ok (.iload_n 3, 1) := by decide +kernel
theorem dX0_free_32 : decode cX0_free 32 = .ok (.goto 5, 3) := by decide +kernel
theorem dX0_free_35 : decode cX0_free 35 = .ok (.bipush (-2), 2) := by decide +kernel
theorem dX0_free_37 : decode cX0_free 37 = .ok (.ireturn, 1) := by decide +kernel
abbrev cX0_protect : ByteArray := prog_1_method_14_code
def yX0_protect : MethodName := ⟨RX0, "protect", "(III)I"⟩
theorem dX0_protect_0 : decode cX0_protect 0 = .ok (.iload_n 1, 1) := by decide +kernel
theorem dX0_protect_1 : decode cX0_protect 1 = .ok (.iload_n 2, 1) := by decide +kernel
theorem dX0_protect_2 : decode cX0_protect 2 = .ok (.invokestatic 50, 3) := by decide +kernel
theorem dX0_protect_5 : decode cX0_protect 5 = .ok (.ifCond .eq 13, 3) := by decide +kernel
theorem dX0_protect_8 : decode cX0_protect 8 = .ok (.iload_n 3, 1) := by decide +kernel
theorem dX0_protect_9 : decode cX0_protect 9 = .ok (.ifCond .lt 9, 3) := by decide +kernel
theorem dX0_protect_12 : decode cX0_protect 12 = .ok (.iload_n 3, 1) := by decide +kernel
theorem dX0_protect_13 : decode cX0_protect 13 = .ok (.bipush 7, 2) := by decide +kernel
theorem dX0_protect_15 : decode cX0_protect 15 = .ok (.if_icmp .le 5, 3) := by decide +kernel
theorem dX0_protect_18 : decode cX0_protect 18 = .ok (.iconst (-1), 1) := by decide +kernel
theorem dX0_protect_19 : decode cX0_protect 19 = .ok (.ireturn, 1) := by decide +kernel
theorem dX0_protect_20 : decode cX0_protect 20 = .ok (.iload_n 1, 1) := by decide +kernel
theorem dX0_protect_21 : decode cX0_protect 21 = .ok (.iload_n 2, 1) := by decide +kernel
theorem dX0_protect_22 : decode cX0_protect 22 = .ok (.iadd, 1) := by decide +kernel
theorem dX0_protect_23 : decode cX0_protect 23 = .ok (.istore 4, 2) := by decide +kernel
theorem dX0_protect_25 : decode cX0_protect 25 = .ok (.aload_n 0, 1) := by decide +kernel
theorem dX0_protect_26 : decode cX0_protect 26 = .ok (.iload_n 1, 1) := by decide +kernel
theorem dX0_protect_27 : decode cX0_protect 27 = .ok (.iload 4, 2) := by decide +kernel
theorem dX0_protect_29 : decode cX0_protect 29 = .ok (.invokevirtual 58, 3) := by decide +kernel
theorem dX0_protect_32 : decode cX0_protect 32 = .ok (.iload_n 2, 1) := by decide +kernel
theorem dX0_protect_33 : decode cX0_protect 33 = .ok (.if_icmp .ge 6, 3) := by decide +kernel
theorem dX0_protect_36 : decode cX0_protect 36 = .ok (.bipush (-3), 2) := by decide +kernel
theorem dX0_protect_38 : decode cX0_protect 38 = .ok (.ireturn, 1) := by decide +kernel
theorem dX0_protect_39 : decode cX0_protect 39 = .ok (.aload_n 0, 1) := by decide +kernel
theorem dX0_protect_40 : decode cX0_protect 40 = .ok (.iconst 0, 1) := by decide +kernel
theorem dX0_protect_41 : decode cX0_protect 41 = .ok (.putfield 28, 3) := by decide +kernel
theorem dX0_protect_44 : decode cX0_protect 44 = .ok (.iconst 0, 1) := by decide +kernel
theorem dX0_protect_45 : decode cX0_protect 45 = .ok (.istore 5, 2) := by decide +kernel
theorem dX0_protect_47 : decode cX0_protect 47 = .ok (.iconst 0, 1) := by decide +kernel
theorem dX0_protect_48 : decode cX0_protect 48 = .ok (.istore 6, 2) := by decide +kernel
theorem dX0_protect_50 : decode cX0_protect 50 = .ok (.iload 6, 2) := by decide +kernel
theorem dX0_protect_52 : decode cX0_protect 52 = .ok (.aload_n 0, 1) := by decide +kernel
theorem dX0_protect_53 : decode cX0_protect 53 = .ok (.getfield 32, 3) := by decide +kernel
theorem dX0_protect_56 : decode cX0_protect 56 = .ok (.if_icmp .ge 147, 3) := by decide +kernel
theorem dX0_protect_59 : decode cX0_protect 59 = .ok (.aload_n 0, 1) := by decide +kernel
theorem dX0_protect_60 : decode cX0_protect 60 = .ok (.getfield 7, 3) := by decide +kernel
theorem dX0_protect_63 : decode cX0_protect 63 = .ok (.iload 6, 2) := by decide +kernel
theorem dX0_protect_65 : decode cX0_protect 65 = .ok (.baload, 1) := by decide +kernel
theorem dX0_protect_66 : decode cX0_protect 66 = .ok (.iload_n 1, 1) := by decide +kernel
theorem dX0_protect_67 : decode cX0_protect 67 = .ok (.invokestatic 43, 3) := by decide +kernel
theorem dX0_protect_70 : decode cX0_protect 70 = .ok (.istore 7, 2) := by decide +kernel
theorem dX0_protect_72 : decode cX0_protect 72 = .ok (.aload_n 0, 1) := by decide +kernel
theorem dX0_protect_73 : decode cX0_protect 73 = .ok (.getfield 13, 3) := by decide +kernel
theorem dX0_protect_76 : decode cX0_protect 76 = .ok (.iload 6, 2) := by decide +kernel
theorem dX0_protect_78 : decode cX0_protect 78 = .ok (.baload, 1) := by decide +kernel
theorem dX0_protect_79 : decode cX0_protect 79 = .ok (.iload 4, 2) := by decide +kernel
theorem dX0_protect_81 : decode cX0_protect 81 = .ok (.invokestatic 35, 3) := by decide +kernel
theorem dX0_protect_84 : decode cX0_protect 84 = .ok (.istore 8, 2) := by decide +kernel
theorem dX0_protect_86 : decode cX0_protect 86 = .ok (.aload_n 0, 1) := by decide +kernel
theorem dX0_protect_87 : decode cX0_protect 87 = .ok (.getfield 16, 3) := by decide +kernel
theorem dX0_protect_90 : decode cX0_protect 90 = .ok (.iload 6, 2) := by decide +kernel
theorem dX0_protect_92 : decode cX0_protect 92 = .ok (.baload, 1) := by decide +kernel
theorem dX0_protect_93 : decode cX0_protect 93 = .ok (.istore 9, 2) := by decide +kernel
theorem dX0_protect_95 : decode cX0_protect 95 = .ok (.aload_n 0, 1) := by decide +kernel
theorem dX0_protect_96 : decode cX0_protect 96 = .ok (.getfield 13, 3) := by decide +kernel
theorem dX0_protect_99 : decode cX0_protect 99 = .ok (.iload 6, 2) := by decide +kernel
theorem dX0_protect_101 : decode cX0_protect 101 = .ok (.baload, 1) := by decide +kernel
theorem dX0_protect_102 : decode cX0_protect 102 = .ok (.iload_n 1, 1) := by decide +kernel
theorem dX0_protect_103 : decode cX0_protect 103 = .ok (.invokestatic 35, 3) := by decide +kernel
theorem dX0_protect_106 : decode cX0_protect 106 = .ok (.istore 10, 2) := by decide +kernel
theorem dX0_protect_108 : decode cX0_protect 108 = .ok (.aload_n 0, 1) := by decide +kernel
theorem dX0_protect_109 : decode cX0_protect 109 = .ok (.aload_n 0, 1) := by decide +kernel
theorem dX0_protect_110 : decode cX0_protect 110 = .ok (.getfield 7, 3) := by decide +kernel
theorem dX0_protect_113 : decode cX0_protect 113 = .ok (.iload 6, 2) := by decide +kernel
theorem dX0_protect_115 : decode cX0_protect 115 = .ok (.baload, 1) := by decide +kernel
theorem dX0_protect_116 : decode cX0_protect 116 = .ok (.iload 10, 2) := by decide +kernel
theorem dX0_protect_118 : decode cX0_protect 118 = .ok (.iload 9, 2) := by decide +kernel
theorem dX0_protect_120 : decode cX0_protect 120 = .ok (.invokevirtual 39, 3) := by decide +kernel
theorem dX0_protect_123 : decode cX0_protect 123 = .ok (.iload 8, 2) := by decide +kernel
theorem dX0_protect_125 : decode cX0_protect 125 = .ok (.iload 7, 2) := by decide +kernel
theorem dX0_protect_127 : decode cX0_protect 127 = .ok (.if_icmp .le 41, 3) := by decide +kernel
theorem dX0_protect_130 : decode cX0_protect 130 = .ok (.iload 5, 2) := by decide +kernel
theorem dX0_protect_132 : decode cX0_protect 132 = .ok (.iload 9, 2) := by decide +kernel
theorem dX0_protect_134 : decode cX0_protect 134 = .ok (.bipush 7, 2) := by decide +kernel
theorem dX0_protect_136 : decode cX0_protect 136 = .ok (.iand, 1) := by decide +kernel
theorem dX0_protect_137 : decode cX0_protect 137 = .ok (.iload_n 3, 1) := by decide +kernel
theorem dX0_protect_138 : decode cX0_protect 138 = .ok (.if_icmp .eq 11, 3) := by decide +kernel
theorem dX0_protect_141 : decode cX0_protect 141 = .ok (.iload 8, 2) := by decide +kernel
theorem dX0_protect_143 : decode cX0_protect 143 = .ok (.iload 7, 2) := by decide +kernel
theorem dX0_protect_145 : decode cX0_protect 145 = .ok (.isub, 1) := by decide +kernel
theorem dX0_protect_146 : decode cX0_protect 146 = .ok (.goto 4, 3) := by decide +kernel
theorem dX0_protect_149 : decode cX0_protect 149 = .ok (.iconst 0, 1) := by decide +kernel
theorem dX0_protect_150 : decode cX0_protect 150 = .ok (.iadd, 1) := by decide +kernel
theorem dX0_protect_151 : decode cX0_protect 151 = .ok (.istore 5, 2) := by decide +kernel
theorem dX0_protect_153 : decode cX0_protect 153 = .ok (.aload_n 0, 1) := by decide +kernel
theorem dX0_protect_154 : decode cX0_protect 154 = .ok (.iload 7, 2) := by decide +kernel
theorem dX0_protect_156 : decode cX0_protect 156 = .ok (.iload 8, 2) := by decide +kernel
theorem dX0_protect_158 : decode cX0_protect 158 = .ok (.iload 9, 2) := by decide +kernel
theorem dX0_protect_160 : decode cX0_protect 160 = .ok (.bipush (-8), 2) := by decide +kernel
theorem dX0_protect_162 : decode cX0_protect 162 = .ok (.iand, 1) := by decide +kernel
theorem dX0_protect_163 : decode cX0_protect 163 = .ok (.iload_n 3, 1) := by decide +kernel
theorem dX0_protect_164 : decode cX0_protect 164 = .ok (.ior, 1) := by decide +kernel
theorem dX0_protect_165 : decode cX0_protect 165 = .ok (.invokevirtual 39, 3) := by decide +kernel
theorem dX0_protect_168 : decode cX0_protect 168 = .ok (.aload_n 0, 1) := by decide +kernel
theorem dX0_protect_169 : decode cX0_protect 169 = .ok (.getfield 7, 3) := by decide +kernel
theorem dX0_protect_172 : decode cX0_protect 172 = .ok (.iload 6, 2) := by decide +kernel
theorem dX0_protect_174 : decode cX0_protect 174 = .ok (.baload, 1) := by decide +kernel
theorem dX0_protect_175 : decode cX0_protect 175 = .ok (.iload 4, 2) := by decide +kernel
theorem dX0_protect_177 : decode cX0_protect 177 = .ok (.invokestatic 43, 3) := by decide +kernel
theorem dX0_protect_180 : decode cX0_protect 180 = .ok (.istore 11, 2) := by decide +kernel
theorem dX0_protect_182 : decode cX0_protect 182 = .ok (.aload_n 0, 1) := by decide +kernel
theorem dX0_protect_183 : decode cX0_protect 183 = .ok (.iload 11, 2) := by decide +kernel
theorem dX0_protect_185 : decode cX0_protect 185 = .ok (.aload_n 0, 1) := by decide +kernel
theorem dX0_protect_186 : decode cX0_protect 186 = .ok (.getfield 13, 3) := by decide +kernel
theorem dX0_protect_189 : decode cX0_protect 189 = .ok (.iload 6, 2) := by decide +kernel
theorem dX0_protect_191 : decode cX0_protect 191 = .ok (.baload, 1) := by decide +kernel
theorem dX0_protect_192 : decode cX0_protect 192 = .ok (.iload 9, 2) := by decide +kernel
theorem dX0_protect_194 : decode cX0_protect 194 = .ok (.invokevirtual 39, 3) := by decide +kernel
theorem dX0_protect_197 : decode cX0_protect 197 = .ok (.iinc 6 1, 3) := by decide +kernel
theorem dX0_protect_200 : decode cX0_protect 200 = .ok (.goto (-150), 3) := by decide +kernel
theorem dX0_protect_203 : decode cX0_protect 203 = .ok (.aload_n 0, 1) := by decide +kernel
theorem dX0_protect_204 : decode cX0_protect 204 = .ok (.invokevirtual 46, 3) := by decide +kernel
theorem dX0_protect_207 : decode cX0_protect 207 = .ok (.ifCond .eq 8, 3) := by decide +kernel
theorem dX0_protect_210 : decode cX0_protect 210 = .ok (.iload 5, 2) := by decide +kernel
theorem dX0_protect_212 : decode cX0_protect 212 = .ok (.goto 5, 3) := by decide +kernel
theorem dX0_protect_215 : decode cX0_protect 215 = .ok (.bipush (-2), 2) := by decide +kernel
theorem dX0_protect_217 : decode cX0_protect 217 = .ok (.ireturn, 1) := by decide +kernel
abbrev cX0_rights : ByteArray := prog_1_method_15_code
def yX0_rights : MethodName := ⟨RX0, "rights", "(I)I"⟩
theorem dX0_rights_0 : decode cX0_rights 0 = .ok (.iload_n 1, 1) := by decide +kernel
theorem dX0_rights_1 : decode cX0_rights 1 = .ok (.invokestatic 68, 3) := by decide +kernel
theorem dX0_rights_4 : decode cX0_rights 4 = .ok (.ifCond .ne 5, 3) := by decide +kernel
theorem dX0_rights_7 : decode cX0_rights 7 = .ok (.iconst (-1), 1) := by decide +kernel
theorem dX0_rights_8 : decode cX0_rights 8 = .ok (.ireturn, 1) := by decide +kernel
theorem dX0_rights_9 : decode cX0_rights 9 = .ok (.aload_n 0, 1) := by decide +kernel
theorem dX0_rights_10 : decode cX0_rights 10 = .ok (.iload_n 1, 1) := by decide +kernel
theorem dX0_rights_11 : decode cX0_rights 11 = .ok (.invokevirtual 71, 3) := by decide +kernel
theorem dX0_rights_14 : decode cX0_rights 14 = .ok (.istore_n 2, 1) := by decide +kernel
theorem dX0_rights_15 : decode cX0_rights 15 = .ok (.iload_n 2, 1) := by decide +kernel
theorem dX0_rights_16 : decode cX0_rights 16 = .ok (.ifCond .ge 8, 3) := by decide +kernel
theorem dX0_rights_19 : decode cX0_rights 19 = .ok (.bipush (-3), 2) := by decide +kernel
theorem dX0_rights_21 : decode cX0_rights 21 = .ok (.goto 12, 3) := by decide +kernel
theorem dX0_rights_24 : decode cX0_rights 24 = .ok (.aload_n 0, 1) := by decide +kernel
theorem dX0_rights_25 : decode cX0_rights 25 = .ok (.getfield 16, 3) := by decide +kernel
theorem dX0_rights_28 : decode cX0_rights 28 = .ok (.iload_n 2, 1) := by decide +kernel
theorem dX0_rights_29 : decode cX0_rights 29 = .ok (.baload, 1) := by decide +kernel
theorem dX0_rights_30 : decode cX0_rights 30 = .ok (.bipush 7, 2) := by decide +kernel
theorem dX0_rights_32 : decode cX0_rights 32 = .ok (.iand, 1) := by decide +kernel
theorem dX0_rights_33 : decode cX0_rights 33 = .ok (.ireturn, 1) := by decide +kernel
abbrev cX0_isPage : ByteArray := prog_1_method_17_code
def yX0_isPage : MethodName := ⟨RX0, "isPage", "(I)Z"⟩
theorem dX0_isPage_0 : decode cX0_isPage 0 = .ok (.iload_n 0, 1) := by decide +kernel
theorem dX0_isPage_1 : decode cX0_isPage 1 = .ok (.ifCond .lt 13, 3) := by decide +kernel
theorem dX0_isPage_4 : decode cX0_isPage 4 = .ok (.iload_n 0, 1) := by decide +kernel
theorem dX0_isPage_5 : decode cX0_isPage 5 = .ok (.bipush 64, 2) := by decide +kernel
theorem dX0_isPage_7 : decode cX0_isPage 7 = .ok (.if_icmp .ge 7, 3) := by decide +kernel
theorem dX0_isPage_10 : decode cX0_isPage 10 = .ok (.iconst 1, 1) := by decide +kernel
theorem dX0_isPage_11 : decode cX0_isPage 11 = .ok (.goto 4, 3) := by decide +kernel
theorem dX0_isPage_14 : decode cX0_isPage 14 = .ok (.iconst 0, 1) := by decide +kernel
theorem dX0_isPage_15 : decode cX0_isPage 15 = .ok (.ireturn, 1) := by decide +kernel
abbrev cX0_find : ByteArray := prog_1_method_16_code
def yX0_find : MethodName := ⟨RX0, "find", "(I)I"⟩
theorem dX0_find_0 : decode cX0_find 0 = .ok (.iconst 0, 1) := by decide +kernel
theorem dX0_find_1 : decode cX0_find 1 = .ok (.istore_n 2, 1) := by decide +kernel
theorem dX0_find_2 : decode cX0_find 2 = .ok (.aload_n 0, 1) := by decide +kernel
theorem dX0_find_3 : decode cX0_find 3 = .ok (.getfield 32, 3) := by decide +kernel
theorem dX0_find_6 : decode cX0_find 6 = .ok (.iconst 1, 1) := by decide +kernel
theorem dX0_find_7 : decode cX0_find 7 = .ok (.isub, 1) := by decide +kernel
theorem dX0_find_8 : decode cX0_find 8 = .ok (.istore_n 3, 1) := by decide +kernel
theorem dX0_find_9 : decode cX0_find 9 = .ok (.iconst 0, 1) := by decide +kernel
theorem dX0_find_10 : decode cX0_find 10 = .ok (.istore 4, 2) := by decide +kernel
theorem dX0_find_12 : decode cX0_find 12 = .ok (.iload 4, 2) := by decide +kernel
theorem dX0_find_14 : decode cX0_find 14 = .ok (.bipush 6, 2) := by decide +kernel
theorem dX0_find_16 : decode cX0_find 16 = .ok (.if_icmp .ge 62, 3) := by decide +kernel
theorem dX0_find_19 : decode cX0_find 19 = .ok (.iload_n 2, 1) := by decide +kernel
theorem dX0_find_20 : decode cX0_find 20 = .ok (.iload_n 3, 1) := by decide +kernel
theorem dX0_find_21 : decode cX0_find 21 = .ok (.if_icmp .gt 57, 3) := by decide +kernel
theorem dX0_find_24 : decode cX0_find 24 = .ok (.iload_n 2, 1) := by decide +kernel
theorem dX0_find_25 : decode cX0_find 25 = .ok (.iload_n 3, 1) := by decide +kernel
theorem dX0_find_26 : decode cX0_find 26 = .ok (.iadd, 1) := by decide +kernel
theorem dX0_find_27 : decode cX0_find 27 = .ok (.iconst 1, 1) := by decide +kernel
theorem dX0_find_28 : decode cX0_find 28 = .ok (.ishr, 1) := by decide +kernel
theorem dX0_find_29 : decode cX0_find 29 = .ok (.istore 5, 2) := by decide +kernel
theorem dX0_find_31 : decode cX0_find 31 = .ok (.aload_n 0, 1) := by decide +kernel
theorem dX0_find_32 : decode cX0_find 32 = .ok (.getfield 13, 3) := by decide +kernel
theorem dX0_find_35 : decode cX0_find 35 = .ok (.iload 5, 2) := by decide +kernel
theorem dX0_find_37 : decode cX0_find 37 = .ok (.baload, 1) := by decide +kernel
theorem dX0_find_38 : decode cX0_find 38 = .ok (.iload_n 1, 1) := by decide +kernel
theorem dX0_find_39 : decode cX0_find 39 = .ok (.if_icmp .gt 11, 3) := by decide +kernel
theorem dX0_find_42 : decode cX0_find 42 = .ok (.iload 5, 2) := by decide +kernel
theorem dX0_find_44 : decode cX0_find 44 = .ok (.iconst 1, 1) := by decide +kernel
theorem dX0_find_45 : decode cX0_find 45 = .ok (.iadd, 1) := by decide +kernel
theorem dX0_find_46 : decode cX0_find 46 = .ok (.istore_n 2, 1) := by decide +kernel
theorem dX0_find_47 : decode cX0_find 47 = .ok (.goto 25, 3) := by decide +kernel
theorem dX0_find_50 : decode cX0_find 50 = .ok (.aload_n 0, 1) := by decide +kernel
theorem dX0_find_51 : decode cX0_find 51 = .ok (.getfield 7, 3) := by decide +kernel
theorem dX0_find_54 : decode cX0_find 54 = .ok (.iload 5, 2) := by decide +kernel
theorem dX0_find_56 : decode cX0_find 56 = .ok (.baload, 1) := by decide +kernel
theorem dX0_find_57 : decode cX0_find 57 = .ok (.iload_n 1, 1) := by decide +kernel
theorem dX0_find_58 : decode cX0_find 58 = .ok (.if_icmp .le 11, 3) := by decide +kernel
theorem dX0_find_61 : decode cX0_find 61 = .ok (.iload 5, 2) := by decide +kernel
theorem dX0_find_63 : decode cX0_find 63 = .ok (.iconst 1, 1) := by decide +kernel
theorem dX0_find_64 : decode cX0_find 64 = .ok (.isub, 1) := by decide +kernel
theorem dX0_find_65 : decode cX0_find 65 = .ok (.istore_n 3, 1) := by decide +kernel
theorem dX0_find_66 : decode cX0_find 66 = .ok (.goto 6, 3) := by decide +kernel
theorem dX0_find_69 : decode cX0_find 69 = .ok (.iload 5, 2) := by decide +kernel
theorem dX0_find_71 : decode cX0_find 71 = .ok (.ireturn, 1) := by decide +kernel
theorem dX0_find_72 : decode cX0_find 72 = .ok (.iinc 4 1, 3) := by decide +kernel
theorem dX0_find_75 : decode cX0_find 75 = .ok (.goto (-63), 3) := by decide +kernel
theorem dX0_find_78 : decode cX0_find 78 = .ok (.iconst (-1), 1) := by decide +kernel
theorem dX0_find_79 : decode cX0_find 79 = .ok (.ireturn, 1) := by decide +kernel
abbrev cX0_tag : ByteArray := prog_1_method_18_code
def yX0_tag : MethodName := ⟨RX0, "tag", "(I)I"⟩
theorem dX0_tag_0 : decode cX0_tag 0 = .ok (.iload_n 1, 1) := by decide +kernel
theorem dX0_tag_1 : decode cX0_tag 1 = .ok (.invokestatic 68, 3) := by decide +kernel
theorem dX0_tag_4 : decode cX0_tag 4 = .ok (.ifCond .ne 5, 3) := by decide +kernel
theorem dX0_tag_7 : decode cX0_tag 7 = .ok (.iconst (-1), 1) := by decide +kernel
theorem dX0_tag_8 : decode cX0_tag 8 = .ok (.ireturn, 1) := by decide +kernel
theorem dX0_tag_9 : decode cX0_tag 9 = .ok (.aload_n 0, 1) := by decide +kernel
theorem dX0_tag_10 : decode cX0_tag 10 = .ok (.iload_n 1, 1) := by decide +kernel
theorem dX0_tag_11 : decode cX0_tag 11 = .ok (.invokevirtual 71, 3) := by decide +kernel
theorem dX0_tag_14 : decode cX0_tag 14 = .ok (.istore_n 2, 1) := by decide +kernel
theorem dX0_tag_15 : decode cX0_tag 15 = .ok (.iload_n 2, 1) := by decide +kernel
theorem dX0_tag_16 : decode cX0_tag 16 = .ok (.ifCond .ge 8, 3) := by decide +kernel
theorem dX0_tag_19 : decode cX0_tag 19 = .ok (.bipush (-3), 2) := by decide +kernel
theorem dX0_tag_21 : decode cX0_tag 21 = .ok (.goto 11, 3) := by decide +kernel
theorem dX0_tag_24 : decode cX0_tag 24 = .ok (.aload_n 0, 1) := by decide +kernel
theorem dX0_tag_25 : decode cX0_tag 25 = .ok (.getfield 16, 3) := by decide +kernel
theorem dX0_tag_28 : decode cX0_tag 28 = .ok (.iload_n 2, 1) := by decide +kernel
theorem dX0_tag_29 : decode cX0_tag 29 = .ok (.baload, 1) := by decide +kernel
theorem dX0_tag_30 : decode cX0_tag 30 = .ok (.iconst 3, 1) := by decide +kernel
theorem dX0_tag_31 : decode cX0_tag 31 = .ok (.ishr, 1) := by decide +kernel
theorem dX0_tag_32 : decode cX0_tag 32 = .ok (.ireturn, 1) := by decide +kernel
abbrev cX0_areas : ByteArray := prog_1_method_19_code
def yX0_areas : MethodName := ⟨RX0, "areas", "()I"⟩
theorem dX0_areas_0 : decode cX0_areas 0 = .ok (.aload_n 0, 1) := by decide +kernel
theorem dX0_areas_1 : decode cX0_areas 1 = .ok (.getfield 32, 3) := by decide +kernel
theorem dX0_areas_4 : decode cX0_areas 4 = .ok (.ireturn, 1) := by decide +kernel
abbrev cX0_areaFirst : ByteArray := prog_1_method_20_code
def yX0_areaFirst : MethodName := ⟨RX0, "areaFirst", "(I)I"⟩
theorem dX0_areaFirst_0 : decode cX0_areaFirst 0 = .ok (.aload_n 0, 1) := by decide +kernel
theorem dX0_areaFirst_1 : decode cX0_areaFirst 1 = .ok (.iload_n 1, 1) := by decide +kernel
theorem dX0_areaFirst_2 : decode cX0_areaFirst 2 = .ok (.invokevirtual 75, 3) := by decide +kernel
theorem dX0_areaFirst_5 : decode cX0_areaFirst 5 = .ok (.ifCond .eq 12, 3) := by decide +kernel
theorem dX0_areaFirst_8 : decode cX0_areaFirst 8 = .ok (.aload_n 0, 1) := by decide +kernel
theorem dX0_areaFirst_9 : decode cX0_areaFirst 9 = .ok (.getfield 7, 3) := by decide +kernel
theorem dX0_areaFirst_12 : decode cX0_areaFirst 12 = .ok (.iload_n 1, 1) := by decide +kernel
theorem dX0_areaFirst_13 : decode cX0_areaFirst 13 = .ok (.baload, 1) := by decide +kernel
theorem dX0_areaFirst_14 : decode cX0_areaFirst 14 = .ok (.goto 5, 3) := by decide +kernel
theorem dX0_areaFirst_17 : decode cX0_areaFirst 17 = .ok (.bipush (-3), 2) := by decide +kernel
theorem dX0_areaFirst_19 : decode cX0_areaFirst 19 = .ok (.ireturn, 1) := by decide +kernel
abbrev cX0_isArea : ByteArray := prog_1_method_21_code
def yX0_isArea : MethodName := ⟨RX0, "isArea", "(I)Z"⟩
theorem dX0_isArea_0 : decode cX0_isArea 0 = .ok (.iload_n 1, 1) := by decide +kernel
theorem dX0_isArea_1 : decode cX0_isArea 1 = .ok (.ifCond .lt 15, 3) := by decide +kernel
theorem dX0_isArea_4 : decode cX0_isArea 4 = .ok (.iload_n 1, 1) := by decide +kernel
theorem dX0_isArea_5 : decode cX0_isArea 5 = .ok (.aload_n 0, 1) := by decide +kernel
theorem dX0_isArea_6 : decode cX0_isArea 6 = .ok (.getfield 32, 3) := by decide +kernel
theorem dX0_isArea_9 : decode cX0_isArea 9 = .ok (.if_icmp .ge 7, 3) := by decide +kernel
theorem dX0_isArea_12 : decode cX0_isArea 12 = .ok (.iconst 1, 1) := by decide +kernel
theorem dX0_isArea_13 : decode cX0_isArea 13 = .ok (.goto 4, 3) := by decide +kernel
theorem dX0_isArea_16 : decode cX0_isArea 16 = .ok (.iconst 0, 1) := by decide +kernel
theorem dX0_isArea_17 : decode cX0_isArea 17 = .ok (.ireturn, 1) := by decide +kernel
abbrev cX0_areaLength : ByteArray := prog_1_method_22_code
def yX0_areaLength : MethodName := ⟨RX0, "areaLength", "(I)I"⟩
theorem dX0_areaLength_0 : decode cX0_areaLength 0 = .ok (.aload_n 0, 1) := by decide +kernel
theorem dX0_areaLength_1 : decode cX0_areaLength 1 = .ok (.iload_n 1, 1) := by decide +kernel
theorem dX0_areaLength_2 : decode cX0_areaLength 2 = .ok (.invokevirtual 75, 3) := by decide +kernel
theorem dX0_areaLength_5 : decode cX0_areaLength 5 = .ok (.ifCond .eq 19, 3) := by decide +kernel
theorem dX0_areaLength_8 : decode cX0_areaLength 8 = .ok (.aload_n 0, 1) := by decide +kernel
theorem dX0_areaLength_9 : decode cX0_areaLength 9 = .ok (.getfield 13, 3) := by decide +kernel
theorem dX0_areaLength_12 : decode cX0_areaLength 12 = .ok (.iload_n 1, 1) := by decide +kernel
theorem dX0_areaLength_13 : decode cX0_areaLength 13 = .ok (.baload, 1) := by decide +kernel
theorem dX0_areaLength_14 : decode cX0_areaLength 14 = .ok (.aload_n 0, 1) := by decide +kernel
theorem dX0_areaLength_15 : decode cX0_areaLength 15 = .ok (.getfield 7, 3) := by decide +kernel
theorem dX0_areaLength_18 : decode cX0_areaLength 18 = .ok (.iload_n 1, 1) := by decide +kernel
theorem dX0_areaLength_19 : decode cX0_areaLength 19 = .ok (.baload, 1) := by decide +kernel
theorem dX0_areaLength_20 : decode cX0_areaLength 20 = .ok (.isub, 1) := by decide +kernel
theorem dX0_areaLength_21 : decode cX0_areaLength 21 = .ok (.goto 5, 3) := by decide +kernel
theorem dX0_areaLength_24 : decode cX0_areaLength 24 = .ok (.bipush (-3), 2) := by decide +kernel
theorem dX0_areaLength_26 : decode cX0_areaLength 26 = .ok (.ireturn, 1) := by decide +kernel
abbrev cX0_areaOf : ByteArray := prog_1_method_23_code
def yX0_areaOf : MethodName := ⟨RX0, "areaOf", "(I)I"⟩
theorem dX0_areaOf_0 : decode cX0_areaOf 0 = .ok (.iload_n 1, 1) := by decide +kernel
theorem dX0_areaOf_1 : decode cX0_areaOf 1 = .ok (.invokestatic 68, 3) := by decide +kernel
theorem dX0_areaOf_4 : decode cX0_areaOf 4 = .ok (.ifCond .eq 11, 3) := by decide +kernel
theorem dX0_areaOf_7 : decode cX0_areaOf 7 = .ok (.aload_n 0, 1) := by decide +kernel
theorem dX0_areaOf_8 : decode cX0_areaOf 8 = .ok (.iload_n 1, 1) := by decide +kernel
theorem dX0_areaOf_9 : decode cX0_areaOf 9 = .ok (.invokevirtual 71, 3) := by decide +kernel
theorem dX0_areaOf_12 : decode cX0_areaOf 12 = .ok (.goto 4, 3) := by decide +kernel
theorem dX0_areaOf_15 : decode cX0_areaOf 15 = .ok (.iconst (-1), 1) := by decide +kernel
theorem dX0_areaOf_16 : decode cX0_areaOf 16 = .ok (.istore_n 2, 1) := by decide +kernel
theorem dX0_areaOf_17 : decode cX0_areaOf 17 = .ok (.iload_n 2, 1) := by decide +kernel
theorem dX0_areaOf_18 : decode cX0_areaOf 18 = .ok (.ifCond .ge 8, 3) := by decide +kernel
theorem dX0_areaOf_21 : decode cX0_areaOf 21 = .ok (.bipush (-3), 2) := by decide +kernel
theorem dX0_areaOf_23 : decode cX0_areaOf 23 = .ok (.goto 4, 3) := by decide +kernel
theorem dX0_areaOf_26 : decode cX0_areaOf 26 = .ok (.iload_n 2, 1) := by decide +kernel
theorem dX0_areaOf_27 : decode cX0_areaOf 27 = .ok (.ireturn, 1) := by decide +kernel
abbrev cX0_mapped : ByteArray := prog_1_method_24_code
def yX0_mapped : MethodName := ⟨RX0, "mapped", "()I"⟩
theorem dX0_mapped_0 : decode cX0_mapped 0 = .ok (.aload_n 0, 1) := by decide +kernel
theorem dX0_mapped_1 : decode cX0_mapped 1 = .ok (.iconst 0, 1) := by decide +kernel
theorem dX0_mapped_2 : decode cX0_mapped 2 = .ok (.bipush 64, 2) := by decide +kernel
theorem dX0_mapped_4 : decode cX0_mapped 4 = .ok (.invokevirtual 58, 3) := by decide +kernel
theorem dX0_mapped_7 : decode cX0_mapped 7 = .ok (.ireturn, 1) := by decide +kernel
abbrev cX0_longestFree : ByteArray := prog_1_method_25_code
def yX0_longestFree : MethodName := ⟨RX0, "longestFree", "()I"⟩
theorem dX0_longestFree_0 : decode cX0_longestFree 0 = .ok (.iconst 0, 1) := by decide +kernel
theorem dX0_longestFree_1 : decode cX0_longestFree 1 = .ok (.istore_n 1, 1) := by decide +kernel
theorem dX0_longestFree_2 : decode cX0_longestFree 2 = .ok (.iconst 0, 1) := by decide +kernel
theorem dX0_longestFree_3 : decode cX0_longestFree 3 = .ok (.istore_n 2, 1) := by decide +kernel
theorem dX0_longestFree_4 : decode cX0_longestFree 4 = .ok (.iconst 0, 1) := by decide +kernel
theorem dX0_longestFree_5 : decode cX0_longestFree 5 = .ok (.istore_n 3, 1) := by decide +kernel
theorem dX0_longestFree_6 : decode cX0_longestFree 6 = .ok (.iload_n 3, 1) := by decide +kernel
theorem dX0_longestFree_7 : decode cX0_longestFree 7 = .ok (.aload_n 0, 1) := by decide +kernel
theorem dX0_longestFree_8 : decode cX0_longestFree 8 = .ok (.getfield 32, 3) := by decide +kernel
theorem dX0_longestFree_11 : decode cX0_longestFree 11 = .ok (.if_icmp .ge 29, 3) := by decide +kernel
theorem dX0_longestFree_14 : decode cX0_longestFree 14 = .ok (.iload_n 2, 1) := by decide +kernel
theorem dX0_longestFree_15 : decode cX0_longestFree 15 = .ok (.aload_n 0, 1) := by decide +kernel
theorem dX0_longestFree_16 : decode cX0_longestFree 16 = .ok (.getfield 7, 3) := by decide +kernel
theorem dX0_longestFree_19 : decode cX0_longestFree 19 = .ok (.iload_n 3, 1) := by decide +kernel
theorem dX0_longestFree_20 : decode cX0_longestFree 20 = .ok (.baload, 1) := by decide +kernel
theorem dX0_longestFree_21 : decode cX0_longestFree 21 = .ok (.iload_n 1, 1) := by decide +kernel
theorem dX0_longestFree_22 : decode cX0_longestFree 22 = .ok (.isub, 1) := by decide +kernel
theorem dX0_longestFree_23 : decode cX0_longestFree 23 = .ok (.invokestatic 43, 3) := by decide +kernel
theorem dX0_longestFree_26 : decode cX0_longestFree 26 = .ok (.istore_n 2, 1) := by decide +kernel
theorem dX0_longestFree_27 : decode cX0_longestFree 27 = .ok (.aload_n 0, 1) := by decide +kernel
theorem dX0_longestFree_28 : decode cX0_longestFree 28 = .ok (.getfield 13, 3) := by decide +kernel
theorem dX0_longestFree_31 : decode cX0_longestFree 31 = .ok (.iload_n 3, 1) := by decide +kernel
theorem dX0_longestFree_32 : decode cX0_longestFree 32 = .ok (.baload, 1) := by decide +kernel
theorem dX0_longestFree_33 : decode cX0_longestFree 33 = .ok (.istore_n 1, 1) := by decide +kernel
theorem dX0_longestFree_34 : decode cX0_longestFree 34 = .ok (.iinc 3 1, 3) := by decide +kernel
theorem dX0_longestFree_37 : decode cX0_longestFree 37 = .ok (.goto (-31), 3) := by decide +kernel
theorem dX0_longestFree_40 : decode cX0_longestFree 40 = .ok (.iload_n 2, 1) := by decide +kernel
theorem dX0_longestFree_41 : decode cX0_longestFree 41 = .ok (.bipush 64, 2) := by decide +kernel
theorem dX0_longestFree_43 : decode cX0_longestFree 43 = .ok (.iload_n 1, 1) := by decide +kernel
theorem dX0_longestFree_44 : decode cX0_longestFree 44 = .ok (.isub, 1) := by decide +kernel
theorem dX0_longestFree_45 : decode cX0_longestFree 45 = .ok (.invokestatic 43, 3) := by decide +kernel
theorem dX0_longestFree_48 : decode cX0_longestFree 48 = .ok (.ireturn, 1) := by decide +kernel
abbrev cX0_allows : ByteArray := prog_1_method_26_code
def yX0_allows : MethodName := ⟨RX0, "allows", "(III)Z"⟩
theorem dX0_allows_0 : decode cX0_allows 0 = .ok (.iload_n 1, 1) := by decide +kernel
theorem dX0_allows_1 : decode cX0_allows 1 = .ok (.iload_n 2, 1) := by decide +kernel
theorem dX0_allows_2 : decode cX0_allows 2 = .ok (.invokestatic 50, 3) := by decide +kernel
theorem dX0_allows_5 : decode cX0_allows 5 = .ok (.ifCond .eq 13, 3) := by decide +kernel
theorem dX0_allows_8 : decode cX0_allows 8 = .ok (.iload_n 3, 1) := by decide +kernel
theorem dX0_allows_9 : decode cX0_allows 9 = .ok (.ifCond .lt 9, 3) := by decide +kernel
theorem dX0_allows_12 : decode cX0_allows 12 = .ok (.iload_n 3, 1) := by decide +kernel
theorem dX0_allows_13 : decode cX0_allows 13 = .ok (.bipush 7, 2) := by decide +kernel
theorem dX0_allows_15 : decode cX0_allows 15 = .ok (.if_icmp .le 5, 3) := by decide +kernel
theorem dX0_allows_18 : decode cX0_allows 18 = .ok (.iconst 0, 1) := by decide +kernel
theorem dX0_allows_19 : decode cX0_allows 19 = .ok (.ireturn, 1) := by decide +kernel
theorem dX0_allows_20 : decode cX0_allows 20 = .ok (.iload_n 1, 1) := by decide +kernel
theorem dX0_allows_21 : decode cX0_allows 21 = .ok (.istore 4, 2) := by decide +kernel
theorem dX0_allows_23 : decode cX0_allows 23 = .ok (.aload_n 0, 1) := by decide +kernel
theorem dX0_allows_24 : decode cX0_allows 24 = .ok (.iload_n 1, 1) := by decide +kernel
theorem dX0_allows_25 : decode cX0_allows 25 = .ok (.invokevirtual 71, 3) := by decide +kernel
theorem dX0_allows_28 : decode cX0_allows 28 = .ok (.istore 5, 2) := by decide +kernel
theorem dX0_allows_30 : decode cX0_allows 30 = .ok (.iload 4, 2) := by decide +kernel
theorem dX0_allows_32 : decode cX0_allows 32 = .ok (.iload_n 1, 1) := by decide +kernel
theorem dX0_allows_33 : decode cX0_allows 33 = .ok (.iload_n 2, 1) := by decide +kernel
theorem dX0_allows_34 : decode cX0_allows 34 = .ok (.iadd, 1) := by decide +kernel
theorem dX0_allows_35 : decode cX0_allows 35 = .ok (.if_icmp .ge 55, 3) := by decide +kernel
theorem dX0_allows_38 : decode cX0_allows 38 = .ok (.aload_n 0, 1) := by decide +kernel
theorem dX0_allows_39 : decode cX0_allows 39 = .ok (.iload 5, 2) := by decide +kernel
theorem dX0_allows_41 : decode cX0_allows 41 = .ok (.invokevirtual 75, 3) := by decide +kernel
theorem dX0_allows_44 : decode cX0_allows 44 = .ok (.ifCond .eq 29, 3) := by decide +kernel
theorem dX0_allows_47 : decode cX0_allows 47 = .ok (.aload_n 0, 1) := by decide +kernel
theorem dX0_allows_48 : decode cX0_allows 48 = .ok (.getfield 7, 3) := by decide +kernel
theorem dX0_allows_51 : decode cX0_allows 51 = .ok (.iload 5, 2) := by decide +kernel
theorem dX0_allows_53 : decode cX0_allows 53 = .ok (.baload, 1) := by decide +kernel
theorem dX0_allows_54 : decode cX0_allows 54 = .ok (.iload 4, 2) := by decide +kernel
theorem dX0_allows_56 : decode cX0_allows 56 = .ok (.if_icmp .gt 17, 3) := by decide +kernel
theorem dX0_allows_59 : decode cX0_allows 59 = .ok (.iload_n 3, 1) := by decide +kernel
theorem dX0_allows_60 : decode cX0_allows 60 = .ok (.aload_n 0, 1) := by decide +kernel
theorem dX0_allows_61 : decode cX0_allows 61 = .ok (.getfield 16, 3) := by decide +kernel
theorem dX0_allows_64 : decode cX0_allows 64 = .ok (.iload 5, 2) := by decide +kernel
theorem dX0_allows_66 : decode cX0_allows 66 = .ok (.baload, 1) := by decide +kernel
theorem dX0_allows_67 : decode cX0_allows 67 = .ok (.iconst (-1), 1) := by decide +kernel
theorem dX0_allows_68 : decode cX0_allows 68 = .ok (.ixor, 1) := by decide +kernel
theorem dX0_allows_69 : decode cX0_allows 69 = .ok (.iand, 1) := by decide +kernel
theorem dX0_allows_70 : decode cX0_allows 70 = .ok (.ifCond .eq 5, 3) := by decide +kernel
theorem dX0_allows_73 : decode cX0_allows 73 = .ok (.iconst 0, 1) := by decide +kernel
theorem dX0_allows_74 : decode cX0_allows 74 = .ok (.ireturn, 1) := by decide +kernel
theorem dX0_allows_75 : decode cX0_allows 75 = .ok (.aload_n 0, 1) := by decide +kernel
theorem dX0_allows_76 : decode cX0_allows 76 = .ok (.getfield 13, 3) := by decide +kernel
theorem dX0_allows_79 : decode cX0_allows 79 = .ok (.iload 5, 2) := by decide +kernel
theorem dX0_allows_81 : decode cX0_allows 81 = .ok (.baload, 1) := by decide +kernel
theorem dX0_allows_82 : decode cX0_allows 82 = .ok (.istore 4, 2) := by decide +kernel
theorem dX0_allows_84 : decode cX0_allows 84 = .ok (.iinc 5 1, 3) := by decide +kernel
theorem dX0_allows_87 : decode cX0_allows 87 = .ok (.goto (-57), 3) := by decide +kernel
theorem dX0_allows_90 : decode cX0_allows 90 = .ok (.iconst 1, 1) := by decide +kernel
theorem dX0_allows_91 : decode cX0_allows 91 = .ok (.ireturn, 1) := by decide +kernel
abbrev cX0_nextWith : ByteArray := prog_1_method_27_code
def yX0_nextWith : MethodName := ⟨RX0, "nextWith", "(II)I"⟩
theorem dX0_nextWith_0 : decode cX0_nextWith 0 = .ok (.iconst 0, 1) := by decide +kernel
theorem dX0_nextWith_1 : decode cX0_nextWith 1 = .ok (.istore_n 3, 1) := by decide +kernel
theorem dX0_nextWith_2 : decode cX0_nextWith 2 = .ok (.iload_n 3, 1) := by decide +kernel
theorem dX0_nextWith_3 : decode cX0_nextWith 3 = .ok (.aload_n 0, 1) := by decide +kernel
theorem dX0_nextWith_4 : decode cX0_nextWith 4 = .ok (.getfield 32, 3) := by decide +kernel
theorem dX0_nextWith_7 : decode cX0_nextWith 7 = .ok (.if_icmp .ge 42, 3) := by decide +kernel
theorem dX0_nextWith_10 : decode cX0_nextWith 10 = .ok (.aload_n 0, 1) := by decide +kernel
theorem dX0_nextWith_11 : decode cX0_nextWith 11 = .ok (.getfield 16, 3) := by decide +kernel
theorem dX0_nextWith_14 : decode cX0_nextWith 14 = .ok (.iload_n 3, 1) := by decide +kernel
theorem dX0_nextWith_15 : decode cX0_nextWith 15 = .ok (.baload, 1) := by decide +kernel
theorem dX0_nextWith_16 : decode cX0_nextWith 16 = .ok (.iconst 3, 1) := by decide +kernel
theorem dX0_nextWith_17 : decode cX0_nextWith 17 = .ok (.ishr, 1) := by decide +kernel
theorem dX0_nextWith_18 : decode cX0_nextWith 18 = .ok (.iload_n 1, 1) := by decide +kernel
theorem dX0_nextWith_19 : decode cX0_nextWith 19 = .ok (.if_icmp .ne 24, 3) := by decide +kernel
theorem dX0_nextWith_22 : decode cX0_nextWith 22 = .ok (.aload_n 0, 1) := by decide +kernel
theorem dX0_nextWith_23 : decode cX0_nextWith 23 = .ok (.getfield 13, 3) := by decide +kernel
theorem dX0_nextWith_26 : decode cX0_nextWith 26 = .ok (.iload_n 3, 1) := by decide +kernel
theorem dX0_nextWith_27 : decode cX0_nextWith 27 = .ok (.baload, 1) := by decide +kernel
theorem dX0_nextWith_28 : decode cX0_nextWith 28 = .ok (.iload_n 2, 1) := by decide +kernel
theorem dX0_nextWith_29 : decode cX0_nextWith 29 = .ok (.if_icmp .le 14, 3) := by decide +kernel
theorem dX0_nextWith_32 : decode cX0_nextWith 32 = .ok (.aload_n 0, 1) := by decide +kernel
theorem dX0_nextWith_33 : decode cX0_nextWith 33 = .ok (.getfield 7, 3) := by decide +kernel
theorem dX0_nextWith_36 : decode cX0_nextWith 36 = .ok (.iload_n 3, 1) := by decide +kernel
theorem dX0_nextWith_37 : decode cX0_nextWith 37 = .ok (.baload, 1) := by decide +kernel
theorem dX0_nextWith_38 : decode cX0_nextWith 38 = .ok (.iload_n 2, 1) := by decide +kernel
theorem dX0_nextWith_39 : decode cX0_nextWith 39 = .ok (.invokestatic 43, 3) := by decide +kernel
theorem dX0_nextWith_42 : decode cX0_nextWith 42 = .ok (.ireturn, 1) := by decide +kernel
theorem dX0_nextWith_43 : decode cX0_nextWith 43 = .ok (.iinc 3 1, 3) := by decide +kernel
theorem dX0_nextWith_46 : decode cX0_nextWith 46 = .ok (.goto (-44), 3) := by decide +kernel
theorem dX0_nextWith_49 : decode cX0_nextWith 49 = .ok (.bipush (-3), 2) := by decide +kernel
theorem dX0_nextWith_51 : decode cX0_nextWith 51 = .ok (.ireturn, 1) := by decide +kernel
theorem q16 : (Jvm.Cond.initialized "AreaMap") ∈ lw_all := lw_g (lw_at lw_m0 1 rfl) rfl
theorem q19 : (Jvm.Cond.instantiable "AreaMap" (8 : Nat)) ∈ lw_all := lw_g (lw_at lw_m0 4 rfl) rfl
theorem q21 : (Jvm.Cond.instanceMethod ({ cls := "AreaMap", name := "<init>", desc := "()V" } : Jvm.MethodName)) ∈ lw_all := lw_g (lw_at lw_m0 6 rfl) rfl
theorem q22 : (Jvm.Cond.code ({ cls := "AreaMap", name := "<init>", desc := "()V" } : Jvm.MethodName) prog_1_method_1_code (1 : Nat) (Option.none : Option Jvm.ClassFile.FieldType)) ∈ lw_all := lw_g (lw_at lw_m0 7 rfl) rfl
theorem q23 : (Jvm.Cond.methodLink "AreaMap" (1 : Nat) ({ cls := "java/lang/Object", name := "<init>", desc := "()V" } : Jvm.MethodName)) ∈ lw_all := lw_g (lw_at lw_m0 8 rfl) rfl
theorem q26 : (Jvm.Cond.fieldLink "AreaMap" (32 : Nat) "AreaMap" "count" "I") ∈ lw_all := lw_g (lw_at lw_m0 11 rfl) rfl
theorem q27 : (Jvm.Cond.fieldLink "AreaMap" (7 : Nat) "AreaMap" "from" "[B") ∈ lw_all := lw_g (lw_at lw_m0 12 rfl) rfl
theorem q28 : (Jvm.Cond.fieldLink "AreaMap" (13 : Nat) "AreaMap" "to" "[B") ∈ lw_all := lw_g (lw_at lw_m0 13 rfl) rfl
theorem q29 : (Jvm.Cond.fieldLink "AreaMap" (16 : Nat) "AreaMap" "kinds" "[B") ∈ lw_all := lw_g (lw_at lw_m0 14 rfl) rfl
theorem q30 : (Jvm.Cond.fieldLink "AreaMap" (28 : Nat) "AreaMap" "made" "I") ∈ lw_all := lw_g (lw_at lw_m0 15 rfl) rfl
theorem q31 : (Jvm.Cond.fieldLink "AreaMap" (19 : Nat) "AreaMap" "newFrom" "[B") ∈ lw_all := lw_g (lw_at lw_m0 16 rfl) rfl
theorem q32 : (Jvm.Cond.fieldLink "AreaMap" (22 : Nat) "AreaMap" "newTo" "[B") ∈ lw_all := lw_g (lw_at lw_m0 17 rfl) rfl
theorem q33 : (Jvm.Cond.fieldLink "AreaMap" (25 : Nat) "AreaMap" "newKinds" "[B") ∈ lw_all := lw_g (lw_at lw_m0 18 rfl) rfl
theorem q34 : (Jvm.Cond.lays "AreaMap" "AreaMap" "count" "I") ∈ lw_all := lw_g (lw_at lw_m0 19 rfl) rfl
theorem q35 : (Jvm.Cond.soleField "AreaMap" "count") ∈ lw_all := lw_g (lw_at lw_m0 20 rfl) rfl
theorem q36 : (Jvm.Cond.laysFinal "AreaMap" "AreaMap" "from" "[B") ∈ lw_all := lw_g (lw_at lw_m0 21 rfl) rfl
theorem q37 : (Jvm.Cond.soleField "AreaMap" "from") ∈ lw_all := lw_g (lw_at lw_m0 22 rfl) rfl
theorem q38 : (Jvm.Cond.laysFinal "AreaMap" "AreaMap" "to" "[B") ∈ lw_all := lw_g (lw_at lw_m0 23 rfl) rfl
theorem q39 : (Jvm.Cond.soleField "AreaMap" "to") ∈ lw_all := lw_g (lw_at lw_m0 24 rfl) rfl
theorem q40 : (Jvm.Cond.laysFinal "AreaMap" "AreaMap" "kinds" "[B") ∈ lw_all := lw_g (lw_at lw_m0 25 rfl) rfl
theorem q41 : (Jvm.Cond.soleField "AreaMap" "kinds") ∈ lw_all := lw_g (lw_at lw_m0 26 rfl) rfl
theorem q42 : (Jvm.Cond.lays "AreaMap" "AreaMap" "made" "I") ∈ lw_all := lw_g (lw_at lw_m0 27 rfl) rfl
theorem q43 : (Jvm.Cond.soleField "AreaMap" "made") ∈ lw_all := lw_g (lw_at lw_m0 28 rfl) rfl
theorem q44 : (Jvm.Cond.laysFinal "AreaMap" "AreaMap" "newFrom" "[B") ∈ lw_all := lw_g (lw_at lw_m0 29 rfl) rfl
theorem q45 : (Jvm.Cond.soleField "AreaMap" "newFrom") ∈ lw_all := lw_g (lw_at lw_m0 30 rfl) rfl
theorem q46 : (Jvm.Cond.laysFinal "AreaMap" "AreaMap" "newTo" "[B") ∈ lw_all := lw_g (lw_at lw_m0 31 rfl) rfl
theorem q47 : (Jvm.Cond.soleField "AreaMap" "newTo") ∈ lw_all := lw_g (lw_at lw_m0 32 rfl) rfl
theorem q48 : (Jvm.Cond.laysFinal "AreaMap" "AreaMap" "newKinds" "[B") ∈ lw_all := lw_g (lw_at lw_m0 33 rfl) rfl
theorem q49 : (Jvm.Cond.soleField "AreaMap" "newKinds") ∈ lw_all := lw_g (lw_at lw_m0 34 rfl) rfl
theorem q50 : (Jvm.Cond.superclass "AreaMap" "java/lang/Object") ∈ lw_all := lw_g (lw_at lw_m0 35 rfl) rfl
theorem q53 : (Jvm.Cond.instanceMethod ({ cls := "AreaMap", name := "map", desc := "(III)I" } : Jvm.MethodName)) ∈ lw_all := lw_g (lw_at lw_m0 38 rfl) rfl
theorem q54 : (Jvm.Cond.selects "AreaMap" ({ cls := "AreaMap", name := "map", desc := "(III)I" } : Jvm.MethodName) ({ cls := "AreaMap", name := "map", desc := "(III)I" } : Jvm.MethodName)) ∈ lw_all := lw_g (lw_at lw_m0 39 rfl) rfl
theorem q55 : (Jvm.Cond.code ({ cls := "AreaMap", name := "map", desc := "(III)I" } : Jvm.MethodName) prog_1_method_10_code (5 : Nat) (Option.some Jvm.ClassFile.FieldType.int)) ∈ lw_all := lw_g (lw_at lw_m0 40 rfl) rfl
theorem q56 : (Jvm.Cond.methodLink "AreaMap" (50 : Nat) ({ cls := "AreaMap", name := "isProper", desc := "(II)Z" } : Jvm.MethodName)) ∈ lw_all := lw_g (lw_at lw_m0 41 rfl) rfl
theorem q57 : (Jvm.Cond.static ({ cls := "AreaMap", name := "isProper", desc := "(II)Z" } : Jvm.MethodName)) ∈ lw_all := lw_g (lw_at lw_m0 42 rfl) rfl
theorem q58 : (Jvm.Cond.code ({ cls := "AreaMap", name := "isProper", desc := "(II)Z" } : Jvm.MethodName) prog_1_method_2_code (2 : Nat) (Option.some Jvm.ClassFile.FieldType.boolean)) ∈ lw_all := lw_g (lw_at lw_m0 43 rfl) rfl
theorem q59 : (Jvm.Cond.methodLink "AreaMap" (54 : Nat) ({ cls := "AreaMap", name := "isKind", desc := "(I)Z" } : Jvm.MethodName)) ∈ lw_all := lw_g (lw_at lw_m0 44 rfl) rfl
theorem q60 : (Jvm.Cond.static ({ cls := "AreaMap", name := "isKind", desc := "(I)Z" } : Jvm.MethodName)) ∈ lw_all := lw_g (lw_at lw_m0 45 rfl) rfl
theorem q61 : (Jvm.Cond.code ({ cls := "AreaMap", name := "isKind", desc := "(I)Z" } : Jvm.MethodName) prog_1_method_3_code (1 : Nat) (Option.some Jvm.ClassFile.FieldType.boolean)) ∈ lw_all := lw_g (lw_at lw_m0 46 rfl) rfl
theorem q62 : (Jvm.Cond.methodLink "AreaMap" (58 : Nat) ({ cls := "AreaMap", name := "mappedIn", desc := "(II)I" } : Jvm.MethodName)) ∈ lw_all := lw_g (lw_at lw_m0 47 rfl) rfl
theorem q63 : (Jvm.Cond.privateMethod ({ cls := "AreaMap", name := "mappedIn", desc := "(II)I" } : Jvm.MethodName)) ∈ lw_tbl := lw_at lw_m0 48 rfl
theorem q64 : (Jvm.Cond.instanceMethod ({ cls := "AreaMap", name := "mappedIn", desc := "(II)I" } : Jvm.MethodName)) ∈ lw_all := lw_g (lw_at lw_m0 49 rfl) rfl
theorem q65 : (Jvm.Cond.code ({ cls := "AreaMap", name := "mappedIn", desc := "(II)I" } : Jvm.MethodName) prog_1_method_9_code (7 : Nat) (Option.some Jvm.ClassFile.FieldType.int)) ∈ lw_all := lw_g (lw_at lw_m0 50 rfl) rfl
theorem q66 : (Jvm.Cond.methodLink "AreaMap" (43 : Nat) ({ cls := "AreaMap", name := "greatest", desc := "(II)I" } : Jvm.MethodName)) ∈ lw_all := lw_g (lw_at lw_m0 51 rfl) rfl
theorem q67 : (Jvm.Cond.static ({ cls := "AreaMap", name := "greatest", desc := "(II)I" } : Jvm.MethodName)) ∈ lw_all := lw_g (lw_at lw_m0 52 rfl) rfl
theorem q68 : (Jvm.Cond.code ({ cls := "AreaMap", name := "greatest", desc := "(II)I" } : Jvm.MethodName) prog_1_method_7_code (2 : Nat) (Option.some Jvm.ClassFile.FieldType.int)) ∈ lw_all := lw_g (lw_at lw_m0 53 rfl) rfl
theorem q69 : (Jvm.Cond.methodLink "AreaMap" (35 : Nat) ({ cls := "AreaMap", name := "least", desc := "(II)I" } : Jvm.MethodName)) ∈ lw_all := lw_g (lw_at lw_m0 54 rfl) rfl
theorem q70 : (Jvm.Cond.static ({ cls := "AreaMap", name := "least", desc := "(II)I" } : Jvm.MethodName)) ∈ lw_all := lw_g (lw_at lw_m0 55 rfl) rfl
theorem q71 : (Jvm.Cond.code ({ cls := "AreaMap", name := "least", desc := "(II)I" } : Jvm.MethodName) prog_1_method_6_code (2 : Nat) (Option.some Jvm.ClassFile.FieldType.int)) ∈ lw_all := lw_g (lw_at lw_m0 56 rfl) rfl
theorem q72 : (Jvm.Cond.methodLink "AreaMap" (61 : Nat) ({ cls := "AreaMap", name := "rewrite", desc := "(III)Z" } : Jvm.MethodName)) ∈ lw_all := lw_g (lw_at lw_m0 57 rfl) rfl
theorem q73 : (Jvm.Cond.privateMethod ({ cls := "AreaMap", name := "rewrite", desc := "(III)Z" } : Jvm.MethodName)) ∈ lw_tbl := lw_at lw_m0 58 rfl
theorem q74 : (Jvm.Cond.instanceMethod ({ cls := "AreaMap", name := "rewrite", desc := "(III)Z" } : Jvm.MethodName)) ∈ lw_all := lw_g (lw_at lw_m0 59 rfl) rfl
theorem q75 : (Jvm.Cond.code ({ cls := "AreaMap", name := "rewrite", desc := "(III)Z" } : Jvm.MethodName) prog_1_method_8_code (8 : Nat) (Option.some Jvm.ClassFile.FieldType.boolean)) ∈ lw_all := lw_g (lw_at lw_m0 60 rfl) rfl
theorem q76 : (Jvm.Cond.methodLink "AreaMap" (39 : Nat) ({ cls := "AreaMap", name := "emit", desc := "(III)V" } : Jvm.MethodName)) ∈ lw_all := lw_g (lw_at lw_m0 61 rfl) rfl
theorem q77 : (Jvm.Cond.privateMethod ({ cls := "AreaMap", name := "emit", desc := "(III)V" } : Jvm.MethodName)) ∈ lw_tbl := lw_at lw_m0 62 rfl
theorem q78 : (Jvm.Cond.instanceMethod ({ cls := "AreaMap", name := "emit", desc := "(III)V" } : Jvm.MethodName)) ∈ lw_all := lw_g (lw_at lw_m0 63 rfl) rfl
theorem q79 : (Jvm.Cond.code ({ cls := "AreaMap", name := "emit", desc := "(III)V" } : Jvm.MethodName) prog_1_method_4_code (5 : Nat) (Option.none : Option Jvm.ClassFile.FieldType)) ∈ lw_all := lw_g (lw_at lw_m0 64 rfl) rfl
theorem q80 : (Jvm.Cond.methodLink "AreaMap" (46 : Nat) ({ cls := "AreaMap", name := "commit", desc := "()Z" } : Jvm.MethodName)) ∈ lw_all := lw_g (lw_at lw_m0 65 rfl) rfl
theorem q81 : (Jvm.Cond.privateMethod ({ cls := "AreaMap", name := "commit", desc := "()Z" } : Jvm.MethodName)) ∈ lw_tbl := lw_at lw_m0 66 rfl
theorem q82 : (Jvm.Cond.instanceMethod ({ cls := "AreaMap", name := "commit", desc := "()Z" } : Jvm.MethodName)) ∈ lw_all := lw_g (lw_at lw_m0 67 rfl) rfl
theorem q83 : (Jvm.Cond.code ({ cls := "AreaMap", name := "commit", desc := "()Z" } : Jvm.MethodName) prog_1_method_5_code (2 : Nat) (Option.some Jvm.ClassFile.FieldType.boolean)) ∈ lw_all := lw_g (lw_at lw_m0 68 rfl) rfl
theorem q85 : (Jvm.Cond.instanceMethod ({ cls := "AreaMap", name := "place", desc := "(III)I" } : Jvm.MethodName)) ∈ lw_all := lw_g (lw_at lw_m0 70 rfl) rfl
theorem q86 : (Jvm.Cond.selects "AreaMap" ({ cls := "AreaMap", name := "place", desc := "(III)I" } : Jvm.MethodName) ({ cls := "AreaMap", name := "place", desc := "(III)I" } : Jvm.MethodName)) ∈ lw_all := lw_g (lw_at lw_m0 71 rfl) rfl
theorem q87 : (Jvm.Cond.code ({ cls := "AreaMap", name := "place", desc := "(III)I" } : Jvm.MethodName) prog_1_method_11_code (5 : Nat) (Option.some Jvm.ClassFile.FieldType.int)) ∈ lw_all := lw_g (lw_at lw_m0 72 rfl) rfl
theorem q88 : (Jvm.Cond.methodLink "AreaMap" (65 : Nat) ({ cls := "AreaMap", name := "room", desc := "(II)I" } : Jvm.MethodName)) ∈ lw_all := lw_g (lw_at lw_m0 73 rfl) rfl
theorem q89 : (Jvm.Cond.privateMethod ({ cls := "AreaMap", name := "room", desc := "(II)I" } : Jvm.MethodName)) ∈ lw_tbl := lw_at lw_m0 74 rfl
theorem q90 : (Jvm.Cond.instanceMethod ({ cls := "AreaMap", name := "room", desc := "(II)I" } : Jvm.MethodName)) ∈ lw_all := lw_g (lw_at lw_m0 75 rfl) rfl
theorem q91 : (Jvm.Cond.code ({ cls := "AreaMap", name := "room", desc := "(II)I" } : Jvm.MethodName) prog_1_method_12_code (5 : Nat) (Option.some Jvm.ClassFile.FieldType.int)) ∈ lw_all := lw_g (lw_at lw_m0 76 rfl) rfl
theorem q93 : (Jvm.Cond.instanceMethod ({ cls := "AreaMap", name := "free", desc := "(II)I" } : Jvm.MethodName)) ∈ lw_all := lw_g (lw_at lw_m0 78 rfl) rfl
theorem q94 : (Jvm.Cond.selects "AreaMap" ({ cls := "AreaMap", name := "free", desc := "(II)I" } : Jvm.MethodName) ({ cls := "AreaMap", name := "free", desc := "(II)I" } : Jvm.MethodName)) ∈ lw_all := lw_g (lw_at lw_m0 79 rfl) rfl
theorem q95 : (Jvm.Cond.code ({ cls := "AreaMap", name := "free", desc := "(II)I" } : Jvm.MethodName) prog_1_method_13_code (4 : Nat) (Option.some Jvm.ClassFile.FieldType.int)) ∈ lw_all := lw_g (lw_at lw_m0 80 rfl) rfl
theorem q97 : (Jvm.Cond.instanceMethod ({ cls := "AreaMap", name := "protect", desc := "(III)I" } : Jvm.MethodName)) ∈ lw_all := lw_g (lw_at lw_m0 82 rfl) rfl
theorem q98 : (Jvm.Cond.selects "AreaMap" ({ cls := "AreaMap", name := "protect", desc := "(III)I" } : Jvm.MethodName) ({ cls := "AreaMap", name := "protect", desc := "(III)I" } : Jvm.MethodName)) ∈ lw_all := lw_g (lw_at lw_m0 83 rfl) rfl
theorem q99 : (Jvm.Cond.code ({ cls := "AreaMap", name := "protect", desc := "(III)I" } : Jvm.MethodName) prog_1_method_14_code (12 : Nat) (Option.some Jvm.ClassFile.FieldType.int)) ∈ lw_all := lw_g (lw_at lw_m0 84 rfl) rfl
theorem q101 : (Jvm.Cond.instanceMethod ({ cls := "AreaMap", name := "rights", desc := "(I)I" } : Jvm.MethodName)) ∈ lw_all := lw_g (lw_at lw_m0 86 rfl) rfl
theorem q102 : (Jvm.Cond.selects "AreaMap" ({ cls := "AreaMap", name := "rights", desc := "(I)I" } : Jvm.MethodName) ({ cls := "AreaMap", name := "rights", desc := "(I)I" } : Jvm.MethodName)) ∈ lw_all := lw_g (lw_at lw_m0 87 rfl) rfl
theorem q103 : (Jvm.Cond.code ({ cls := "AreaMap", name := "rights", desc := "(I)I" } : Jvm.MethodName) prog_1_method_15_code (3 : Nat) (Option.some Jvm.ClassFile.FieldType.int)) ∈ lw_all := lw_g (lw_at lw_m0 88 rfl) rfl
theorem q104 : (Jvm.Cond.methodLink "AreaMap" (68 : Nat) ({ cls := "AreaMap", name := "isPage", desc := "(I)Z" } : Jvm.MethodName)) ∈ lw_all := lw_g (lw_at lw_m0 89 rfl) rfl
theorem q105 : (Jvm.Cond.static ({ cls := "AreaMap", name := "isPage", desc := "(I)Z" } : Jvm.MethodName)) ∈ lw_all := lw_g (lw_at lw_m0 90 rfl) rfl
theorem q106 : (Jvm.Cond.code ({ cls := "AreaMap", name := "isPage", desc := "(I)Z" } : Jvm.MethodName) prog_1_method_17_code (1 : Nat) (Option.some Jvm.ClassFile.FieldType.boolean)) ∈ lw_all := lw_g (lw_at lw_m0 91 rfl) rfl
theorem q107 : (Jvm.Cond.methodLink "AreaMap" (71 : Nat) ({ cls := "AreaMap", name := "find", desc := "(I)I" } : Jvm.MethodName)) ∈ lw_all := lw_g (lw_at lw_m0 92 rfl) rfl
theorem q108 : (Jvm.Cond.privateMethod ({ cls := "AreaMap", name := "find", desc := "(I)I" } : Jvm.MethodName)) ∈ lw_tbl := lw_at lw_m0 93 rfl
theorem q109 : (Jvm.Cond.instanceMethod ({ cls := "AreaMap", name := "find", desc := "(I)I" } : Jvm.MethodName)) ∈ lw_all := lw_g (lw_at lw_m0 94 rfl) rfl
theorem q110 : (Jvm.Cond.code ({ cls := "AreaMap", name := "find", desc := "(I)I" } : Jvm.MethodName) prog_1_method_16_code (6 : Nat) (Option.some Jvm.ClassFile.FieldType.int)) ∈ lw_all := lw_g (lw_at lw_m0 95 rfl) rfl
theorem q112 : (Jvm.Cond.instanceMethod ({ cls := "AreaMap", name := "tag", desc := "(I)I" } : Jvm.MethodName)) ∈ lw_all := lw_g (lw_at lw_m0 97 rfl) rfl
theorem q113 : (Jvm.Cond.selects "AreaMap" ({ cls := "AreaMap", name := "tag", desc := "(I)I" } : Jvm.MethodName) ({ cls := "AreaMap", name := "tag", desc := "(I)I" } : Jvm.MethodName)) ∈ lw_all := lw_g (lw_at lw_m0 98 rfl) rfl
theorem q114 : (Jvm.Cond.code ({ cls := "AreaMap", name := "tag", desc := "(I)I" } : Jvm.MethodName) prog_1_method_18_code (3 : Nat) (Option.some Jvm.ClassFile.FieldType.int)) ∈ lw_all := lw_g (lw_at lw_m0 99 rfl) rfl
theorem q116 : (Jvm.Cond.instanceMethod ({ cls := "AreaMap", name := "areas", desc := "()I" } : Jvm.MethodName)) ∈ lw_all := lw_g (lw_at lw_m0 101 rfl) rfl
theorem q117 : (Jvm.Cond.selects "AreaMap" ({ cls := "AreaMap", name := "areas", desc := "()I" } : Jvm.MethodName) ({ cls := "AreaMap", name := "areas", desc := "()I" } : Jvm.MethodName)) ∈ lw_all := lw_g (lw_at lw_m0 102 rfl) rfl
theorem q118 : (Jvm.Cond.code ({ cls := "AreaMap", name := "areas", desc := "()I" } : Jvm.MethodName) prog_1_method_19_code (1 : Nat) (Option.some Jvm.ClassFile.FieldType.int)) ∈ lw_all := lw_g (lw_at lw_m0 103 rfl) rfl
theorem q120 : (Jvm.Cond.instanceMethod ({ cls := "AreaMap", name := "areaFirst", desc := "(I)I" } : Jvm.MethodName)) ∈ lw_all := lw_g (lw_at lw_m0 105 rfl) rfl
theorem q121 : (Jvm.Cond.selects "AreaMap" ({ cls := "AreaMap", name := "areaFirst", desc := "(I)I" } : Jvm.MethodName) ({ cls := "AreaMap", name := "areaFirst", desc := "(I)I" } : Jvm.MethodName)) ∈ lw_all := lw_g (lw_at lw_m0 106 rfl) rfl
theorem q122 : (Jvm.Cond.code ({ cls := "AreaMap", name := "areaFirst", desc := "(I)I" } : Jvm.MethodName) prog_1_method_20_code (2 : Nat) (Option.some Jvm.ClassFile.FieldType.int)) ∈ lw_all := lw_g (lw_at lw_m0 107 rfl) rfl
theorem q123 : (Jvm.Cond.methodLink "AreaMap" (75 : Nat) ({ cls := "AreaMap", name := "isArea", desc := "(I)Z" } : Jvm.MethodName)) ∈ lw_all := lw_g (lw_at lw_m0 108 rfl) rfl
theorem q124 : (Jvm.Cond.privateMethod ({ cls := "AreaMap", name := "isArea", desc := "(I)Z" } : Jvm.MethodName)) ∈ lw_tbl := lw_at lw_m0 109 rfl
theorem q125 : (Jvm.Cond.instanceMethod ({ cls := "AreaMap", name := "isArea", desc := "(I)Z" } : Jvm.MethodName)) ∈ lw_all := lw_g (lw_at lw_m0 110 rfl) rfl
theorem q126 : (Jvm.Cond.code ({ cls := "AreaMap", name := "isArea", desc := "(I)Z" } : Jvm.MethodName) prog_1_method_21_code (2 : Nat) (Option.some Jvm.ClassFile.FieldType.boolean)) ∈ lw_all := lw_g (lw_at lw_m0 111 rfl) rfl
theorem q128 : (Jvm.Cond.instanceMethod ({ cls := "AreaMap", name := "areaLength", desc := "(I)I" } : Jvm.MethodName)) ∈ lw_all := lw_g (lw_at lw_m0 113 rfl) rfl
theorem q129 : (Jvm.Cond.selects "AreaMap" ({ cls := "AreaMap", name := "areaLength", desc := "(I)I" } : Jvm.MethodName) ({ cls := "AreaMap", name := "areaLength", desc := "(I)I" } : Jvm.MethodName)) ∈ lw_all := lw_g (lw_at lw_m0 114 rfl) rfl
theorem q130 : (Jvm.Cond.code ({ cls := "AreaMap", name := "areaLength", desc := "(I)I" } : Jvm.MethodName) prog_1_method_22_code (2 : Nat) (Option.some Jvm.ClassFile.FieldType.int)) ∈ lw_all := lw_g (lw_at lw_m0 115 rfl) rfl
theorem q132 : (Jvm.Cond.instanceMethod ({ cls := "AreaMap", name := "areaOf", desc := "(I)I" } : Jvm.MethodName)) ∈ lw_all := lw_g (lw_at lw_m0 117 rfl) rfl
theorem q133 : (Jvm.Cond.selects "AreaMap" ({ cls := "AreaMap", name := "areaOf", desc := "(I)I" } : Jvm.MethodName) ({ cls := "AreaMap", name := "areaOf", desc := "(I)I" } : Jvm.MethodName)) ∈ lw_all := lw_g (lw_at lw_m0 118 rfl) rfl
theorem q134 : (Jvm.Cond.code ({ cls := "AreaMap", name := "areaOf", desc := "(I)I" } : Jvm.MethodName) prog_1_method_23_code (3 : Nat) (Option.some Jvm.ClassFile.FieldType.int)) ∈ lw_all := lw_g (lw_at lw_m0 119 rfl) rfl
theorem q136 : (Jvm.Cond.instanceMethod ({ cls := "AreaMap", name := "mapped", desc := "()I" } : Jvm.MethodName)) ∈ lw_all := lw_g (lw_at lw_m0 121 rfl) rfl
theorem q137 : (Jvm.Cond.selects "AreaMap" ({ cls := "AreaMap", name := "mapped", desc := "()I" } : Jvm.MethodName) ({ cls := "AreaMap", name := "mapped", desc := "()I" } : Jvm.MethodName)) ∈ lw_all := lw_g (lw_at lw_m0 122 rfl) rfl
theorem q138 : (Jvm.Cond.code ({ cls := "AreaMap", name := "mapped", desc := "()I" } : Jvm.MethodName) prog_1_method_24_code (1 : Nat) (Option.some Jvm.ClassFile.FieldType.int)) ∈ lw_all := lw_g (lw_at lw_m0 123 rfl) rfl
theorem q140 : (Jvm.Cond.instanceMethod ({ cls := "AreaMap", name := "longestFree", desc := "()I" } : Jvm.MethodName)) ∈ lw_all := lw_g (lw_at lw_m0 125 rfl) rfl
theorem q141 : (Jvm.Cond.selects "AreaMap" ({ cls := "AreaMap", name := "longestFree", desc := "()I" } : Jvm.MethodName) ({ cls := "AreaMap", name := "longestFree", desc := "()I" } : Jvm.MethodName)) ∈ lw_all := lw_g (lw_at lw_m0 126 rfl) rfl
theorem q142 : (Jvm.Cond.code ({ cls := "AreaMap", name := "longestFree", desc := "()I" } : Jvm.MethodName) prog_1_method_25_code (4 : Nat) (Option.some Jvm.ClassFile.FieldType.int)) ∈ lw_all := lw_g (lw_at lw_m0 127 rfl) rfl
theorem q144 : (Jvm.Cond.instanceMethod ({ cls := "AreaMap", name := "allows", desc := "(III)Z" } : Jvm.MethodName)) ∈ lw_all := lw_g (lw_at lw_m0 129 rfl) rfl
theorem q145 : (Jvm.Cond.selects "AreaMap" ({ cls := "AreaMap", name := "allows", desc := "(III)Z" } : Jvm.MethodName) ({ cls := "AreaMap", name := "allows", desc := "(III)Z" } : Jvm.MethodName)) ∈ lw_all := lw_g (lw_at lw_m0 130 rfl) rfl
theorem q146 : (Jvm.Cond.code ({ cls := "AreaMap", name := "allows", desc := "(III)Z" } : Jvm.MethodName) prog_1_method_26_code (6 : Nat) (Option.some Jvm.ClassFile.FieldType.boolean)) ∈ lw_all := lw_g (lw_at lw_m0 131 rfl) rfl
theorem q148 : (Jvm.Cond.instanceMethod ({ cls := "AreaMap", name := "nextWith", desc := "(II)I" } : Jvm.MethodName)) ∈ lw_all := lw_g (lw_at lw_m0 133 rfl) rfl
theorem q149 : (Jvm.Cond.selects "AreaMap" ({ cls := "AreaMap", name := "nextWith", desc := "(II)I" } : Jvm.MethodName) ({ cls := "AreaMap", name := "nextWith", desc := "(II)I" } : Jvm.MethodName)) ∈ lw_all := lw_g (lw_at lw_m0 134 rfl) rfl
theorem q150 : (Jvm.Cond.code ({ cls := "AreaMap", name := "nextWith", desc := "(II)I" } : Jvm.MethodName) prog_1_method_27_code (4 : Nat) (Option.some Jvm.ClassFile.FieldType.int)) ∈ lw_all := lw_g (lw_at lw_m0 135 rfl) rfl
theorem in_X0 : ∀ w ∈ wsX00, w ∈ lw_all := lw_in wsX00 [34, 36, 38, 40, 42, 44, 46, 48] (by decide +kernel) (by decide +kernel)

/-! java/lang/Object -/
set_option maxRecDepth 100000
def RJ0 : String := "java/lang/Object"
abbrev cJ0_init : ByteArray := object_method_1_code
def yJ0_init : MethodName := ⟨RJ0, "<init>", "()V"⟩
theorem dJ0_init_0 : decode cJ0_init 0 = .ok (.return_, 1) := by decide +kernel
theorem q24 : (Jvm.Cond.instanceMethod ({ cls := "java/lang/Object", name := "<init>", desc := "()V" } : Jvm.MethodName)) ∈ lw_all := lw_g (lw_at lw_m0 9 rfl) rfl
theorem q25 : (Jvm.Cond.code ({ cls := "java/lang/Object", name := "<init>", desc := "()V" } : Jvm.MethodName) object_method_1_code (1 : Nat) (Option.none : Option Jvm.ClassFile.FieldType)) ∈ lw_all := lw_g (lw_at lw_m0 10 rfl) rfl

theorem q51 : (Jvm.Cond.arrayClass Jvm.ClassFile.FieldType.byte) ∈ lw_all := lw_g (lw_at lw_m0 36 rfl) rfl
set_option maxRecDepth 100000
theorem q164 : (Jvm.Cond.arrayClass Jvm.ClassFile.FieldType.int) ∈ lw_all := lw_g (lw_at lw_m0 149 rfl) rfl
end
section
/-! AreaMapModel -/
set_option maxRecDepth 100000
def RX1 : String := "AreaMapModel"
def TX1 : u_T := fun k => match k with
  | 0 => ("AreaMapModel", "pages", "[I", false)
  | _ => ("AreaMapModel", "old", "[I", false)
def tyX1 : Nat → FieldType := fun k => match k with
  | 0 => .array .int
  | _ => .array .int
abbrev wsX10 : List Cond := u_ws RX1 TX1 2
theorem nmX1 : ∀ a, a < 2 → ∀ b, b < 2 → a ≠ b → (TX1 a).2.1 ≠ (TX1 b).2.1 := by decide +kernel
theorem tyX1_ok : ∀ k, k < 2 → parseFieldDescriptor (TX1 k).2.2.1 = some (tyX1 k) := by decide +kernel
abbrev cX1_init : ByteArray := prog_3_method_1_code
def yX1_init : MethodName := ⟨RX1, "<init>", "()V"⟩
theorem dX1_init_0 : decode cX1_init 0 = .ok (.aload_n 0, 1) := by decide +kernel
theorem dX1_init_1 : decode cX1_init 1 = .ok (.invokespecial 1, 3) := by decide +kernel
theorem dX1_init_4 : decode cX1_init 4 = .ok (.aload_n 0, 1) := by decide +kernel
theorem dX1_init_5 : decode cX1_init 5 = .ok (.bipush 64, 2) := by decide +kernel
theorem dX1_init_7 : decode cX1_init 7 = .ok (.newarray .int, 2) := by decide +kernel
theorem dX1_init_9 : decode cX1_init 9 = .ok (.putfield 7, 3) := by decide +kernel
theorem dX1_init_12 : decode cX1_init 12 = .ok (.aload_n 0, 1) := by decide +kernel
theorem dX1_init_13 : decode cX1_init 13 = .ok (.bipush 64, 2) := by decide +kernel
theorem dX1_init_15 : decode cX1_init 15 = .ok (.newarray .int, 2) := by decide +kernel
theorem dX1_init_17 : decode cX1_init 17 = .ok (.putfield 13, 3) := by decide +kernel
theorem dX1_init_20 : decode cX1_init 20 = .ok (.return_, 1) := by decide +kernel
abbrev cX1_map : ByteArray := prog_3_method_7_code
def yX1_map : MethodName := ⟨RX1, "map", "(III)I"⟩
theorem dX1_map_0 : decode cX1_map 0 = .ok (.aload_n 0, 1) := by decide +kernel
theorem dX1_map_1 : decode cX1_map 1 = .ok (.iload_n 1, 1) := by decide +kernel
theorem dX1_map_2 : decode cX1_map 2 = .ok (.iload_n 2, 1) := by decide +kernel
theorem dX1_map_3 : decode cX1_map 3 = .ok (.invokevirtual 20, 3) := by decide +kernel
theorem dX1_map_6 : decode cX1_map 6 = .ok (.ifCond .eq 13, 3) := by decide +kernel
theorem dX1_map_9 : decode cX1_map 9 = .ok (.iload_n 3, 1) := by decide +kernel
theorem dX1_map_10 : decode cX1_map 10 = .ok (.ifCond .lt 9, 3) := by decide +kernel
theorem dX1_map_13 : decode cX1_map 13 = .ok (.iload_n 3, 1) := by decide +kernel
theorem dX1_map_14 : decode cX1_map 14 = .ok (.bipush 127, 2) := by decide +kernel
theorem dX1_map_16 : decode cX1_map 16 = .ok (.if_icmp .le 5, 3) := by decide +kernel
theorem dX1_map_19 : decode cX1_map 19 = .ok (.iconst (-1), 1) := by decide +kernel
theorem dX1_map_20 : decode cX1_map 20 = .ok (.ireturn, 1) := by decide +kernel
theorem dX1_map_21 : decode cX1_map 21 = .ok (.aload_n 0, 1) := by decide +kernel
theorem dX1_map_22 : decode cX1_map 22 = .ok (.iload_n 1, 1) := by decide +kernel
theorem dX1_map_23 : decode cX1_map 23 = .ok (.iload_n 2, 1) := by decide +kernel
theorem dX1_map_24 : decode cX1_map 24 = .ok (.invokevirtual 24, 3) := by decide +kernel
theorem dX1_map_27 : decode cX1_map 27 = .ok (.istore 4, 2) := by decide +kernel
theorem dX1_map_29 : decode cX1_map 29 = .ok (.aload_n 0, 1) := by decide +kernel
theorem dX1_map_30 : decode cX1_map 30 = .ok (.invokevirtual 28, 3) := by decide +kernel
theorem dX1_map_33 : decode cX1_map 33 = .ok (.aload_n 0, 1) := by decide +kernel
theorem dX1_map_34 : decode cX1_map 34 = .ok (.iload_n 1, 1) := by decide +kernel
theorem dX1_map_35 : decode cX1_map 35 = .ok (.iload_n 2, 1) := by decide +kernel
theorem dX1_map_36 : decode cX1_map 36 = .ok (.iload_n 3, 1) := by decide +kernel
theorem dX1_map_37 : decode cX1_map 37 = .ok (.iconst 1, 1) := by decide +kernel
theorem dX1_map_38 : decode cX1_map 38 = .ok (.iadd, 1) := by decide +kernel
theorem dX1_map_39 : decode cX1_map 39 = .ok (.invokevirtual 31, 3) := by decide +kernel
theorem dX1_map_42 : decode cX1_map 42 = .ok (.aload_n 0, 1) := by decide +kernel
theorem dX1_map_43 : decode cX1_map 43 = .ok (.invokevirtual 35, 3) := by decide +kernel
theorem dX1_map_46 : decode cX1_map 46 = .ok (.ifCond .eq 8, 3) := by decide +kernel
theorem dX1_map_49 : decode cX1_map 49 = .ok (.bipush (-2), 2) := by decide +kernel
theorem dX1_map_51 : decode cX1_map 51 = .ok (.goto 5, 3) := by decide +kernel
theorem dX1_map_54 : decode cX1_map 54 = .ok (.iload 4, 2) := by decide +kernel
theorem dX1_map_56 : decode cX1_map 56 = .ok (.ireturn, 1) := by decide +kernel
abbrev cX1_proper : ByteArray := prog_3_method_2_code
def yX1_proper : MethodName := ⟨RX1, "proper", "(II)Z"⟩
theorem dX1_proper_0 : decode cX1_proper 0 = .ok (.iload_n 1, 1) := by decide +kernel
theorem dX1_proper_1 : decode cX1_proper 1 = .ok (.ifCond .lt 26, 3) := by decide +kernel
theorem dX1_proper_4 : decode cX1_proper 4 = .ok (.iload_n 1, 1) := by decide +kernel
theorem dX1_proper_5 : decode cX1_proper 5 = .ok (.bipush 63, 2) := by decide +kernel
theorem dX1_proper_7 : decode cX1_proper 7 = .ok (.if_icmp .gt 20, 3) := by decide +kernel
theorem dX1_proper_10 : decode cX1_proper 10 = .ok (.iload_n 2, 1) := by decide +kernel
theorem dX1_proper_11 : decode cX1_proper 11 = .ok (.iconst 1, 1) := by decide +kernel
theorem dX1_proper_12 : decode cX1_proper 12 = .ok (.if_icmp .lt 15, 3) := by decide +kernel
theorem dX1_proper_15 : decode cX1_proper 15 = .ok (.iload_n 2, 1) := by decide +kernel
theorem dX1_proper_16 : decode cX1_proper 16 = .ok (.bipush 64, 2) := by decide +kernel
theorem dX1_proper_18 : decode cX1_proper 18 = .ok (.iload_n 1, 1) := by decide +kernel
theorem dX1_proper_19 : decode cX1_proper 19 = .ok (.isub, 1) := by decide +kernel
theorem dX1_proper_20 : decode cX1_proper 20 = .ok (.if_icmp .gt 7, 3) := by decide +kernel
theorem dX1_proper_23 : decode cX1_proper 23 = .ok (.iconst 1, 1) := by decide +kernel
theorem dX1_proper_24 : decode cX1_proper 24 = .ok (.goto 4, 3) := by decide +kernel
theorem dX1_proper_27 : decode cX1_proper 27 = .ok (.iconst 0, 1) := by decide +kernel
theorem dX1_proper_28 : decode cX1_proper 28 = .ok (.ireturn, 1) := by decide +kernel
abbrev cX1_used : ByteArray := prog_3_method_6_code
def yX1_used : MethodName := ⟨RX1, "used", "(II)I"⟩
theorem dX1_used_0 : decode cX1_used 0 = .ok (.iconst 0, 1) := by decide +kernel
theorem dX1_used_1 : decode cX1_used 1 = .ok (.istore_n 3, 1) := by decide +kernel
theorem dX1_used_2 : decode cX1_used 2 = .ok (.iload_n 1, 1) := by decide +kernel
theorem dX1_used_3 : decode cX1_used 3 = .ok (.istore 4, 2) := by decide +kernel
theorem dX1_used_5 : decode cX1_used 5 = .ok (.iload 4, 2) := by decide +kernel
theorem dX1_used_7 : decode cX1_used 7 = .ok (.iload_n 1, 1) := by decide +kernel
theorem dX1_used_8 : decode cX1_used 8 = .ok (.iload_n 2, 1) := by decide +kernel
theorem dX1_used_9 : decode cX1_used 9 = .ok (.iadd, 1) := by decide +kernel
theorem dX1_used_10 : decode cX1_used 10 = .ok (.if_icmp .ge 27, 3) := by decide +kernel
theorem dX1_used_13 : decode cX1_used 13 = .ok (.aload_n 0, 1) := by decide +kernel
theorem dX1_used_14 : decode cX1_used 14 = .ok (.getfield 7, 3) := by decide +kernel
theorem dX1_used_17 : decode cX1_used 17 = .ok (.iload 4, 2) := by decide +kernel
theorem dX1_used_19 : decode cX1_used 19 = .ok (.iaload, 1) := by decide +kernel
theorem dX1_used_20 : decode cX1_used 20 = .ok (.ifCond .le 9, 3) := by decide +kernel
theorem dX1_used_23 : decode cX1_used 23 = .ok (.iload_n 3, 1) := by decide +kernel
theorem dX1_used_24 : decode cX1_used 24 = .ok (.iconst 1, 1) := by decide +kernel
theorem dX1_used_25 : decode cX1_used 25 = .ok (.iadd, 1) := by decide +kernel
theorem dX1_used_26 : decode cX1_used 26 = .ok (.goto 4, 3) := by decide +kernel
theorem dX1_used_29 : decode cX1_used 29 = .ok (.iload_n 3, 1) := by decide +kernel
theorem dX1_used_30 : decode cX1_used 30 = .ok (.istore_n 3, 1) := by decide +kernel
theorem dX1_used_31 : decode cX1_used 31 = .ok (.iinc 4 1, 3) := by decide +kernel
theorem dX1_used_34 : decode cX1_used 34 = .ok (.goto (-29), 3) := by decide +kernel
theorem dX1_used_37 : decode cX1_used 37 = .ok (.iload_n 3, 1) := by decide +kernel
theorem dX1_used_38 : decode cX1_used 38 = .ok (.ireturn, 1) := by decide +kernel
abbrev cX1_keep : ByteArray := prog_3_method_3_code
def yX1_keep : MethodName := ⟨RX1, "keep", "()V"⟩
theorem dX1_keep_0 : decode cX1_keep 0 = .ok (.iconst 0, 1) := by decide +kernel
theorem dX1_keep_1 : decode cX1_keep 1 = .ok (.istore_n 1, 1) := by decide +kernel
theorem dX1_keep_2 : decode cX1_keep 2 = .ok (.iload_n 1, 1) := by decide +kernel
theorem dX1_keep_3 : decode cX1_keep 3 = .ok (.bipush 64, 2) := by decide +kernel
theorem dX1_keep_5 : decode cX1_keep 5 = .ok (.if_icmp .ge 21, 3) := by decide +kernel
theorem dX1_keep_8 : decode cX1_keep 8 = .ok (.aload_n 0, 1) := by decide +kernel
theorem dX1_keep_9 : decode cX1_keep 9 = .ok (.getfield 13, 3) := by decide +kernel
theorem dX1_keep_12 : decode cX1_keep 12 = .ok (.iload_n 1, 1) := by decide +kernel
theorem dX1_keep_13 : decode cX1_keep 13 = .ok (.aload_n 0, 1) := by decide +kernel
theorem dX1_keep_14 : decode cX1_keep 14 = .ok (.getfield 7, 3) := by decide +kernel
theorem dX1_keep_17 : decode cX1_keep 17 = .ok (.iload_n 1, 1) := by decide +kernel
theorem dX1_keep_18 : decode cX1_keep 18 = .ok (.iaload, 1) := by decide +kernel
theorem dX1_keep_19 : decode cX1_keep 19 = .ok (.iastore, 1) := by decide +kernel
theorem dX1_keep_20 : decode cX1_keep 20 = .ok (.iinc 1 1, 3) := by decide +kernel
theorem dX1_keep_23 : decode cX1_keep 23 = .ok (.goto (-21), 3) := by decide +kernel
theorem dX1_keep_26 : decode cX1_keep 26 = .ok (.return_, 1) := by decide +kernel
abbrev cX1_fill : ByteArray := prog_3_method_5_code
def yX1_fill : MethodName := ⟨RX1, "fill", "(III)V"⟩
theorem dX1_fill_0 : decode cX1_fill 0 = .ok (.iload_n 1, 1) := by decide +kernel
theorem dX1_fill_1 : decode cX1_fill 1 = .ok (.istore 4, 2) := by decide +kernel
theorem dX1_fill_3 : decode cX1_fill 3 = .ok (.iload 4, 2) := by decide +kernel
theorem dX1_fill_5 : decode cX1_fill 5 = .ok (.iload_n 1, 1) := by decide +kernel
theorem dX1_fill_6 : decode cX1_fill 6 = .ok (.iload_n 2, 1) := by decide +kernel
theorem dX1_fill_7 : decode cX1_fill 7 = .ok (.iadd, 1) := by decide +kernel
theorem dX1_fill_8 : decode cX1_fill 8 = .ok (.if_icmp .ge 17, 3) := by decide +kernel
theorem dX1_fill_11 : decode cX1_fill 11 = .ok (.aload_n 0, 1) := by decide +kernel
theorem dX1_fill_12 : decode cX1_fill 12 = .ok (.getfield 7, 3) := by decide +kernel
theorem dX1_fill_15 : decode cX1_fill 15 = .ok (.iload 4, 2) := by decide +kernel
theorem dX1_fill_17 : decode cX1_fill 17 = .ok (.iload_n 3, 1) := by decide +kernel
theorem dX1_fill_18 : decode cX1_fill 18 = .ok (.iastore, 1) := by decide +kernel
theorem dX1_fill_19 : decode cX1_fill 19 = .ok (.iinc 4 1, 3) := by decide +kernel
theorem dX1_fill_22 : decode cX1_fill 22 = .ok (.goto (-19), 3) := by decide +kernel
theorem dX1_fill_25 : decode cX1_fill 25 = .ok (.return_, 1) := by decide +kernel
abbrev cX1_tooMany : ByteArray := prog_3_method_4_code
def yX1_tooMany : MethodName := ⟨RX1, "tooMany", "()Z"⟩
theorem dX1_tooMany_0 : decode cX1_tooMany 0 = .ok (.aload_n 0, 1) := by decide +kernel
theorem dX1_tooMany_1 : decode cX1_tooMany 1 = .ok (.invokevirtual 16, 3) := by decide +kernel
theorem dX1_tooMany_4 : decode cX1_tooMany 4 = .ok (.bipush 20, 2) := by decide +kernel
theorem dX1_tooMany_6 : decode cX1_tooMany 6 = .ok (.if_icmp .le 7, 3) := by decide +kernel
theorem dX1_tooMany_9 : decode cX1_tooMany 9 = .ok (.iconst 1, 1) := by decide +kernel
theorem dX1_tooMany_10 : decode cX1_tooMany 10 = .ok (.goto 4, 3) := by decide +kernel
theorem dX1_tooMany_13 : decode cX1_tooMany 13 = .ok (.iconst 0, 1) := by decide +kernel
theorem dX1_tooMany_14 : decode cX1_tooMany 14 = .ok (.istore_n 1, 1) := by decide +kernel
theorem dX1_tooMany_15 : decode cX1_tooMany 15 = .ok (.iconst 0, 1) := by decide +kernel
theorem dX1_tooMany_16 : decode cX1_tooMany 16 = .ok (.istore_n 2, 1) := by decide +kernel
theorem dX1_tooMany_17 : decode cX1_tooMany 17 = .ok (.iload_n 2, 1) := by decide +kernel
theorem dX1_tooMany_18 : decode cX1_tooMany 18 = .ok (.bipush 64, 2) := by decide +kernel
theorem dX1_tooMany_20 : decode cX1_tooMany 20 = .ok (.if_icmp .ge 25, 3) := by decide +kernel
theorem dX1_tooMany_23 : decode cX1_tooMany 23 = .ok (.iload_n 1, 1) := by decide +kernel
theorem dX1_tooMany_24 : decode cX1_tooMany 24 = .ok (.ifCond .eq 21, 3) := by decide +kernel
theorem dX1_tooMany_27 : decode cX1_tooMany 27 = .ok (.aload_n 0, 1) := by decide +kernel
theorem dX1_tooMany_28 : decode cX1_tooMany 28 = .ok (.getfield 7, 3) := by decide +kernel
theorem dX1_tooMany_31 : decode cX1_tooMany 31 = .ok (.iload_n 2, 1) := by decide +kernel
theorem dX1_tooMany_32 : decode cX1_tooMany 32 = .ok (.aload_n 0, 1) := by decide +kernel
theorem dX1_tooMany_33 : decode cX1_tooMany 33 = .ok (.getfield 13, 3) := by decide +kernel
theorem dX1_tooMany_36 : decode cX1_tooMany 36 = .ok (.iload_n 2, 1) := by decide +kernel
theorem dX1_tooMany_37 : decode cX1_tooMany 37 = .ok (.iaload, 1) := by decide +kernel
theorem dX1_tooMany_38 : decode cX1_tooMany 38 = .ok (.iastore, 1) := by decide +kernel
theorem dX1_tooMany_39 : decode cX1_tooMany 39 = .ok (.iinc 2 1, 3) := by decide +kernel
theorem dX1_tooMany_42 : decode cX1_tooMany 42 = .ok (.goto (-25), 3) := by decide +kernel
theorem dX1_tooMany_45 : decode cX1_tooMany 45 = .ok (.iload_n 1, 1) := by decide +kernel
theorem dX1_tooMany_46 : decode cX1_tooMany 46 = .ok (.ireturn, 1) := by decide +kernel
abbrev cX1_areas : ByteArray := prog_3_method_16_code
def yX1_areas : MethodName := ⟨RX1, "areas", "()I"⟩
theorem dX1_areas_0 : decode cX1_areas 0 = .ok (.iconst 0, 1) := by decide +kernel
theorem dX1_areas_1 : decode cX1_areas 1 = .ok (.istore_n 1, 1) := by decide +kernel
theorem dX1_areas_2 : decode cX1_areas 2 = .ok (.iconst 0, 1) := by decide +kernel
theorem dX1_areas_3 : decode cX1_areas 3 = .ok (.istore_n 2, 1) := by decide +kernel
theorem dX1_areas_4 : decode cX1_areas 4 = .ok (.iload_n 2, 1) := by decide +kernel
theorem dX1_areas_5 : decode cX1_areas 5 = .ok (.bipush 64, 2) := by decide +kernel
theorem dX1_areas_7 : decode cX1_areas 7 = .ok (.if_icmp .ge 25, 3) := by decide +kernel
theorem dX1_areas_10 : decode cX1_areas 10 = .ok (.aload_n 0, 1) := by decide +kernel
theorem dX1_areas_11 : decode cX1_areas 11 = .ok (.iload_n 2, 1) := by decide +kernel
theorem dX1_areas_12 : decode cX1_areas 12 = .ok (.invokevirtual 46, 3) := by decide +kernel
theorem dX1_areas_15 : decode cX1_areas 15 = .ok (.ifCond .eq 9, 3) := by decide +kernel
theorem dX1_areas_18 : decode cX1_areas 18 = .ok (.iload_n 1, 1) := by decide +kernel
theorem dX1_areas_19 : decode cX1_areas 19 = .ok (.iconst 1, 1) := by decide +kernel
theorem dX1_areas_20 : decode cX1_areas 20 = .ok (.iadd, 1) := by decide +kernel
theorem dX1_areas_21 : decode cX1_areas 21 = .ok (.goto 4, 3) := by decide +kernel
theorem dX1_areas_24 : decode cX1_areas 24 = .ok (.iload_n 1, 1) := by decide +kernel
theorem dX1_areas_25 : decode cX1_areas 25 = .ok (.istore_n 1, 1) := by decide +kernel
theorem dX1_areas_26 : decode cX1_areas 26 = .ok (.iinc 2 1, 3) := by decide +kernel
theorem dX1_areas_29 : decode cX1_areas 29 = .ok (.goto (-25), 3) := by decide +kernel
theorem dX1_areas_32 : decode cX1_areas 32 = .ok (.iload_n 1, 1) := by decide +kernel
theorem dX1_areas_33 : decode cX1_areas 33 = .ok (.ireturn, 1) := by decide +kernel
abbrev cX1_begins : ByteArray := prog_3_method_15_code
def yX1_begins : MethodName := ⟨RX1, "begins", "(I)Z"⟩
theorem dX1_begins_0 : decode cX1_begins 0 = .ok (.aload_n 0, 1) := by decide +kernel
theorem dX1_begins_1 : decode cX1_begins 1 = .ok (.getfield 7, 3) := by decide +kernel
theorem dX1_begins_4 : decode cX1_begins 4 = .ok (.iload_n 1, 1) := by decide +kernel
theorem dX1_begins_5 : decode cX1_begins 5 = .ok (.iaload, 1) := by decide +kernel
theorem dX1_begins_6 : decode cX1_begins 6 = .ok (.ifCond .le 28, 3) := by decide +kernel
theorem dX1_begins_9 : decode cX1_begins 9 = .ok (.iload_n 1, 1) := by decide +kernel
theorem dX1_begins_10 : decode cX1_begins 10 = .ok (.ifCond .eq 20, 3) := by decide +kernel
theorem dX1_begins_13 : decode cX1_begins 13 = .ok (.aload_n 0, 1) := by decide +kernel
theorem dX1_begins_14 : decode cX1_begins 14 = .ok (.getfield 7, 3) := by decide +kernel
theorem dX1_begins_17 : decode cX1_begins 17 = .ok (.iload_n 1, 1) := by decide +kernel
theorem dX1_begins_18 : decode cX1_begins 18 = .ok (.iconst 1, 1) := by decide +kernel
theorem dX1_begins_19 : decode cX1_begins 19 = .ok (.isub, 1) := by decide +kernel
theorem dX1_begins_20 : decode cX1_begins 20 = .ok (.iaload, 1) := by decide +kernel
theorem dX1_begins_21 : decode cX1_begins 21 = .ok (.aload_n 0, 1) := by decide +kernel
theorem dX1_begins_22 : decode cX1_begins 22 = .ok (.getfield 7, 3) := by decide +kernel
theorem dX1_begins_25 : decode cX1_begins 25 = .ok (.iload_n 1, 1) := by decide +kernel
theorem dX1_begins_26 : decode cX1_begins 26 = .ok (.iaload, 1) := by decide +kernel
theorem dX1_begins_27 : decode cX1_begins 27 = .ok (.if_icmp .eq 7, 3) := by decide +kernel
theorem dX1_begins_30 : decode cX1_begins 30 = .ok (.iconst 1, 1) := by decide +kernel
theorem dX1_begins_31 : decode cX1_begins 31 = .ok (.goto 4, 3) := by decide +kernel
theorem dX1_begins_34 : decode cX1_begins 34 = .ok (.iconst 0, 1) := by decide +kernel
theorem dX1_begins_35 : decode cX1_begins 35 = .ok (.ireturn, 1) := by decide +kernel
abbrev cX1_place : ByteArray := prog_3_method_9_code
def yX1_place : MethodName := ⟨RX1, "place", "(III)I"⟩
theorem dX1_place_0 : decode cX1_place 0 = .ok (.iload_n 2, 1) := by decide +kernel
theorem dX1_place_1 : decode cX1_place 1 = .ok (.iconst 1, 1) := by decide +kernel
theorem dX1_place_2 : decode cX1_place 2 = .ok (.if_icmp .lt 23, 3) := by decide +kernel
theorem dX1_place_5 : decode cX1_place 5 = .ok (.iload_n 1, 1) := by decide +kernel
theorem dX1_place_6 : decode cX1_place 6 = .ok (.ifCond .lt 19, 3) := by decide +kernel
theorem dX1_place_9 : decode cX1_place 9 = .ok (.iload_n 1, 1) := by decide +kernel
theorem dX1_place_10 : decode cX1_place 10 = .ok (.bipush 63, 2) := by decide +kernel
theorem dX1_place_12 : decode cX1_place 12 = .ok (.if_icmp .gt 13, 3) := by decide +kernel
theorem dX1_place_15 : decode cX1_place 15 = .ok (.iload_n 3, 1) := by decide +kernel
theorem dX1_place_16 : decode cX1_place 16 = .ok (.ifCond .lt 9, 3) := by decide +kernel
theorem dX1_place_19 : decode cX1_place 19 = .ok (.iload_n 3, 1) := by decide +kernel
theorem dX1_place_20 : decode cX1_place 20 = .ok (.bipush 127, 2) := by decide +kernel
theorem dX1_place_22 : decode cX1_place 22 = .ok (.if_icmp .le 5, 3) := by decide +kernel
theorem dX1_place_25 : decode cX1_place 25 = .ok (.iconst (-1), 1) := by decide +kernel
theorem dX1_place_26 : decode cX1_place 26 = .ok (.ireturn, 1) := by decide +kernel
theorem dX1_place_27 : decode cX1_place 27 = .ok (.aload_n 0, 1) := by decide +kernel
theorem dX1_place_28 : decode cX1_place 28 = .ok (.iload_n 1, 1) := by decide +kernel
theorem dX1_place_29 : decode cX1_place 29 = .ok (.iload_n 2, 1) := by decide +kernel
theorem dX1_place_30 : decode cX1_place 30 = .ok (.invokevirtual 39, 3) := by decide +kernel
theorem dX1_place_33 : decode cX1_place 33 = .ok (.istore 4, 2) := by decide +kernel
theorem dX1_place_35 : decode cX1_place 35 = .ok (.iload 4, 2) := by decide +kernel
theorem dX1_place_37 : decode cX1_place 37 = .ok (.ifCond .ge 12, 3) := by decide +kernel
theorem dX1_place_40 : decode cX1_place 40 = .ok (.aload_n 0, 1) := by decide +kernel
theorem dX1_place_41 : decode cX1_place 41 = .ok (.iconst 0, 1) := by decide +kernel
theorem dX1_place_42 : decode cX1_place 42 = .ok (.iload_n 2, 1) := by decide +kernel
theorem dX1_place_43 : decode cX1_place 43 = .ok (.invokevirtual 39, 3) := by decide +kernel
theorem dX1_place_46 : decode cX1_place 46 = .ok (.goto 5, 3) := by decide +kernel
theorem dX1_place_49 : decode cX1_place 49 = .ok (.iload 4, 2) := by decide +kernel
theorem dX1_place_51 : decode cX1_place 51 = .ok (.istore 4, 2) := by decide +kernel
theorem dX1_place_53 : decode cX1_place 53 = .ok (.iload 4, 2) := by decide +kernel
theorem dX1_place_55 : decode cX1_place 55 = .ok (.ifCond .ge 6, 3) := by decide +kernel
theorem dX1_place_58 : decode cX1_place 58 = .ok (.bipush (-3), 2) := by decide +kernel
theorem dX1_place_60 : decode cX1_place 60 = .ok (.ireturn, 1) := by decide +kernel
theorem dX1_place_61 : decode cX1_place 61 = .ok (.aload_n 0, 1) := by decide +kernel
theorem dX1_place_62 : decode cX1_place 62 = .ok (.invokevirtual 28, 3) := by decide +kernel
theorem dX1_place_65 : decode cX1_place 65 = .ok (.aload_n 0, 1) := by decide +kernel
theorem dX1_place_66 : decode cX1_place 66 = .ok (.iload 4, 2) := by decide +kernel
theorem dX1_place_68 : decode cX1_place 68 = .ok (.iload_n 2, 1) := by decide +kernel
theorem dX1_place_69 : decode cX1_place 69 = .ok (.iload_n 3, 1) := by decide +kernel
theorem dX1_place_70 : decode cX1_place 70 = .ok (.iconst 1, 1) := by decide +kernel
theorem dX1_place_71 : decode cX1_place 71 = .ok (.iadd, 1) := by decide +kernel
theorem dX1_place_72 : decode cX1_place 72 = .ok (.invokevirtual 31, 3) := by decide +kernel
theorem dX1_place_75 : decode cX1_place 75 = .ok (.aload_n 0, 1) := by decide +kernel
theorem dX1_place_76 : decode cX1_place 76 = .ok (.invokevirtual 35, 3) := by decide +kernel
theorem dX1_place_79 : decode cX1_place 79 = .ok (.ifCond .eq 8, 3) := by decide +kernel
theorem dX1_place_82 : decode cX1_place 82 = .ok (.bipush (-2), 2) := by decide +kernel
theorem dX1_place_84 : decode cX1_place 84 = .ok (.goto 5, 3) := by decide +kernel
theorem dX1_place_87 : decode cX1_place 87 = .ok (.iload 4, 2) := by decide +kernel
theorem dX1_place_89 : decode cX1_place 89 = .ok (.ireturn, 1) := by decide +kernel
abbrev cX1_room : ByteArray := prog_3_method_8_code
def yX1_room : MethodName := ⟨RX1, "room", "(II)I"⟩
theorem dX1_room_0 : decode cX1_room 0 = .ok (.iload_n 1, 1) := by decide +kernel
theorem dX1_room_1 : decode cX1_room 1 = .ok (.istore_n 3, 1) := by decide +kernel
theorem dX1_room_2 : decode cX1_room 2 = .ok (.iload_n 3, 1) := by decide +kernel
theorem dX1_room_3 : decode cX1_room 3 = .ok (.bipush 64, 2) := by decide +kernel
theorem dX1_room_5 : decode cX1_room 5 = .ok (.if_icmp .ge 29, 3) := by decide +kernel
theorem dX1_room_8 : decode cX1_room 8 = .ok (.aload_n 0, 1) := by decide +kernel
theorem dX1_room_9 : decode cX1_room 9 = .ok (.iload_n 3, 1) := by decide +kernel
theorem dX1_room_10 : decode cX1_room 10 = .ok (.iload_n 2, 1) := by decide +kernel
theorem dX1_room_11 : decode cX1_room 11 = .ok (.invokevirtual 20, 3) := by decide +kernel
theorem dX1_room_14 : decode cX1_room 14 = .ok (.ifCond .eq 14, 3) := by decide +kernel
theorem dX1_room_17 : decode cX1_room 17 = .ok (.aload_n 0, 1) := by decide +kernel
theorem dX1_room_18 : decode cX1_room 18 = .ok (.iload_n 3, 1) := by decide +kernel
theorem dX1_room_19 : decode cX1_room 19 = .ok (.iload_n 2, 1) := by decide +kernel
theorem dX1_room_20 : decode cX1_room 20 = .ok (.invokevirtual 24, 3) := by decide +kernel
theorem dX1_room_23 : decode cX1_room 23 = .ok (.ifCond .ne 5, 3) := by decide +kernel
theorem dX1_room_26 : decode cX1_room 26 = .ok (.iload_n 3, 1) := by decide +kernel
theorem dX1_room_27 : decode cX1_room 27 = .ok (.ireturn, 1) := by decide +kernel
theorem dX1_room_28 : decode cX1_room 28 = .ok (.iinc 3 1, 3) := by decide +kernel
theorem dX1_room_31 : decode cX1_room 31 = .ok (.goto (-29), 3) := by decide +kernel
theorem dX1_room_34 : decode cX1_room 34 = .ok (.iconst (-1), 1) := by decide +kernel
theorem dX1_room_35 : decode cX1_room 35 = .ok (.ireturn, 1) := by decide +kernel
abbrev cX1_free : ByteArray := prog_3_method_10_code
def yX1_free : MethodName := ⟨RX1, "free", "(II)I"⟩
theorem dX1_free_0 : decode cX1_free 0 = .ok (.aload_n 0, 1) := by decide +kernel
theorem dX1_free_1 : decode cX1_free 1 = .ok (.iload_n 1, 1) := by decide +kernel
theorem dX1_free_2 : decode cX1_free 2 = .ok (.iload_n 2, 1) := by decide +kernel
theorem dX1_free_3 : decode cX1_free 3 = .ok (.invokevirtual 20, 3) := by decide +kernel
theorem dX1_free_6 : decode cX1_free 6 = .ok (.ifCond .ne 5, 3) := by decide +kernel
theorem dX1_free_9 : decode cX1_free 9 = .ok (.iconst (-1), 1) := by decide +kernel
theorem dX1_free_10 : decode cX1_free 10 = .ok (.ireturn, 1) := by decide +kernel
theorem dX1_free_11 : decode cX1_free 11 = .ok (.aload_n 0, 1) := by decide +kernel
theorem dX1_free_12 : decode cX1_free 12 = .ok (.iload_n 1, 1) := by decide +kernel
theorem dX1_free_13 : decode cX1_free 13 = .ok (.iload_n 2, 1) := by decide +kernel
theorem dX1_free_14 : decode cX1_free 14 = .ok (.invokevirtual 24, 3) := by decide +kernel
theorem dX1_free_17 : decode cX1_free 17 = .ok (.istore_n 3, 1) := by decide +kernel
theorem dX1_free_18 : decode cX1_free 18 = .ok (.aload_n 0, 1) := by decide +kernel
theorem dX1_free_19 : decode cX1_free 19 = .ok (.invokevirtual 28, 3) := by decide +kernel
theorem dX1_free_22 : decode cX1_free 22 = .ok (.aload_n 0, 1) := by decide +kernel
theorem dX1_free_23 : decode cX1_free 23 = .ok (.iload_n 1, 1) := by decide +kernel
theorem dX1_free_24 : decode cX1_free 24 = .ok (.iload_n 2, 1) := by decide +kernel
theorem dX1_free_25 : decode cX1_free 25 = .ok (.iconst 0, 1) := by decide +kernel
theorem dX1_free_26 : decode cX1_free 26 = .ok (.invokevirtual 31, 3) := by decide +kernel
theorem dX1_free_29 : decode cX1_free 29 = .ok (.aload_n 0, 1) := by decide +kernel
theorem dX1_free_30 : decode cX1_free 30 = .ok (.invokevirtual 35, 3) := by decide +kernel
theorem dX1_free_33 : decode cX1_free 33 = .ok (.ifCond .eq 8, 3) := by decide +kernel
theorem dX1_free_36 : decode cX1_free 36 = .ok (.bipush (-2), 2) := by decide +kernel
theorem dX1_free_38 : decode cX1_free 38 = .ok (.goto 4, 3) := by decide +kernel
theorem dX1_free_41 : decode cX1_free 41 = .ok (.iload_n 3, 1) := by decide +kernel
theorem dX1_free_42 : decode cX1_free 42 = .ok (.ireturn, 1) := by decide +kernel
abbrev cX1_protect : ByteArray := prog_3_method_11_code
def yX1_protect : MethodName := ⟨RX1, "protect", "(III)I"⟩
theorem dX1_protect_0 : decode cX1_protect 0 = .ok (.aload_n 0, 1) := by decide +kernel
theorem dX1_protect_1 : decode cX1_protect 1 = .ok (.iload_n 1, 1) := by decide +kernel
theorem dX1_protect_2 : decode cX1_protect 2 = .ok (.iload_n 2, 1) := by decide +kernel
theorem dX1_protect_3 : decode cX1_protect 3 = .ok (.invokevirtual 20, 3) := by decide +kernel
theorem dX1_protect_6 : decode cX1_protect 6 = .ok (.ifCond .eq 13, 3) := by decide +kernel
theorem dX1_protect_9 : decode cX1_protect 9 = .ok (.iload_n 3, 1) := by decide +kernel
theorem dX1_protect_10 : decode cX1_protect 10 = .ok (.ifCond .lt 9, 3) := by decide +kernel
theorem dX1_protect_13 : decode cX1_protect 13 = .ok (.iload_n 3, 1) := by decide +kernel
theorem dX1_protect_14 : decode cX1_protect 14 = .ok (.bipush 7, 2) := by decide +kernel
theorem dX1_protect_16 : decode cX1_protect 16 = .ok (.if_icmp .le 5, 3) := by decide +kernel
theorem dX1_protect_19 : decode cX1_protect 19 = .ok (.iconst (-1), 1) := by decide +kernel
theorem dX1_protect_20 : decode cX1_protect 20 = .ok (.ireturn, 1) := by decide +kernel
theorem dX1_protect_21 : decode cX1_protect 21 = .ok (.aload_n 0, 1) := by decide +kernel
theorem dX1_protect_22 : decode cX1_protect 22 = .ok (.iload_n 1, 1) := by decide +kernel
theorem dX1_protect_23 : decode cX1_protect 23 = .ok (.iload_n 2, 1) := by decide +kernel
theorem dX1_protect_24 : decode cX1_protect 24 = .ok (.invokevirtual 24, 3) := by decide +kernel
theorem dX1_protect_27 : decode cX1_protect 27 = .ok (.iload_n 2, 1) := by decide +kernel
theorem dX1_protect_28 : decode cX1_protect 28 = .ok (.if_icmp .ge 6, 3) := by decide +kernel
theorem dX1_protect_31 : decode cX1_protect 31 = .ok (.bipush (-3), 2) := by decide +kernel
theorem dX1_protect_33 : decode cX1_protect 33 = .ok (.ireturn, 1) := by decide +kernel
theorem dX1_protect_34 : decode cX1_protect 34 = .ok (.aload_n 0, 1) := by decide +kernel
theorem dX1_protect_35 : decode cX1_protect 35 = .ok (.invokevirtual 28, 3) := by decide +kernel
theorem dX1_protect_38 : decode cX1_protect 38 = .ok (.iconst 0, 1) := by decide +kernel
theorem dX1_protect_39 : decode cX1_protect 39 = .ok (.istore 4, 2) := by decide +kernel
theorem dX1_protect_41 : decode cX1_protect 41 = .ok (.iload_n 1, 1) := by decide +kernel
theorem dX1_protect_42 : decode cX1_protect 42 = .ok (.istore 5, 2) := by decide +kernel
theorem dX1_protect_44 : decode cX1_protect 44 = .ok (.iload 5, 2) := by decide +kernel
theorem dX1_protect_46 : decode cX1_protect 46 = .ok (.iload_n 1, 1) := by decide +kernel
theorem dX1_protect_47 : decode cX1_protect 47 = .ok (.iload_n 2, 1) := by decide +kernel
theorem dX1_protect_48 : decode cX1_protect 48 = .ok (.iadd, 1) := by decide +kernel
theorem dX1_protect_49 : decode cX1_protect 49 = .ok (.if_icmp .ge 56, 3) := by decide +kernel
theorem dX1_protect_52 : decode cX1_protect 52 = .ok (.aload_n 0, 1) := by decide +kernel
theorem dX1_protect_53 : decode cX1_protect 53 = .ok (.getfield 7, 3) := by decide +kernel
theorem dX1_protect_56 : decode cX1_protect 56 = .ok (.iload 5, 2) := by decide +kernel
theorem dX1_protect_58 : decode cX1_protect 58 = .ok (.iaload, 1) := by decide +kernel
theorem dX1_protect_59 : decode cX1_protect 59 = .ok (.iconst 1, 1) := by decide +kernel
theorem dX1_protect_60 : decode cX1_protect 60 = .ok (.isub, 1) := by decide +kernel
theorem dX1_protect_61 : decode cX1_protect 61 = .ok (.istore 6, 2) := by decide +kernel
theorem dX1_protect_63 : decode cX1_protect 63 = .ok (.iload 6, 2) := by decide +kernel
theorem dX1_protect_65 : decode cX1_protect 65 = .ok (.bipush 7, 2) := by decide +kernel
theorem dX1_protect_67 : decode cX1_protect 67 = .ok (.iand, 1) := by decide +kernel
theorem dX1_protect_68 : decode cX1_protect 68 = .ok (.iload_n 3, 1) := by decide +kernel
theorem dX1_protect_69 : decode cX1_protect 69 = .ok (.if_icmp .eq 10, 3) := by decide +kernel
theorem dX1_protect_72 : decode cX1_protect 72 = .ok (.iload 4, 2) := by decide +kernel
theorem dX1_protect_74 : decode cX1_protect 74 = .ok (.iconst 1, 1) := by decide +kernel
theorem dX1_protect_75 : decode cX1_protect 75 = .ok (.iadd, 1) := by decide +kernel
theorem dX1_protect_76 : decode cX1_protect 76 = .ok (.goto 5, 3) := by decide +kernel
theorem dX1_protect_79 : decode cX1_protect 79 = .ok (.iload 4, 2) := by decide +kernel
theorem dX1_protect_81 : decode cX1_protect 81 = .ok (.istore 4, 2) := by decide +kernel
theorem dX1_protect_83 : decode cX1_protect 83 = .ok (.aload_n 0, 1) := by decide +kernel
theorem dX1_protect_84 : decode cX1_protect 84 = .ok (.getfield 7, 3) := by decide +kernel
theorem dX1_protect_87 : decode cX1_protect 87 = .ok (.iload 5, 2) := by decide +kernel
theorem dX1_protect_89 : decode cX1_protect 89 = .ok (.iload 6, 2) := by decide +kernel
theorem dX1_protect_91 : decode cX1_protect 91 = .ok (.bipush (-8), 2) := by decide +kernel
theorem dX1_protect_93 : decode cX1_protect 93 = .ok (.iand, 1) := by decide +kernel
theorem dX1_protect_94 : decode cX1_protect 94 = .ok (.iload_n 3, 1) := by decide +kernel
theorem dX1_protect_95 : decode cX1_protect 95 = .ok (.ior, 1) := by decide +kernel
theorem dX1_protect_96 : decode cX1_protect 96 = .ok (.iconst 1, 1) := by decide +kernel
theorem dX1_protect_97 : decode cX1_protect 97 = .ok (.iadd, 1) := by decide +kernel
theorem dX1_protect_98 : decode cX1_protect 98 = .ok (.iastore, 1) := by decide +kernel
theorem dX1_protect_99 : decode cX1_protect 99 = .ok (.iinc 5 1, 3) := by decide +kernel
theorem dX1_protect_102 : decode cX1_protect 102 = .ok (.goto (-58), 3) := by decide +kernel
theorem dX1_protect_105 : decode cX1_protect 105 = .ok (.aload_n 0, 1) := by decide +kernel
theorem dX1_protect_106 : decode cX1_protect 106 = .ok (.invokevirtual 35, 3) := by decide +kernel
theorem dX1_protect_109 : decode cX1_protect 109 = .ok (.ifCond .eq 8, 3) := by decide +kernel
theorem dX1_protect_112 : decode cX1_protect 112 = .ok (.bipush (-2), 2) := by decide +kernel
theorem dX1_protect_114 : decode cX1_protect 114 = .ok (.goto 5, 3) := by decide +kernel
theorem dX1_protect_117 : decode cX1_protect 117 = .ok (.iload 4, 2) := by decide +kernel
theorem dX1_protect_119 : decode cX1_protect 119 = .ok (.ireturn, 1) := by decide +kernel
abbrev cX1_rights : ByteArray := prog_3_method_13_code
def yX1_rights : MethodName := ⟨RX1, "rights", "(I)I"⟩
theorem dX1_rights_0 : decode cX1_rights 0 = .ok (.aload_n 0, 1) := by decide +kernel
theorem dX1_rights_1 : decode cX1_rights 1 = .ok (.iload_n 1, 1) := by decide +kernel
theorem dX1_rights_2 : decode cX1_rights 2 = .ok (.invokevirtual 42, 3) := by decide +kernel
theorem dX1_rights_5 : decode cX1_rights 5 = .ok (.ifCond .ne 7, 3) := by decide +kernel
theorem dX1_rights_8 : decode cX1_rights 8 = .ok (.iconst (-1), 1) := by decide +kernel
theorem dX1_rights_9 : decode cX1_rights 9 = .ok (.goto 28, 3) := by decide +kernel
theorem dX1_rights_12 : decode cX1_rights 12 = .ok (.aload_n 0, 1) := by decide +kernel
theorem dX1_rights_13 : decode cX1_rights 13 = .ok (.getfield 7, 3) := by decide +kernel
theorem dX1_rights_16 : decode cX1_rights 16 = .ok (.iload_n 1, 1) := by decide +kernel
theorem dX1_rights_17 : decode cX1_rights 17 = .ok (.iaload, 1) := by decide +kernel
theorem dX1_rights_18 : decode cX1_rights 18 = .ok (.ifCond .ne 8, 3) := by decide +kernel
theorem dX1_rights_21 : decode cX1_rights 21 = .ok (.bipush (-3), 2) := by decide +kernel
theorem dX1_rights_23 : decode cX1_rights 23 = .ok (.goto 14, 3) := by decide +kernel
theorem dX1_rights_26 : decode cX1_rights 26 = .ok (.aload_n 0, 1) := by decide +kernel
theorem dX1_rights_27 : decode cX1_rights 27 = .ok (.getfield 7, 3) := by decide +kernel
theorem dX1_rights_30 : decode cX1_rights 30 = .ok (.iload_n 1, 1) := by decide +kernel
theorem dX1_rights_31 : decode cX1_rights 31 = .ok (.iaload, 1) := by decide +kernel
theorem dX1_rights_32 : decode cX1_rights 32 = .ok (.iconst 1, 1) := by decide +kernel
theorem dX1_rights_33 : decode cX1_rights 33 = .ok (.isub, 1) := by decide +kernel
theorem dX1_rights_34 : decode cX1_rights 34 = .ok (.bipush 7, 2) := by decide +kernel
theorem dX1_rights_36 : decode cX1_rights 36 = .ok (.iand, 1) := by decide +kernel
theorem dX1_rights_37 : decode cX1_rights 37 = .ok (.ireturn, 1) := by decide +kernel
abbrev cX1_page : ByteArray := prog_3_method_12_code
def yX1_page : MethodName := ⟨RX1, "page", "(I)Z"⟩
theorem dX1_page_0 : decode cX1_page 0 = .ok (.iload_n 1, 1) := by decide +kernel
theorem dX1_page_1 : decode cX1_page 1 = .ok (.ifCond .lt 13, 3) := by decide +kernel
theorem dX1_page_4 : decode cX1_page 4 = .ok (.iload_n 1, 1) := by decide +kernel
theorem dX1_page_5 : decode cX1_page 5 = .ok (.bipush 63, 2) := by decide +kernel
theorem dX1_page_7 : decode cX1_page 7 = .ok (.if_icmp .gt 7, 3) := by decide +kernel
theorem dX1_page_10 : decode cX1_page 10 = .ok (.iconst 1, 1) := by decide +kernel
theorem dX1_page_11 : decode cX1_page 11 = .ok (.goto 4, 3) := by decide +kernel
theorem dX1_page_14 : decode cX1_page 14 = .ok (.iconst 0, 1) := by decide +kernel
theorem dX1_page_15 : decode cX1_page 15 = .ok (.ireturn, 1) := by decide +kernel
abbrev cX1_tag : ByteArray := prog_3_method_14_code
def yX1_tag : MethodName := ⟨RX1, "tag", "(I)I"⟩
theorem dX1_tag_0 : decode cX1_tag 0 = .ok (.aload_n 0, 1) := by decide +kernel
theorem dX1_tag_1 : decode cX1_tag 1 = .ok (.iload_n 1, 1) := by decide +kernel
theorem dX1_tag_2 : decode cX1_tag 2 = .ok (.invokevirtual 42, 3) := by decide +kernel
theorem dX1_tag_5 : decode cX1_tag 5 = .ok (.ifCond .ne 7, 3) := by decide +kernel
theorem dX1_tag_8 : decode cX1_tag 8 = .ok (.iconst (-1), 1) := by decide +kernel
theorem dX1_tag_9 : decode cX1_tag 9 = .ok (.goto 27, 3) := by decide +kernel
theorem dX1_tag_12 : decode cX1_tag 12 = .ok (.aload_n 0, 1) := by decide +kernel
theorem dX1_tag_13 : decode cX1_tag 13 = .ok (.getfield 7, 3) := by decide +kernel
theorem dX1_tag_16 : decode cX1_tag 16 = .ok (.iload_n 1, 1) := by decide +kernel
theorem dX1_tag_17 : decode cX1_tag 17 = .ok (.iaload, 1) := by decide +kernel
theorem dX1_tag_18 : decode cX1_tag 18 = .ok (.ifCond .ne 8, 3) := by decide +kernel
theorem dX1_tag_21 : decode cX1_tag 21 = .ok (.bipush (-3), 2) := by decide +kernel
theorem dX1_tag_23 : decode cX1_tag 23 = .ok (.goto 13, 3) := by decide +kernel
theorem dX1_tag_26 : decode cX1_tag 26 = .ok (.aload_n 0, 1) := by decide +kernel
theorem dX1_tag_27 : decode cX1_tag 27 = .ok (.getfield 7, 3) := by decide +kernel
theorem dX1_tag_30 : decode cX1_tag 30 = .ok (.iload_n 1, 1) := by decide +kernel
theorem dX1_tag_31 : decode cX1_tag 31 = .ok (.iaload, 1) := by decide +kernel
theorem dX1_tag_32 : decode cX1_tag 32 = .ok (.iconst 1, 1) := by decide +kernel
theorem dX1_tag_33 : decode cX1_tag 33 = .ok (.isub, 1) := by decide +kernel
theorem dX1_tag_34 : decode cX1_tag 34 = .ok (.iconst 3, 1) := by decide +kernel
theorem dX1_tag_35 : decode cX1_tag 35 = .ok (.ishr, 1) := by decide +kernel
theorem dX1_tag_36 : decode cX1_tag 36 = .ok (.ireturn, 1) := by decide +kernel
abbrev cX1_areaFirst : ByteArray := prog_3_method_17_code
def yX1_areaFirst : MethodName := ⟨RX1, "areaFirst", "(I)I"⟩
theorem dX1_areaFirst_0 : decode cX1_areaFirst 0 = .ok (.iconst 0, 1) := by decide +kernel
theorem dX1_areaFirst_1 : decode cX1_areaFirst 1 = .ok (.istore_n 2, 1) := by decide +kernel
theorem dX1_areaFirst_2 : decode cX1_areaFirst 2 = .ok (.iconst 0, 1) := by decide +kernel
theorem dX1_areaFirst_3 : decode cX1_areaFirst 3 = .ok (.istore_n 3, 1) := by decide +kernel
theorem dX1_areaFirst_4 : decode cX1_areaFirst 4 = .ok (.iload_n 3, 1) := by decide +kernel
theorem dX1_areaFirst_5 : decode cX1_areaFirst 5 = .ok (.bipush 64, 2) := by decide +kernel
theorem dX1_areaFirst_7 : decode cX1_areaFirst 7 = .ok (.if_icmp .ge 27, 3) := by decide +kernel
theorem dX1_areaFirst_10 : decode cX1_areaFirst 10 = .ok (.aload_n 0, 1) := by decide +kernel
theorem dX1_areaFirst_11 : decode cX1_areaFirst 11 = .ok (.iload_n 3, 1) := by decide +kernel
theorem dX1_areaFirst_12 : decode cX1_areaFirst 12 = .ok (.invokevirtual 46, 3) := by decide +kernel
theorem dX1_areaFirst_15 : decode cX1_areaFirst 15 = .ok (.ifCond .eq 13, 3) := by decide +kernel
theorem dX1_areaFirst_18 : decode cX1_areaFirst 18 = .ok (.iload_n 2, 1) := by decide +kernel
theorem dX1_areaFirst_19 : decode cX1_areaFirst 19 = .ok (.iload_n 1, 1) := by decide +kernel
theorem dX1_areaFirst_20 : decode cX1_areaFirst 20 = .ok (.if_icmp .ne 5, 3) := by decide +kernel
theorem dX1_areaFirst_23 : decode cX1_areaFirst 23 = .ok (.iload_n 3, 1) := by decide +kernel
theorem dX1_areaFirst_24 : decode cX1_areaFirst 24 = .ok (.ireturn, 1) := by decide +kernel
theorem dX1_areaFirst_25 : decode cX1_areaFirst 25 = .ok (.iinc 2 1, 3) := by decide +kernel
theorem dX1_areaFirst_28 : decode cX1_areaFirst 28 = .ok (.iinc 3 1, 3) := by decide +kernel
theorem dX1_areaFirst_31 : decode cX1_areaFirst 31 = .ok (.goto (-27), 3) := by decide +kernel
theorem dX1_areaFirst_34 : decode cX1_areaFirst 34 = .ok (.bipush (-3), 2) := by decide +kernel
theorem dX1_areaFirst_36 : decode cX1_areaFirst 36 = .ok (.ireturn, 1) := by decide +kernel
abbrev cX1_areaLength : ByteArray := prog_3_method_18_code
def yX1_areaLength : MethodName := ⟨RX1, "areaLength", "(I)I"⟩
theorem dX1_areaLength_0 : decode cX1_areaLength 0 = .ok (.aload_n 0, 1) := by decide +kernel
theorem dX1_areaLength_1 : decode cX1_areaLength 1 = .ok (.iload_n 1, 1) := by decide +kernel
theorem dX1_areaLength_2 : decode cX1_areaLength 2 = .ok (.invokevirtual 49, 3) := by decide +kernel
theorem dX1_areaLength_5 : decode cX1_areaLength 5 = .ok (.istore_n 2, 1) := by decide +kernel
theorem dX1_areaLength_6 : decode cX1_areaLength 6 = .ok (.iload_n 2, 1) := by decide +kernel
theorem dX1_areaLength_7 : decode cX1_areaLength 7 = .ok (.ifCond .ge 8, 3) := by decide +kernel
theorem dX1_areaLength_10 : decode cX1_areaLength 10 = .ok (.bipush 64, 2) := by decide +kernel
theorem dX1_areaLength_12 : decode cX1_areaLength 12 = .ok (.goto 4, 3) := by decide +kernel
theorem dX1_areaLength_15 : decode cX1_areaLength 15 = .ok (.iload_n 2, 1) := by decide +kernel
theorem dX1_areaLength_16 : decode cX1_areaLength 16 = .ok (.istore_n 3, 1) := by decide +kernel
theorem dX1_areaLength_17 : decode cX1_areaLength 17 = .ok (.iload_n 3, 1) := by decide +kernel
theorem dX1_areaLength_18 : decode cX1_areaLength 18 = .ok (.bipush 64, 2) := by decide +kernel
theorem dX1_areaLength_20 : decode cX1_areaLength 20 = .ok (.if_icmp .ge 24, 3) := by decide +kernel
theorem dX1_areaLength_23 : decode cX1_areaLength 23 = .ok (.aload_n 0, 1) := by decide +kernel
theorem dX1_areaLength_24 : decode cX1_areaLength 24 = .ok (.getfield 7, 3) := by decide +kernel
theorem dX1_areaLength_27 : decode cX1_areaLength 27 = .ok (.iload_n 3, 1) := by decide +kernel
theorem dX1_areaLength_28 : decode cX1_areaLength 28 = .ok (.iaload, 1) := by decide +kernel
theorem dX1_areaLength_29 : decode cX1_areaLength 29 = .ok (.aload_n 0, 1) := by decide +kernel
theorem dX1_areaLength_30 : decode cX1_areaLength 30 = .ok (.getfield 7, 3) := by decide +kernel
theorem dX1_areaLength_33 : decode cX1_areaLength 33 = .ok (.iload_n 2, 1) := by decide +kernel
theorem dX1_areaLength_34 : decode cX1_areaLength 34 = .ok (.iaload, 1) := by decide +kernel
theorem dX1_areaLength_35 : decode cX1_areaLength 35 = .ok (.if_icmp .ne 9, 3) := by decide +kernel
theorem dX1_areaLength_38 : decode cX1_areaLength 38 = .ok (.iinc 3 1, 3) := by decide +kernel
theorem dX1_areaLength_41 : decode cX1_areaLength 41 = .ok (.goto (-24), 3) := by decide +kernel
theorem dX1_areaLength_44 : decode cX1_areaLength 44 = .ok (.iload_n 2, 1) := by decide +kernel
theorem dX1_areaLength_45 : decode cX1_areaLength 45 = .ok (.ifCond .ge 8, 3) := by decide +kernel
theorem dX1_areaLength_48 : decode cX1_areaLength 48 = .ok (.bipush (-3), 2) := by decide +kernel
theorem dX1_areaLength_50 : decode cX1_areaLength 50 = .ok (.goto 6, 3) := by decide +kernel
theorem dX1_areaLength_53 : decode cX1_areaLength 53 = .ok (.iload_n 3, 1) := by decide +kernel
theorem dX1_areaLength_54 : decode cX1_areaLength 54 = .ok (.iload_n 2, 1) := by decide +kernel
theorem dX1_areaLength_55 : decode cX1_areaLength 55 = .ok (.isub, 1) := by decide +kernel
theorem dX1_areaLength_56 : decode cX1_areaLength 56 = .ok (.ireturn, 1) := by decide +kernel
abbrev cX1_areaOf : ByteArray := prog_3_method_19_code
def yX1_areaOf : MethodName := ⟨RX1, "areaOf", "(I)I"⟩
theorem dX1_areaOf_0 : decode cX1_areaOf 0 = .ok (.aload_n 0, 1) := by decide +kernel
theorem dX1_areaOf_1 : decode cX1_areaOf 1 = .ok (.iload_n 1, 1) := by decide +kernel
theorem dX1_areaOf_2 : decode cX1_areaOf 2 = .ok (.invokevirtual 42, 3) := by decide +kernel
theorem dX1_areaOf_5 : decode cX1_areaOf 5 = .ok (.ifCond .eq 12, 3) := by decide +kernel
theorem dX1_areaOf_8 : decode cX1_areaOf 8 = .ok (.aload_n 0, 1) := by decide +kernel
theorem dX1_areaOf_9 : decode cX1_areaOf 9 = .ok (.getfield 7, 3) := by decide +kernel
theorem dX1_areaOf_12 : decode cX1_areaOf 12 = .ok (.iload_n 1, 1) := by decide +kernel
theorem dX1_areaOf_13 : decode cX1_areaOf 13 = .ok (.iaload, 1) := by decide +kernel
theorem dX1_areaOf_14 : decode cX1_areaOf 14 = .ok (.ifCond .ne 6, 3) := by decide +kernel
theorem dX1_areaOf_17 : decode cX1_areaOf 17 = .ok (.bipush (-3), 2) := by decide +kernel
theorem dX1_areaOf_19 : decode cX1_areaOf 19 = .ok (.ireturn, 1) := by decide +kernel
theorem dX1_areaOf_20 : decode cX1_areaOf 20 = .ok (.iconst (-1), 1) := by decide +kernel
theorem dX1_areaOf_21 : decode cX1_areaOf 21 = .ok (.istore_n 2, 1) := by decide +kernel
theorem dX1_areaOf_22 : decode cX1_areaOf 22 = .ok (.iconst 0, 1) := by decide +kernel
theorem dX1_areaOf_23 : decode cX1_areaOf 23 = .ok (.istore_n 3, 1) := by decide +kernel
theorem dX1_areaOf_24 : decode cX1_areaOf 24 = .ok (.iload_n 3, 1) := by decide +kernel
theorem dX1_areaOf_25 : decode cX1_areaOf 25 = .ok (.iload_n 1, 1) := by decide +kernel
theorem dX1_areaOf_26 : decode cX1_areaOf 26 = .ok (.if_icmp .gt 25, 3) := by decide +kernel
theorem dX1_areaOf_29 : decode cX1_areaOf 29 = .ok (.aload_n 0, 1) := by decide +kernel
theorem dX1_areaOf_30 : decode cX1_areaOf 30 = .ok (.iload_n 3, 1) := by decide +kernel
theorem dX1_areaOf_31 : decode cX1_areaOf 31 = .ok (.invokevirtual 46, 3) := by decide +kernel
theorem dX1_areaOf_34 : decode cX1_areaOf 34 = .ok (.ifCond .eq 9, 3) := by decide +kernel
theorem dX1_areaOf_37 : decode cX1_areaOf 37 = .ok (.iload_n 2, 1) := by decide +kernel
theorem dX1_areaOf_38 : decode cX1_areaOf 38 = .ok (.iconst 1, 1) := by decide +kernel
theorem dX1_areaOf_39 : decode cX1_areaOf 39 = .ok (.iadd, 1) := by decide +kernel
theorem dX1_areaOf_40 : decode cX1_areaOf 40 = .ok (.goto 4, 3) := by decide +kernel
theorem dX1_areaOf_43 : decode cX1_areaOf 43 = .ok (.iload_n 2, 1) := by decide +kernel
theorem dX1_areaOf_44 : decode cX1_areaOf 44 = .ok (.istore_n 2, 1) := by decide +kernel
theorem dX1_areaOf_45 : decode cX1_areaOf 45 = .ok (.iinc 3 1, 3) := by decide +kernel
theorem dX1_areaOf_48 : decode cX1_areaOf 48 = .ok (.goto (-24), 3) := by decide +kernel
theorem dX1_areaOf_51 : decode cX1_areaOf 51 = .ok (.iload_n 2, 1) := by decide +kernel
theorem dX1_areaOf_52 : decode cX1_areaOf 52 = .ok (.ireturn, 1) := by decide +kernel
abbrev cX1_mapped : ByteArray := prog_3_method_20_code
def yX1_mapped : MethodName := ⟨RX1, "mapped", "()I"⟩
theorem dX1_mapped_0 : decode cX1_mapped 0 = .ok (.aload_n 0, 1) := by decide +kernel
theorem dX1_mapped_1 : decode cX1_mapped 1 = .ok (.iconst 0, 1) := by decide +kernel
theorem dX1_mapped_2 : decode cX1_mapped 2 = .ok (.bipush 64, 2) := by decide +kernel
theorem dX1_mapped_4 : decode cX1_mapped 4 = .ok (.invokevirtual 24, 3) := by decide +kernel
theorem dX1_mapped_7 : decode cX1_mapped 7 = .ok (.ireturn, 1) := by decide +kernel
abbrev cX1_longestFree : ByteArray := prog_3_method_21_code
def yX1_longestFree : MethodName := ⟨RX1, "longestFree", "()I"⟩
theorem dX1_longestFree_0 : decode cX1_longestFree 0 = .ok (.iconst 0, 1) := by decide +kernel
theorem dX1_longestFree_1 : decode cX1_longestFree 1 = .ok (.istore_n 1, 1) := by decide +kernel
theorem dX1_longestFree_2 : decode cX1_longestFree 2 = .ok (.iconst 0, 1) := by decide +kernel
theorem dX1_longestFree_3 : decode cX1_longestFree 3 = .ok (.istore_n 2, 1) := by decide +kernel
theorem dX1_longestFree_4 : decode cX1_longestFree 4 = .ok (.iconst 0, 1) := by decide +kernel
theorem dX1_longestFree_5 : decode cX1_longestFree 5 = .ok (.istore_n 3, 1) := by decide +kernel
theorem dX1_longestFree_6 : decode cX1_longestFree 6 = .ok (.iload_n 3, 1) := by decide +kernel
theorem dX1_longestFree_7 : decode cX1_longestFree 7 = .ok (.bipush 64, 2) := by decide +kernel
theorem dX1_longestFree_9 : decode cX1_longestFree 9 = .ok (.if_icmp .ge 37, 3) := by decide +kernel
theorem dX1_longestFree_12 : decode cX1_longestFree 12 = .ok (.aload_n 0, 1) := by decide +kernel
theorem dX1_longestFree_13 : decode cX1_longestFree 13 = .ok (.getfield 7, 3) := by decide +kernel
theorem dX1_longestFree_16 : decode cX1_longestFree 16 = .ok (.iload_n 3, 1) := by decide +kernel
theorem dX1_longestFree_17 : decode cX1_longestFree 17 = .ok (.iaload, 1) := by decide +kernel
theorem dX1_longestFree_18 : decode cX1_longestFree 18 = .ok (.ifCond .ne 9, 3) := by decide +kernel
theorem dX1_longestFree_21 : decode cX1_longestFree 21 = .ok (.iload_n 2, 1) := by decide +kernel
theorem dX1_longestFree_22 : decode cX1_longestFree 22 = .ok (.iconst 1, 1) := by decide +kernel
theorem dX1_longestFree_23 : decode cX1_longestFree 23 = .ok (.iadd, 1) := by decide +kernel
theorem dX1_longestFree_24 : decode cX1_longestFree 24 = .ok (.goto 4, 3) := by decide +kernel
theorem dX1_longestFree_27 : decode cX1_longestFree 27 = .ok (.iconst 0, 1) := by decide +kernel
theorem dX1_longestFree_28 : decode cX1_longestFree 28 = .ok (.istore_n 2, 1) := by decide +kernel
theorem dX1_longestFree_29 : decode cX1_longestFree 29 = .ok (.iload_n 2, 1) := by decide +kernel
theorem dX1_longestFree_30 : decode cX1_longestFree 30 = .ok (.iload_n 1, 1) := by decide +kernel
theorem dX1_longestFree_31 : decode cX1_longestFree 31 = .ok (.if_icmp .le 7, 3) := by decide +kernel
theorem dX1_longestFree_34 : decode cX1_longestFree 34 = .ok (.iload_n 2, 1) := by decide +kernel
theorem dX1_longestFree_35 : decode cX1_longestFree 35 = .ok (.goto 4, 3) := by decide +kernel
theorem dX1_longestFree_38 : decode cX1_longestFree 38 = .ok (.iload_n 1, 1) := by decide +kernel
theorem dX1_longestFree_39 : decode cX1_longestFree 39 = .ok (.istore_n 1, 1) := by decide +kernel
theorem dX1_longestFree_40 : decode cX1_longestFree 40 = .ok (.iinc 3 1, 3) := by decide +kernel
theorem dX1_longestFree_43 : decode cX1_longestFree 43 = .ok (.goto (-37), 3) := by decide +kernel
theorem dX1_longestFree_46 : decode cX1_longestFree 46 = .ok (.iload_n 1, 1) := by decide +kernel
theorem dX1_longestFree_47 : decode cX1_longestFree 47 = .ok (.ireturn, 1) := by decide +kernel
abbrev cX1_allows : ByteArray := prog_3_method_22_code
def yX1_allows : MethodName := ⟨RX1, "allows", "(III)Z"⟩
theorem dX1_allows_0 : decode cX1_allows 0 = .ok (.aload_n 0, 1) := by decide +kernel
theorem dX1_allows_1 : decode cX1_allows 1 = .ok (.iload_n 1, 1) := by decide +kernel
theorem dX1_allows_2 : decode cX1_allows 2 = .ok (.iload_n 2, 1) := by decide +kernel
theorem dX1_allows_3 : decode cX1_allows 3 = .ok (.invokevirtual 20, 3) := by decide +kernel
theorem dX1_allows_6 : decode cX1_allows 6 = .ok (.ifCond .eq 17, 3) := by decide +kernel
theorem dX1_allows_9 : decode cX1_allows 9 = .ok (.iload_n 3, 1) := by decide +kernel
theorem dX1_allows_10 : decode cX1_allows 10 = .ok (.ifCond .lt 13, 3) := by decide +kernel
theorem dX1_allows_13 : decode cX1_allows 13 = .ok (.iload_n 3, 1) := by decide +kernel
theorem dX1_allows_14 : decode cX1_allows 14 = .ok (.bipush 7, 2) := by decide +kernel
theorem dX1_allows_16 : decode cX1_allows 16 = .ok (.if_icmp .gt 7, 3) := by decide +kernel
theorem dX1_allows_19 : decode cX1_allows 19 = .ok (.iconst 1, 1) := by decide +kernel
theorem dX1_allows_20 : decode cX1_allows 20 = .ok (.goto 4, 3) := by decide +kernel
theorem dX1_allows_23 : decode cX1_allows 23 = .ok (.iconst 0, 1) := by decide +kernel
theorem dX1_allows_24 : decode cX1_allows 24 = .ok (.istore 4, 2) := by decide +kernel
theorem dX1_allows_26 : decode cX1_allows 26 = .ok (.iload_n 1, 1) := by decide +kernel
theorem dX1_allows_27 : decode cX1_allows 27 = .ok (.istore 5, 2) := by decide +kernel
theorem dX1_allows_29 : decode cX1_allows 29 = .ok (.iload 4, 2) := by decide +kernel
theorem dX1_allows_31 : decode cX1_allows 31 = .ok (.ifCond .eq 50, 3) := by decide +kernel
theorem dX1_allows_34 : decode cX1_allows 34 = .ok (.iload 5, 2) := by decide +kernel
theorem dX1_allows_36 : decode cX1_allows 36 = .ok (.iload_n 1, 1) := by decide +kernel
theorem dX1_allows_37 : decode cX1_allows 37 = .ok (.iload_n 2, 1) := by decide +kernel
theorem dX1_allows_38 : decode cX1_allows 38 = .ok (.iadd, 1) := by decide +kernel
theorem dX1_allows_39 : decode cX1_allows 39 = .ok (.if_icmp .ge 42, 3) := by decide +kernel
theorem dX1_allows_42 : decode cX1_allows 42 = .ok (.aload_n 0, 1) := by decide +kernel
theorem dX1_allows_43 : decode cX1_allows 43 = .ok (.getfield 7, 3) := by decide +kernel
theorem dX1_allows_46 : decode cX1_allows 46 = .ok (.iload 5, 2) := by decide +kernel
theorem dX1_allows_48 : decode cX1_allows 48 = .ok (.iaload, 1) := by decide +kernel
theorem dX1_allows_49 : decode cX1_allows 49 = .ok (.ifCond .le 23, 3) := by decide +kernel
theorem dX1_allows_52 : decode cX1_allows 52 = .ok (.iload_n 3, 1) := by decide +kernel
theorem dX1_allows_53 : decode cX1_allows 53 = .ok (.aload_n 0, 1) := by decide +kernel
theorem dX1_allows_54 : decode cX1_allows 54 = .ok (.getfield 7, 3) := by decide +kernel
theorem dX1_allows_57 : decode cX1_allows 57 = .ok (.iload 5, 2) := by decide +kernel
theorem dX1_allows_59 : decode cX1_allows 59 = .ok (.iaload, 1) := by decide +kernel
theorem dX1_allows_60 : decode cX1_allows 60 = .ok (.iconst 1, 1) := by decide +kernel
theorem dX1_allows_61 : decode cX1_allows 61 = .ok (.isub, 1) := by decide +kernel
theorem dX1_allows_62 : decode cX1_allows 62 = .ok (.iconst (-1), 1) := by decide +kernel
theorem dX1_allows_63 : decode cX1_allows 63 = .ok (.ixor, 1) := by decide +kernel
theorem dX1_allows_64 : decode cX1_allows 64 = .ok (.iand, 1) := by decide +kernel
theorem dX1_allows_65 : decode cX1_allows 65 = .ok (.ifCond .ne 7, 3) := by decide +kernel
theorem dX1_allows_68 : decode cX1_allows 68 = .ok (.iconst 1, 1) := by decide +kernel
theorem dX1_allows_69 : decode cX1_allows 69 = .ok (.goto 4, 3) := by decide +kernel
theorem dX1_allows_72 : decode cX1_allows 72 = .ok (.iconst 0, 1) := by decide +kernel
theorem dX1_allows_73 : decode cX1_allows 73 = .ok (.istore 4, 2) := by decide +kernel
theorem dX1_allows_75 : decode cX1_allows 75 = .ok (.iinc 5 1, 3) := by decide +kernel
theorem dX1_allows_78 : decode cX1_allows 78 = .ok (.goto (-49), 3) := by decide +kernel
theorem dX1_allows_81 : decode cX1_allows 81 = .ok (.iload 4, 2) := by decide +kernel
theorem dX1_allows_83 : decode cX1_allows 83 = .ok (.ireturn, 1) := by decide +kernel
abbrev cX1_nextWith : ByteArray := prog_3_method_23_code
def yX1_nextWith : MethodName := ⟨RX1, "nextWith", "(II)I"⟩
theorem dX1_nextWith_0 : decode cX1_nextWith 0 = .ok (.iconst 0, 1) := by decide +kernel
theorem dX1_nextWith_1 : decode cX1_nextWith 1 = .ok (.istore_n 3, 1) := by decide +kernel
theorem dX1_nextWith_2 : decode cX1_nextWith 2 = .ok (.iload_n 3, 1) := by decide +kernel
theorem dX1_nextWith_3 : decode cX1_nextWith 3 = .ok (.bipush 64, 2) := by decide +kernel
theorem dX1_nextWith_5 : decode cX1_nextWith 5 = .ok (.if_icmp .ge 39, 3) := by decide +kernel
theorem dX1_nextWith_8 : decode cX1_nextWith 8 = .ok (.iload_n 3, 1) := by decide +kernel
theorem dX1_nextWith_9 : decode cX1_nextWith 9 = .ok (.iload_n 2, 1) := by decide +kernel
theorem dX1_nextWith_10 : decode cX1_nextWith 10 = .ok (.if_icmp .lt 28, 3) := by decide +kernel
theorem dX1_nextWith_13 : decode cX1_nextWith 13 = .ok (.aload_n 0, 1) := by decide +kernel
theorem dX1_nextWith_14 : decode cX1_nextWith 14 = .ok (.getfield 7, 3) := by decide +kernel
theorem dX1_nextWith_17 : decode cX1_nextWith 17 = .ok (.iload_n 3, 1) := by decide +kernel
theorem dX1_nextWith_18 : decode cX1_nextWith 18 = .ok (.iaload, 1) := by decide +kernel
theorem dX1_nextWith_19 : decode cX1_nextWith 19 = .ok (.ifCond .le 19, 3) := by decide +kernel
theorem dX1_nextWith_22 : decode cX1_nextWith 22 = .ok (.aload_n 0, 1) := by decide +kernel
theorem dX1_nextWith_23 : decode cX1_nextWith 23 = .ok (.getfield 7, 3) := by decide +kernel
theorem dX1_nextWith_26 : decode cX1_nextWith 26 = .ok (.iload_n 3, 1) := by decide +kernel
theorem dX1_nextWith_27 : decode cX1_nextWith 27 = .ok (.iaload, 1) := by decide +kernel
theorem dX1_nextWith_28 : decode cX1_nextWith 28 = .ok (.iconst 1, 1) := by decide +kernel
theorem dX1_nextWith_29 : decode cX1_nextWith 29 = .ok (.isub, 1) := by decide +kernel
theorem dX1_nextWith_30 : decode cX1_nextWith 30 = .ok (.iconst 3, 1) := by decide +kernel
theorem dX1_nextWith_31 : decode cX1_nextWith 31 = .ok (.ishr, 1) := by decide +kernel
theorem dX1_nextWith_32 : decode cX1_nextWith 32 = .ok (.iload_n 1, 1) := by decide +kernel
theorem dX1_nextWith_33 : decode cX1_nextWith 33 = .ok (.if_icmp .ne 5, 3) := by decide +kernel
theorem dX1_nextWith_36 : decode cX1_nextWith 36 = .ok (.iload_n 3, 1) := by decide +kernel
theorem dX1_nextWith_37 : decode cX1_nextWith 37 = .ok (.ireturn, 1) := by decide +kernel
theorem dX1_nextWith_38 : decode cX1_nextWith 38 = .ok (.iinc 3 1, 3) := by decide +kernel
theorem dX1_nextWith_41 : decode cX1_nextWith 41 = .ok (.goto (-39), 3) := by decide +kernel
theorem dX1_nextWith_44 : decode cX1_nextWith 44 = .ok (.bipush (-3), 2) := by decide +kernel
theorem dX1_nextWith_46 : decode cX1_nextWith 46 = .ok (.ireturn, 1) := by decide +kernel
theorem q17 : (Jvm.Cond.initialized "AreaMapModel") ∈ lw_all := lw_g (lw_at lw_m0 2 rfl) rfl
theorem q152 : (Jvm.Cond.instantiable "AreaMapModel" (2 : Nat)) ∈ lw_all := lw_g (lw_at lw_m0 137 rfl) rfl
theorem q154 : (Jvm.Cond.instanceMethod ({ cls := "AreaMapModel", name := "<init>", desc := "()V" } : Jvm.MethodName)) ∈ lw_all := lw_g (lw_at lw_m0 139 rfl) rfl
theorem q155 : (Jvm.Cond.code ({ cls := "AreaMapModel", name := "<init>", desc := "()V" } : Jvm.MethodName) prog_3_method_1_code (1 : Nat) (Option.none : Option Jvm.ClassFile.FieldType)) ∈ lw_all := lw_g (lw_at lw_m0 140 rfl) rfl
theorem q156 : (Jvm.Cond.methodLink "AreaMapModel" (1 : Nat) ({ cls := "java/lang/Object", name := "<init>", desc := "()V" } : Jvm.MethodName)) ∈ lw_all := lw_g (lw_at lw_m0 141 rfl) rfl
theorem q157 : (Jvm.Cond.fieldLink "AreaMapModel" (7 : Nat) "AreaMapModel" "pages" "[I") ∈ lw_all := lw_g (lw_at lw_m0 142 rfl) rfl
theorem q158 : (Jvm.Cond.fieldLink "AreaMapModel" (13 : Nat) "AreaMapModel" "old" "[I") ∈ lw_all := lw_g (lw_at lw_m0 143 rfl) rfl
theorem q159 : (Jvm.Cond.lays "AreaMapModel" "AreaMapModel" "pages" "[I") ∈ lw_all := lw_g (lw_at lw_m0 144 rfl) rfl
theorem q160 : (Jvm.Cond.soleField "AreaMapModel" "pages") ∈ lw_all := lw_g (lw_at lw_m0 145 rfl) rfl
theorem q161 : (Jvm.Cond.lays "AreaMapModel" "AreaMapModel" "old" "[I") ∈ lw_all := lw_g (lw_at lw_m0 146 rfl) rfl
theorem q162 : (Jvm.Cond.soleField "AreaMapModel" "old") ∈ lw_all := lw_g (lw_at lw_m0 147 rfl) rfl
theorem q163 : (Jvm.Cond.superclass "AreaMapModel" "java/lang/Object") ∈ lw_all := lw_g (lw_at lw_m0 148 rfl) rfl
theorem q166 : (Jvm.Cond.instanceMethod ({ cls := "AreaMapModel", name := "map", desc := "(III)I" } : Jvm.MethodName)) ∈ lw_all := lw_g (lw_at lw_m0 151 rfl) rfl
theorem q167 : (Jvm.Cond.selects "AreaMapModel" ({ cls := "AreaMapModel", name := "map", desc := "(III)I" } : Jvm.MethodName) ({ cls := "AreaMapModel", name := "map", desc := "(III)I" } : Jvm.MethodName)) ∈ lw_all := lw_g (lw_at lw_m0 152 rfl) rfl
theorem q168 : (Jvm.Cond.code ({ cls := "AreaMapModel", name := "map", desc := "(III)I" } : Jvm.MethodName) prog_3_method_7_code (5 : Nat) (Option.some Jvm.ClassFile.FieldType.int)) ∈ lw_all := lw_g (lw_at lw_m0 153 rfl) rfl
theorem q169 : (Jvm.Cond.methodLink "AreaMapModel" (20 : Nat) ({ cls := "AreaMapModel", name := "proper", desc := "(II)Z" } : Jvm.MethodName)) ∈ lw_all := lw_g (lw_at lw_m0 154 rfl) rfl
theorem q170 : (Jvm.Cond.privateMethod ({ cls := "AreaMapModel", name := "proper", desc := "(II)Z" } : Jvm.MethodName)) ∈ lw_tbl := lw_at lw_m0 155 rfl
theorem q171 : (Jvm.Cond.instanceMethod ({ cls := "AreaMapModel", name := "proper", desc := "(II)Z" } : Jvm.MethodName)) ∈ lw_all := lw_g (lw_at lw_m0 156 rfl) rfl
theorem q172 : (Jvm.Cond.code ({ cls := "AreaMapModel", name := "proper", desc := "(II)Z" } : Jvm.MethodName) prog_3_method_2_code (3 : Nat) (Option.some Jvm.ClassFile.FieldType.boolean)) ∈ lw_all := lw_g (lw_at lw_m0 157 rfl) rfl
theorem q173 : (Jvm.Cond.methodLink "AreaMapModel" (24 : Nat) ({ cls := "AreaMapModel", name := "used", desc := "(II)I" } : Jvm.MethodName)) ∈ lw_all := lw_g (lw_at lw_m0 158 rfl) rfl
theorem q174 : (Jvm.Cond.privateMethod ({ cls := "AreaMapModel", name := "used", desc := "(II)I" } : Jvm.MethodName)) ∈ lw_tbl := lw_at lw_m0 159 rfl
theorem q175 : (Jvm.Cond.instanceMethod ({ cls := "AreaMapModel", name := "used", desc := "(II)I" } : Jvm.MethodName)) ∈ lw_all := lw_g (lw_at lw_m0 160 rfl) rfl
theorem q176 : (Jvm.Cond.code ({ cls := "AreaMapModel", name := "used", desc := "(II)I" } : Jvm.MethodName) prog_3_method_6_code (5 : Nat) (Option.some Jvm.ClassFile.FieldType.int)) ∈ lw_all := lw_g (lw_at lw_m0 161 rfl) rfl
theorem q177 : (Jvm.Cond.methodLink "AreaMapModel" (28 : Nat) ({ cls := "AreaMapModel", name := "keep", desc := "()V" } : Jvm.MethodName)) ∈ lw_all := lw_g (lw_at lw_m0 162 rfl) rfl
theorem q178 : (Jvm.Cond.privateMethod ({ cls := "AreaMapModel", name := "keep", desc := "()V" } : Jvm.MethodName)) ∈ lw_tbl := lw_at lw_m0 163 rfl
theorem q179 : (Jvm.Cond.instanceMethod ({ cls := "AreaMapModel", name := "keep", desc := "()V" } : Jvm.MethodName)) ∈ lw_all := lw_g (lw_at lw_m0 164 rfl) rfl
theorem q180 : (Jvm.Cond.code ({ cls := "AreaMapModel", name := "keep", desc := "()V" } : Jvm.MethodName) prog_3_method_3_code (2 : Nat) (Option.none : Option Jvm.ClassFile.FieldType)) ∈ lw_all := lw_g (lw_at lw_m0 165 rfl) rfl
theorem q181 : (Jvm.Cond.methodLink "AreaMapModel" (31 : Nat) ({ cls := "AreaMapModel", name := "fill", desc := "(III)V" } : Jvm.MethodName)) ∈ lw_all := lw_g (lw_at lw_m0 166 rfl) rfl
theorem q182 : (Jvm.Cond.privateMethod ({ cls := "AreaMapModel", name := "fill", desc := "(III)V" } : Jvm.MethodName)) ∈ lw_tbl := lw_at lw_m0 167 rfl
theorem q183 : (Jvm.Cond.instanceMethod ({ cls := "AreaMapModel", name := "fill", desc := "(III)V" } : Jvm.MethodName)) ∈ lw_all := lw_g (lw_at lw_m0 168 rfl) rfl
theorem q184 : (Jvm.Cond.code ({ cls := "AreaMapModel", name := "fill", desc := "(III)V" } : Jvm.MethodName) prog_3_method_5_code (5 : Nat) (Option.none : Option Jvm.ClassFile.FieldType)) ∈ lw_all := lw_g (lw_at lw_m0 169 rfl) rfl
theorem q185 : (Jvm.Cond.methodLink "AreaMapModel" (35 : Nat) ({ cls := "AreaMapModel", name := "tooMany", desc := "()Z" } : Jvm.MethodName)) ∈ lw_all := lw_g (lw_at lw_m0 170 rfl) rfl
theorem q186 : (Jvm.Cond.privateMethod ({ cls := "AreaMapModel", name := "tooMany", desc := "()Z" } : Jvm.MethodName)) ∈ lw_tbl := lw_at lw_m0 171 rfl
theorem q187 : (Jvm.Cond.instanceMethod ({ cls := "AreaMapModel", name := "tooMany", desc := "()Z" } : Jvm.MethodName)) ∈ lw_all := lw_g (lw_at lw_m0 172 rfl) rfl
theorem q188 : (Jvm.Cond.code ({ cls := "AreaMapModel", name := "tooMany", desc := "()Z" } : Jvm.MethodName) prog_3_method_4_code (3 : Nat) (Option.some Jvm.ClassFile.FieldType.boolean)) ∈ lw_all := lw_g (lw_at lw_m0 173 rfl) rfl
theorem q189 : (Jvm.Cond.methodLink "AreaMapModel" (16 : Nat) ({ cls := "AreaMapModel", name := "areas", desc := "()I" } : Jvm.MethodName)) ∈ lw_all := lw_g (lw_at lw_m0 174 rfl) rfl
theorem q190 : (Jvm.Cond.instanceMethod ({ cls := "AreaMapModel", name := "areas", desc := "()I" } : Jvm.MethodName)) ∈ lw_all := lw_g (lw_at lw_m0 175 rfl) rfl
theorem q191 : (Jvm.Cond.selects "AreaMapModel" ({ cls := "AreaMapModel", name := "areas", desc := "()I" } : Jvm.MethodName) ({ cls := "AreaMapModel", name := "areas", desc := "()I" } : Jvm.MethodName)) ∈ lw_all := lw_g (lw_at lw_m0 176 rfl) rfl
theorem q192 : (Jvm.Cond.code ({ cls := "AreaMapModel", name := "areas", desc := "()I" } : Jvm.MethodName) prog_3_method_16_code (3 : Nat) (Option.some Jvm.ClassFile.FieldType.int)) ∈ lw_all := lw_g (lw_at lw_m0 177 rfl) rfl
theorem q193 : (Jvm.Cond.methodLink "AreaMapModel" (46 : Nat) ({ cls := "AreaMapModel", name := "begins", desc := "(I)Z" } : Jvm.MethodName)) ∈ lw_all := lw_g (lw_at lw_m0 178 rfl) rfl
theorem q194 : (Jvm.Cond.privateMethod ({ cls := "AreaMapModel", name := "begins", desc := "(I)Z" } : Jvm.MethodName)) ∈ lw_tbl := lw_at lw_m0 179 rfl
theorem q195 : (Jvm.Cond.instanceMethod ({ cls := "AreaMapModel", name := "begins", desc := "(I)Z" } : Jvm.MethodName)) ∈ lw_all := lw_g (lw_at lw_m0 180 rfl) rfl
theorem q196 : (Jvm.Cond.code ({ cls := "AreaMapModel", name := "begins", desc := "(I)Z" } : Jvm.MethodName) prog_3_method_15_code (2 : Nat) (Option.some Jvm.ClassFile.FieldType.boolean)) ∈ lw_all := lw_g (lw_at lw_m0 181 rfl) rfl
theorem q198 : (Jvm.Cond.instanceMethod ({ cls := "AreaMapModel", name := "place", desc := "(III)I" } : Jvm.MethodName)) ∈ lw_all := lw_g (lw_at lw_m0 183 rfl) rfl
theorem q199 : (Jvm.Cond.selects "AreaMapModel" ({ cls := "AreaMapModel", name := "place", desc := "(III)I" } : Jvm.MethodName) ({ cls := "AreaMapModel", name := "place", desc := "(III)I" } : Jvm.MethodName)) ∈ lw_all := lw_g (lw_at lw_m0 184 rfl) rfl
theorem q200 : (Jvm.Cond.code ({ cls := "AreaMapModel", name := "place", desc := "(III)I" } : Jvm.MethodName) prog_3_method_9_code (5 : Nat) (Option.some Jvm.ClassFile.FieldType.int)) ∈ lw_all := lw_g (lw_at lw_m0 185 rfl) rfl
theorem q201 : (Jvm.Cond.methodLink "AreaMapModel" (39 : Nat) ({ cls := "AreaMapModel", name := "room", desc := "(II)I" } : Jvm.MethodName)) ∈ lw_all := lw_g (lw_at lw_m0 186 rfl) rfl
theorem q202 : (Jvm.Cond.privateMethod ({ cls := "AreaMapModel", name := "room", desc := "(II)I" } : Jvm.MethodName)) ∈ lw_tbl := lw_at lw_m0 187 rfl
theorem q203 : (Jvm.Cond.instanceMethod ({ cls := "AreaMapModel", name := "room", desc := "(II)I" } : Jvm.MethodName)) ∈ lw_all := lw_g (lw_at lw_m0 188 rfl) rfl
theorem q204 : (Jvm.Cond.code ({ cls := "AreaMapModel", name := "room", desc := "(II)I" } : Jvm.MethodName) prog_3_method_8_code (4 : Nat) (Option.some Jvm.ClassFile.FieldType.int)) ∈ lw_all := lw_g (lw_at lw_m0 189 rfl) rfl
theorem q206 : (Jvm.Cond.instanceMethod ({ cls := "AreaMapModel", name := "free", desc := "(II)I" } : Jvm.MethodName)) ∈ lw_all := lw_g (lw_at lw_m0 191 rfl) rfl
theorem q207 : (Jvm.Cond.selects "AreaMapModel" ({ cls := "AreaMapModel", name := "free", desc := "(II)I" } : Jvm.MethodName) ({ cls := "AreaMapModel", name := "free", desc := "(II)I" } : Jvm.MethodName)) ∈ lw_all := lw_g (lw_at lw_m0 192 rfl) rfl
theorem q208 : (Jvm.Cond.code ({ cls := "AreaMapModel", name := "free", desc := "(II)I" } : Jvm.MethodName) prog_3_method_10_code (4 : Nat) (Option.some Jvm.ClassFile.FieldType.int)) ∈ lw_all := lw_g (lw_at lw_m0 193 rfl) rfl
theorem q210 : (Jvm.Cond.instanceMethod ({ cls := "AreaMapModel", name := "protect", desc := "(III)I" } : Jvm.MethodName)) ∈ lw_all := lw_g (lw_at lw_m0 195 rfl) rfl
theorem q211 : (Jvm.Cond.selects "AreaMapModel" ({ cls := "AreaMapModel", name := "protect", desc := "(III)I" } : Jvm.MethodName) ({ cls := "AreaMapModel", name := "protect", desc := "(III)I" } : Jvm.MethodName)) ∈ lw_all := lw_g (lw_at lw_m0 196 rfl) rfl
theorem q212 : (Jvm.Cond.code ({ cls := "AreaMapModel", name := "protect", desc := "(III)I" } : Jvm.MethodName) prog_3_method_11_code (7 : Nat) (Option.some Jvm.ClassFile.FieldType.int)) ∈ lw_all := lw_g (lw_at lw_m0 197 rfl) rfl
theorem q214 : (Jvm.Cond.instanceMethod ({ cls := "AreaMapModel", name := "rights", desc := "(I)I" } : Jvm.MethodName)) ∈ lw_all := lw_g (lw_at lw_m0 199 rfl) rfl
theorem q215 : (Jvm.Cond.selects "AreaMapModel" ({ cls := "AreaMapModel", name := "rights", desc := "(I)I" } : Jvm.MethodName) ({ cls := "AreaMapModel", name := "rights", desc := "(I)I" } : Jvm.MethodName)) ∈ lw_all := lw_g (lw_at lw_m0 200 rfl) rfl
theorem q216 : (Jvm.Cond.code ({ cls := "AreaMapModel", name := "rights", desc := "(I)I" } : Jvm.MethodName) prog_3_method_13_code (2 : Nat) (Option.some Jvm.ClassFile.FieldType.int)) ∈ lw_all := lw_g (lw_at lw_m0 201 rfl) rfl
theorem q217 : (Jvm.Cond.methodLink "AreaMapModel" (42 : Nat) ({ cls := "AreaMapModel", name := "page", desc := "(I)Z" } : Jvm.MethodName)) ∈ lw_all := lw_g (lw_at lw_m0 202 rfl) rfl
theorem q218 : (Jvm.Cond.privateMethod ({ cls := "AreaMapModel", name := "page", desc := "(I)Z" } : Jvm.MethodName)) ∈ lw_tbl := lw_at lw_m0 203 rfl
theorem q219 : (Jvm.Cond.instanceMethod ({ cls := "AreaMapModel", name := "page", desc := "(I)Z" } : Jvm.MethodName)) ∈ lw_all := lw_g (lw_at lw_m0 204 rfl) rfl
theorem q220 : (Jvm.Cond.code ({ cls := "AreaMapModel", name := "page", desc := "(I)Z" } : Jvm.MethodName) prog_3_method_12_code (2 : Nat) (Option.some Jvm.ClassFile.FieldType.boolean)) ∈ lw_all := lw_g (lw_at lw_m0 205 rfl) rfl
theorem q222 : (Jvm.Cond.instanceMethod ({ cls := "AreaMapModel", name := "tag", desc := "(I)I" } : Jvm.MethodName)) ∈ lw_all := lw_g (lw_at lw_m0 207 rfl) rfl
theorem q223 : (Jvm.Cond.selects "AreaMapModel" ({ cls := "AreaMapModel", name := "tag", desc := "(I)I" } : Jvm.MethodName) ({ cls := "AreaMapModel", name := "tag", desc := "(I)I" } : Jvm.MethodName)) ∈ lw_all := lw_g (lw_at lw_m0 208 rfl) rfl
theorem q224 : (Jvm.Cond.code ({ cls := "AreaMapModel", name := "tag", desc := "(I)I" } : Jvm.MethodName) prog_3_method_14_code (2 : Nat) (Option.some Jvm.ClassFile.FieldType.int)) ∈ lw_all := lw_g (lw_at lw_m0 209 rfl) rfl
theorem q227 : (Jvm.Cond.instanceMethod ({ cls := "AreaMapModel", name := "areaFirst", desc := "(I)I" } : Jvm.MethodName)) ∈ lw_all := lw_g (lw_at lw_m0 212 rfl) rfl
theorem q228 : (Jvm.Cond.selects "AreaMapModel" ({ cls := "AreaMapModel", name := "areaFirst", desc := "(I)I" } : Jvm.MethodName) ({ cls := "AreaMapModel", name := "areaFirst", desc := "(I)I" } : Jvm.MethodName)) ∈ lw_all := lw_g (lw_at lw_m0 213 rfl) rfl
theorem q229 : (Jvm.Cond.code ({ cls := "AreaMapModel", name := "areaFirst", desc := "(I)I" } : Jvm.MethodName) prog_3_method_17_code (4 : Nat) (Option.some Jvm.ClassFile.FieldType.int)) ∈ lw_all := lw_g (lw_at lw_m0 214 rfl) rfl
theorem q231 : (Jvm.Cond.instanceMethod ({ cls := "AreaMapModel", name := "areaLength", desc := "(I)I" } : Jvm.MethodName)) ∈ lw_all := lw_g (lw_at lw_m0 216 rfl) rfl
theorem q232 : (Jvm.Cond.selects "AreaMapModel" ({ cls := "AreaMapModel", name := "areaLength", desc := "(I)I" } : Jvm.MethodName) ({ cls := "AreaMapModel", name := "areaLength", desc := "(I)I" } : Jvm.MethodName)) ∈ lw_all := lw_g (lw_at lw_m0 217 rfl) rfl
theorem q233 : (Jvm.Cond.code ({ cls := "AreaMapModel", name := "areaLength", desc := "(I)I" } : Jvm.MethodName) prog_3_method_18_code (4 : Nat) (Option.some Jvm.ClassFile.FieldType.int)) ∈ lw_all := lw_g (lw_at lw_m0 218 rfl) rfl
theorem q234 : (Jvm.Cond.methodLink "AreaMapModel" (49 : Nat) ({ cls := "AreaMapModel", name := "areaFirst", desc := "(I)I" } : Jvm.MethodName)) ∈ lw_all := lw_g (lw_at lw_m0 219 rfl) rfl
theorem q236 : (Jvm.Cond.instanceMethod ({ cls := "AreaMapModel", name := "areaOf", desc := "(I)I" } : Jvm.MethodName)) ∈ lw_all := lw_g (lw_at lw_m0 221 rfl) rfl
theorem q237 : (Jvm.Cond.selects "AreaMapModel" ({ cls := "AreaMapModel", name := "areaOf", desc := "(I)I" } : Jvm.MethodName) ({ cls := "AreaMapModel", name := "areaOf", desc := "(I)I" } : Jvm.MethodName)) ∈ lw_all := lw_g (lw_at lw_m0 222 rfl) rfl
theorem q238 : (Jvm.Cond.code ({ cls := "AreaMapModel", name := "areaOf", desc := "(I)I" } : Jvm.MethodName) prog_3_method_19_code (4 : Nat) (Option.some Jvm.ClassFile.FieldType.int)) ∈ lw_all := lw_g (lw_at lw_m0 223 rfl) rfl
theorem q240 : (Jvm.Cond.instanceMethod ({ cls := "AreaMapModel", name := "mapped", desc := "()I" } : Jvm.MethodName)) ∈ lw_all := lw_g (lw_at lw_m0 225 rfl) rfl
theorem q241 : (Jvm.Cond.selects "AreaMapModel" ({ cls := "AreaMapModel", name := "mapped", desc := "()I" } : Jvm.MethodName) ({ cls := "AreaMapModel", name := "mapped", desc := "()I" } : Jvm.MethodName)) ∈ lw_all := lw_g (lw_at lw_m0 226 rfl) rfl
theorem q242 : (Jvm.Cond.code ({ cls := "AreaMapModel", name := "mapped", desc := "()I" } : Jvm.MethodName) prog_3_method_20_code (1 : Nat) (Option.some Jvm.ClassFile.FieldType.int)) ∈ lw_all := lw_g (lw_at lw_m0 227 rfl) rfl
theorem q244 : (Jvm.Cond.instanceMethod ({ cls := "AreaMapModel", name := "longestFree", desc := "()I" } : Jvm.MethodName)) ∈ lw_all := lw_g (lw_at lw_m0 229 rfl) rfl
theorem q245 : (Jvm.Cond.selects "AreaMapModel" ({ cls := "AreaMapModel", name := "longestFree", desc := "()I" } : Jvm.MethodName) ({ cls := "AreaMapModel", name := "longestFree", desc := "()I" } : Jvm.MethodName)) ∈ lw_all := lw_g (lw_at lw_m0 230 rfl) rfl
theorem q246 : (Jvm.Cond.code ({ cls := "AreaMapModel", name := "longestFree", desc := "()I" } : Jvm.MethodName) prog_3_method_21_code (4 : Nat) (Option.some Jvm.ClassFile.FieldType.int)) ∈ lw_all := lw_g (lw_at lw_m0 231 rfl) rfl
theorem q248 : (Jvm.Cond.instanceMethod ({ cls := "AreaMapModel", name := "allows", desc := "(III)Z" } : Jvm.MethodName)) ∈ lw_all := lw_g (lw_at lw_m0 233 rfl) rfl
theorem q249 : (Jvm.Cond.selects "AreaMapModel" ({ cls := "AreaMapModel", name := "allows", desc := "(III)Z" } : Jvm.MethodName) ({ cls := "AreaMapModel", name := "allows", desc := "(III)Z" } : Jvm.MethodName)) ∈ lw_all := lw_g (lw_at lw_m0 234 rfl) rfl
theorem q250 : (Jvm.Cond.code ({ cls := "AreaMapModel", name := "allows", desc := "(III)Z" } : Jvm.MethodName) prog_3_method_22_code (6 : Nat) (Option.some Jvm.ClassFile.FieldType.boolean)) ∈ lw_all := lw_g (lw_at lw_m0 235 rfl) rfl
theorem q252 : (Jvm.Cond.instanceMethod ({ cls := "AreaMapModel", name := "nextWith", desc := "(II)I" } : Jvm.MethodName)) ∈ lw_all := lw_g (lw_at lw_m0 237 rfl) rfl
theorem q253 : (Jvm.Cond.selects "AreaMapModel" ({ cls := "AreaMapModel", name := "nextWith", desc := "(II)I" } : Jvm.MethodName) ({ cls := "AreaMapModel", name := "nextWith", desc := "(II)I" } : Jvm.MethodName)) ∈ lw_all := lw_g (lw_at lw_m0 238 rfl) rfl
theorem q254 : (Jvm.Cond.code ({ cls := "AreaMapModel", name := "nextWith", desc := "(II)I" } : Jvm.MethodName) prog_3_method_23_code (4 : Nat) (Option.some Jvm.ClassFile.FieldType.int)) ∈ lw_all := lw_g (lw_at lw_m0 239 rfl) rfl
theorem in_X1 : ∀ w ∈ wsX10, w ∈ lw_all := lw_in wsX10 [159, 161] (by decide +kernel) (by decide +kernel)
end
section
/-! the law's own entry -/
set_option maxRecDepth 100000
abbrev cL_law : ByteArray := code
theorem dL_law_0 : decode cL_law 0 = .ok (.new 7, 3) := by decide +kernel
theorem dL_law_3 : decode cL_law 3 = .ok (.dup, 1) := by decide +kernel
theorem dL_law_4 : decode cL_law 4 = .ok (.invokespecial 9, 3) := by decide +kernel
theorem dL_law_7 : decode cL_law 7 = .ok (.astore_n 1, 1) := by decide +kernel
theorem dL_law_8 : decode cL_law 8 = .ok (.new 10, 3) := by decide +kernel
theorem dL_law_11 : decode cL_law 11 = .ok (.dup, 1) := by decide +kernel
theorem dL_law_12 : decode cL_law 12 = .ok (.invokespecial 12, 3) := by decide +kernel
theorem dL_law_15 : decode cL_law 15 = .ok (.astore_n 2, 1) := by decide +kernel
theorem dL_law_16 : decode cL_law 16 = .ok (.iconst 0, 1) := by decide +kernel
theorem dL_law_17 : decode cL_law 17 = .ok (.istore_n 3, 1) := by decide +kernel
theorem dL_law_18 : decode cL_law 18 = .ok (.iload_n 3, 1) := by decide +kernel
theorem dL_law_19 : decode cL_law 19 = .ok (.aload_n 0, 1) := by decide +kernel
theorem dL_law_20 : decode cL_law 20 = .ok (.arraylength, 1) := by decide +kernel
theorem dL_law_21 : decode cL_law 21 = .ok (.iconst 4, 1) := by decide +kernel
theorem dL_law_22 : decode cL_law 22 = .ok (.isub, 1) := by decide +kernel
theorem dL_law_23 : decode cL_law 23 = .ok (.if_icmp .gt 479, 3) := by decide +kernel
theorem dL_law_26 : decode cL_law 26 = .ok (.aload_n 0, 1) := by decide +kernel
theorem dL_law_27 : decode cL_law 27 = .ok (.iload_n 3, 1) := by decide +kernel
theorem dL_law_28 : decode cL_law 28 = .ok (.iaload, 1) := by decide +kernel
theorem dL_law_29 : decode cL_law 29 = .ok (.bipush 15, 2) := by decide +kernel
theorem dL_law_31 : decode cL_law 31 = .ok (.iand, 1) := by decide +kernel
theorem dL_law_32 : decode cL_law 32 = .ok (.tableswitch 464 0 13 #[72, 115, 158, 191, 234, 257, 280, 293, 316, 339, 362, 375, 388, 431], 72) := by decide +kernel
theorem dL_law_104 : decode cL_law 104 = .ok (.aload_n 1, 1) := by decide +kernel
theorem dL_law_105 : decode cL_law 105 = .ok (.aload_n 0, 1) := by decide +kernel
theorem dL_law_106 : decode cL_law 106 = .ok (.iload_n 3, 1) := by decide +kernel
theorem dL_law_107 : decode cL_law 107 = .ok (.iconst 1, 1) := by decide +kernel
theorem dL_law_108 : decode cL_law 108 = .ok (.iadd, 1) := by decide +kernel
theorem dL_law_109 : decode cL_law 109 = .ok (.iaload, 1) := by decide +kernel
theorem dL_law_110 : decode cL_law 110 = .ok (.aload_n 0, 1) := by decide +kernel
theorem dL_law_111 : decode cL_law 111 = .ok (.iload_n 3, 1) := by decide +kernel
theorem dL_law_112 : decode cL_law 112 = .ok (.iconst 2, 1) := by decide +kernel
theorem dL_law_113 : decode cL_law 113 = .ok (.iadd, 1) := by decide +kernel
theorem dL_law_114 : decode cL_law 114 = .ok (.iaload, 1) := by decide +kernel
theorem dL_law_115 : decode cL_law 115 = .ok (.aload_n 0, 1) := by decide +kernel
theorem dL_law_116 : decode cL_law 116 = .ok (.iload_n 3, 1) := by decide +kernel
theorem dL_law_117 : decode cL_law 117 = .ok (.iconst 3, 1) := by decide +kernel
theorem dL_law_118 : decode cL_law 118 = .ok (.iadd, 1) := by decide +kernel
theorem dL_law_119 : decode cL_law 119 = .ok (.iaload, 1) := by decide +kernel
theorem dL_law_120 : decode cL_law 120 = .ok (.invokevirtual 13, 3) := by decide +kernel
theorem dL_law_123 : decode cL_law 123 = .ok (.aload_n 2, 1) := by decide +kernel
theorem dL_law_124 : decode cL_law 124 = .ok (.aload_n 0, 1) := by decide +kernel
theorem dL_law_125 : decode cL_law 125 = .ok (.iload_n 3, 1) := by decide +kernel
theorem dL_law_126 : decode cL_law 126 = .ok (.iconst 1, 1) := by decide +kernel
theorem dL_law_127 : decode cL_law 127 = .ok (.iadd, 1) := by decide +kernel
theorem dL_law_128 : decode cL_law 128 = .ok (.iaload, 1) := by decide +kernel
theorem dL_law_129 : decode cL_law 129 = .ok (.aload_n 0, 1) := by decide +kernel
theorem dL_law_130 : decode cL_law 130 = .ok (.iload_n 3, 1) := by decide +kernel
theorem dL_law_131 : decode cL_law 131 = .ok (.iconst 2, 1) := by decide +kernel
theorem dL_law_132 : decode cL_law 132 = .ok (.iadd, 1) := by decide +kernel
theorem dL_law_133 : decode cL_law 133 = .ok (.iaload, 1) := by decide +kernel
theorem dL_law_134 : decode cL_law 134 = .ok (.aload_n 0, 1) := by decide +kernel
theorem dL_law_135 : decode cL_law 135 = .ok (.iload_n 3, 1) := by decide +kernel
theorem dL_law_136 : decode cL_law 136 = .ok (.iconst 3, 1) := by decide +kernel
theorem dL_law_137 : decode cL_law 137 = .ok (.iadd, 1) := by decide +kernel
theorem dL_law_138 : decode cL_law 138 = .ok (.iaload, 1) := by decide +kernel
theorem dL_law_139 : decode cL_law 139 = .ok (.invokevirtual 17, 3) := by decide +kernel
theorem dL_law_142 : decode cL_law 142 = .ok (.if_icmp .eq 354, 3) := by decide +kernel
theorem dL_law_145 : decode cL_law 145 = .ok (.iconst 0, 1) := by decide +kernel
theorem dL_law_146 : decode cL_law 146 = .ok (.ireturn, 1) := by decide +kernel
theorem dL_law_147 : decode cL_law 147 = .ok (.aload_n 1, 1) := by decide +kernel
theorem dL_law_148 : decode cL_law 148 = .ok (.aload_n 0, 1) := by decide +kernel
theorem dL_law_149 : decode cL_law 149 = .ok (.iload_n 3, 1) := by decide +kernel
theorem dL_law_150 : decode cL_law 150 = .ok (.iconst 1, 1) := by decide +kernel
theorem dL_law_151 : decode cL_law 151 = .ok (.iadd, 1) := by decide +kernel
theorem dL_law_152 : decode cL_law 152 = .ok (.iaload, 1) := by decide +kernel
theorem dL_law_153 : decode cL_law 153 = .ok (.aload_n 0, 1) := by decide +kernel
theorem dL_law_154 : decode cL_law 154 = .ok (.iload_n 3, 1) := by decide +kernel
theorem dL_law_155 : decode cL_law 155 = .ok (.iconst 2, 1) := by decide +kernel
theorem dL_law_156 : decode cL_law 156 = .ok (.iadd, 1) := by decide +kernel
theorem dL_law_157 : decode cL_law 157 = .ok (.iaload, 1) := by decide +kernel
theorem dL_law_158 : decode cL_law 158 = .ok (.aload_n 0, 1) := by decide +kernel
theorem dL_law_159 : decode cL_law 159 = .ok (.iload_n 3, 1) := by decide +kernel
theorem dL_law_160 : decode cL_law 160 = .ok (.iconst 3, 1) := by decide +kernel
theorem dL_law_161 : decode cL_law 161 = .ok (.iadd, 1) := by decide +kernel
theorem dL_law_162 : decode cL_law 162 = .ok (.iaload, 1) := by decide +kernel
theorem dL_law_163 : decode cL_law 163 = .ok (.invokevirtual 18, 3) := by decide +kernel
theorem dL_law_166 : decode cL_law 166 = .ok (.aload_n 2, 1) := by decide +kernel
theorem dL_law_167 : decode cL_law 167 = .ok (.aload_n 0, 1) := by decide +kernel
theorem dL_law_168 : decode cL_law 168 = .ok (.iload_n 3, 1) := by decide +kernel
theorem dL_law_169 : decode cL_law 169 = .ok (.iconst 1, 1) := by decide +kernel
theorem dL_law_170 : decode cL_law 170 = .ok (.iadd, 1) := by decide +kernel
theorem dL_law_171 : decode cL_law 171 = .ok (.iaload, 1) := by decide +kernel
theorem dL_law_172 : decode cL_law 172 = .ok (.aload_n 0, 1) := by decide +kernel
theorem dL_law_173 : decode cL_law 173 = .ok (.iload_n 3, 1) := by decide +kernel
theorem dL_law_174 : decode cL_law 174 = .ok (.iconst 2, 1) := by decide +kernel
theorem dL_law_175 : decode cL_law 175 = .ok (.iadd, 1) := by decide +kernel
theorem dL_law_176 : decode cL_law 176 = .ok (.iaload, 1) := by decide +kernel
theorem dL_law_177 : decode cL_law 177 = .ok (.aload_n 0, 1) := by decide +kernel
theorem dL_law_178 : decode cL_law 178 = .ok (.iload_n 3, 1) := by decide +kernel
theorem dL_law_179 : decode cL_law 179 = .ok (.iconst 3, 1) := by decide +kernel
theorem dL_law_180 : decode cL_law 180 = .ok (.iadd, 1) := by decide +kernel
theorem dL_law_181 : decode cL_law 181 = .ok (.iaload, 1) := by decide +kernel
theorem dL_law_182 : decode cL_law 182 = .ok (.invokevirtual 21, 3) := by decide +kernel
theorem dL_law_185 : decode cL_law 185 = .ok (.if_icmp .eq 311, 3) := by decide +kernel
theorem dL_law_188 : decode cL_law 188 = .ok (.iconst 0, 1) := by decide +kernel
theorem dL_law_189 : decode cL_law 189 = .ok (.ireturn, 1) := by decide +kernel
theorem dL_law_190 : decode cL_law 190 = .ok (.aload_n 1, 1) := by decide +kernel
theorem dL_law_191 : decode cL_law 191 = .ok (.aload_n 0, 1) := by decide +kernel
theorem dL_law_192 : decode cL_law 192 = .ok (.iload_n 3, 1) := by decide +kernel
theorem dL_law_193 : decode cL_law 193 = .ok (.iconst 1, 1) := by decide +kernel
theorem dL_law_194 : decode cL_law 194 = .ok (.iadd, 1) := by decide +kernel
theorem dL_law_195 : decode cL_law 195 = .ok (.iaload, 1) := by decide +kernel
theorem dL_law_196 : decode cL_law 196 = .ok (.aload_n 0, 1) := by decide +kernel
theorem dL_law_197 : decode cL_law 197 = .ok (.iload_n 3, 1) := by decide +kernel
theorem dL_law_198 : decode cL_law 198 = .ok (.iconst 2, 1) := by decide +kernel
theorem dL_law_199 : decode cL_law 199 = .ok (.iadd, 1) := by decide +kernel
theorem dL_law_200 : decode cL_law 200 = .ok (.iaload, 1) := by decide +kernel
theorem dL_law_201 : decode cL_law 201 = .ok (.invokevirtual 22, 3) := by decide +kernel
theorem dL_law_204 : decode cL_law 204 = .ok (.aload_n 2, 1) := by decide +kernel
theorem dL_law_205 : decode cL_law 205 = .ok (.aload_n 0, 1) := by decide +kernel
theorem dL_law_206 : decode cL_law 206 = .ok (.iload_n 3, 1) := by decide +kernel
theorem dL_law_207 : decode cL_law 207 = .ok (.iconst 1, 1) := by decide +kernel
theorem dL_law_208 : decode cL_law 208 = .ok (.iadd, 1) := by decide +kernel
theorem dL_law_209 : decode cL_law 209 = .ok (.iaload, 1) := by decide +kernel
theorem dL_law_210 : decode cL_law 210 = .ok (.aload_n 0, 1) := by decide +kernel
theorem dL_law_211 : decode cL_law 211 = .ok (.iload_n 3, 1) := by decide +kernel
theorem dL_law_212 : decode cL_law 212 = .ok (.iconst 2, 1) := by decide +kernel
theorem dL_law_213 : decode cL_law 213 = .ok (.iadd, 1) := by decide +kernel
theorem dL_law_214 : decode cL_law 214 = .ok (.iaload, 1) := by decide +kernel
theorem dL_law_215 : decode cL_law 215 = .ok (.invokevirtual 26, 3) := by decide +kernel
theorem dL_law_218 : decode cL_law 218 = .ok (.if_icmp .eq 278, 3) := by decide +kernel
theorem dL_law_221 : decode cL_law 221 = .ok (.iconst 0, 1) := by decide +kernel
theorem dL_law_222 : decode cL_law 222 = .ok (.ireturn, 1) := by decide +kernel
theorem dL_law_223 : decode cL_law 223 = .ok (.aload_n 1, 1) := by decide +kernel
theorem dL_law_224 : decode cL_law 224 = .ok (.aload_n 0, 1) := by decide +kernel
theorem dL_law_225 : decode cL_law 225 = .ok (.iload_n 3, 1) := by decide +kernel
theorem dL_law_226 : decode cL_law 226 = .ok (.iconst 1, 1) := by decide +kernel
theorem dL_law_227 : decode cL_law 227 = .ok (.iadd, 1) := by decide +kernel
theorem dL_law_228 : decode cL_law 228 = .ok (.iaload, 1) := by decide +kernel
theorem dL_law_229 : decode cL_law 229 = .ok (.aload_n 0, 1) := by decide +kernel
theorem dL_law_230 : decode cL_law 230 = .ok (.iload_n 3, 1) := by decide +kernel
theorem dL_law_231 : decode cL_law 231 = .ok (.iconst 2, 1) := by decide +kernel
theorem dL_law_232 : decode cL_law 232 = .ok (.iadd, 1) := by decide +kernel
theorem dL_law_233 : decode cL_law 233 = .ok (.iaload, 1) := by decide +kernel
theorem dL_law_234 : decode cL_law 234 = .ok (.aload_n 0, 1) := by decide +kernel
theorem dL_law_235 : decode cL_law 235 = .ok (.iload_n 3, 1) := by decide +kernel
theorem dL_law_236 : decode cL_law 236 = .ok (.iconst 3, 1) := by decide +kernel
theorem dL_law_237 : decode cL_law 237 = .ok (.iadd, 1) := by decide +kernel
theorem dL_law_238 : decode cL_law 238 = .ok (.iaload, 1) := by decide +kernel
theorem dL_law_239 : decode cL_law 239 = .ok (.invokevirtual 27, 3) := by decide +kernel
theorem dL_law_242 : decode cL_law 242 = .ok (.aload_n 2, 1) := by decide +kernel
theorem dL_law_243 : decode cL_law 243 = .ok (.aload_n 0, 1) := by decide +kernel
theorem dL_law_244 : decode cL_law 244 = .ok (.iload_n 3, 1) := by decide +kernel
theorem dL_law_245 : decode cL_law 245 = .ok (.iconst 1, 1) := by decide +kernel
theorem dL_law_246 : decode cL_law 246 = .ok (.iadd, 1) := by decide +kernel
theorem dL_law_247 : decode cL_law 247 = .ok (.iaload, 1) := by decide +kernel
theorem dL_law_248 : decode cL_law 248 = .ok (.aload_n 0, 1) := by decide +kernel
theorem dL_law_249 : decode cL_law 249 = .ok (.iload_n 3, 1) := by decide +kernel
theorem dL_law_250 : decode cL_law 250 = .ok (.iconst 2, 1) := by decide +kernel
theorem dL_law_251 : decode cL_law 251 = .ok (.iadd, 1) := by decide +kernel
theorem dL_law_252 : decode cL_law 252 = .ok (.iaload, 1) := by decide +kernel
theorem dL_law_253 : decode cL_law 253 = .ok (.aload_n 0, 1) := by decide +kernel
theorem dL_law_254 : decode cL_law 254 = .ok (.iload_n 3, 1) := by decide +kernel
theorem dL_law_255 : decode cL_law 255 = .ok (.iconst 3, 1) := by decide +kernel
theorem dL_law_256 : decode cL_law 256 = .ok (.iadd, 1) := by decide +kernel
theorem dL_law_257 : decode cL_law 257 = .ok (.iaload, 1) := by decide +kernel
theorem dL_law_258 : decode cL_law 258 = .ok (.invokevirtual 30, 3) := by decide +kernel
theorem dL_law_261 : decode cL_law 261 = .ok (.if_icmp .eq 235, 3) := by decide +kernel
theorem dL_law_264 : decode cL_law 264 = .ok (.iconst 0, 1) := by decide +kernel
theorem dL_law_265 : decode cL_law 265 = .ok (.ireturn, 1) := by decide +kernel
theorem dL_law_266 : decode cL_law 266 = .ok (.aload_n 1, 1) := by decide +kernel
theorem dL_law_267 : decode cL_law 267 = .ok (.aload_n 0, 1) := by decide +kernel
theorem dL_law_268 : decode cL_law 268 = .ok (.iload_n 3, 1) := by decide +kernel
theorem dL_law_269 : decode cL_law 269 = .ok (.iconst 1, 1) := by decide +kernel
theorem dL_law_270 : decode cL_law 270 = .ok (.iadd, 1) := by decide +kernel
theorem dL_law_271 : decode cL_law 271 = .ok (.iaload, 1) := by decide +kernel
theorem dL_law_272 : decode cL_law 272 = .ok (.invokevirtual 31, 3) := by decide +kernel
theorem dL_law_275 : decode cL_law 275 = .ok (.aload_n 2, 1) := by decide +kernel
theorem dL_law_276 : decode cL_law 276 = .ok (.aload_n 0, 1) := by decide +kernel
theorem dL_law_277 : decode cL_law 277 = .ok (.iload_n 3, 1) := by decide +kernel
theorem dL_law_278 : decode cL_law 278 = .ok (.iconst 1, 1) := by decide +kernel
theorem dL_law_279 : decode cL_law 279 = .ok (.iadd, 1) := by decide +kernel
theorem dL_law_280 : decode cL_law 280 = .ok (.iaload, 1) := by decide +kernel
theorem dL_law_281 : decode cL_law 281 = .ok (.invokevirtual 35, 3) := by decide +kernel
theorem dL_law_284 : decode cL_law 284 = .ok (.if_icmp .eq 212, 3) := by decide +kernel
theorem dL_law_287 : decode cL_law 287 = .ok (.iconst 0, 1) := by decide +kernel
theorem dL_law_288 : decode cL_law 288 = .ok (.ireturn, 1) := by decide +kernel
theorem dL_law_289 : decode cL_law 289 = .ok (.aload_n 1, 1) := by decide +kernel
theorem dL_law_290 : decode cL_law 290 = .ok (.aload_n 0, 1) := by decide +kernel
theorem dL_law_291 : decode cL_law 291 = .ok (.iload_n 3, 1) := by decide +kernel
theorem dL_law_292 : decode cL_law 292 = .ok (.iconst 1, 1) := by decide +kernel
theorem dL_law_293 : decode cL_law 293 = .ok (.iadd, 1) := by decide +kernel
theorem dL_law_294 : decode cL_law 294 = .ok (.iaload, 1) := by decide +kernel
theorem dL_law_295 : decode cL_law 295 = .ok (.invokevirtual 36, 3) := by decide +kernel
theorem dL_law_298 : decode cL_law 298 = .ok (.aload_n 2, 1) := by decide +kernel
theorem dL_law_299 : decode cL_law 299 = .ok (.aload_n 0, 1) := by decide +kernel
theorem dL_law_300 : decode cL_law 300 = .ok (.iload_n 3, 1) := by decide +kernel
theorem dL_law_301 : decode cL_law 301 = .ok (.iconst 1, 1) := by decide +kernel
theorem dL_law_302 : decode cL_law 302 = .ok (.iadd, 1) := by decide +kernel
theorem dL_law_303 : decode cL_law 303 = .ok (.iaload, 1) := by decide +kernel
theorem dL_law_304 : decode cL_law 304 = .ok (.invokevirtual 39, 3) := by decide +kernel
theorem dL_law_307 : decode cL_law 307 = .ok (.if_icmp .eq 189, 3) := by decide +kernel
theorem dL_law_310 : decode cL_law 310 = .ok (.iconst 0, 1) := by decide +kernel
theorem dL_law_311 : decode cL_law 311 = .ok (.ireturn, 1) := by decide +kernel
theorem dL_law_312 : decode cL_law 312 = .ok (.aload_n 1, 1) := by decide +kernel
theorem dL_law_313 : decode cL_law 313 = .ok (.invokevirtual 40, 3) := by decide +kernel
theorem dL_law_316 : decode cL_law 316 = .ok (.aload_n 2, 1) := by decide +kernel
theorem dL_law_317 : decode cL_law 317 = .ok (.invokevirtual 44, 3) := by decide +kernel
theorem dL_law_320 : decode cL_law 320 = .ok (.if_icmp .eq 176, 3) := by decide +kernel
theorem dL_law_323 : decode cL_law 323 = .ok (.iconst 0, 1) := by decide +kernel
theorem dL_law_324 : decode cL_law 324 = .ok (.ireturn, 1) := by decide +kernel
theorem dL_law_325 : decode cL_law 325 = .ok (.aload_n 1, 1) := by decide +kernel
theorem dL_law_326 : decode cL_law 326 = .ok (.aload_n 0, 1) := by decide +kernel
theorem dL_law_327 : decode cL_law 327 = .ok (.iload_n 3, 1) := by decide +kernel
theorem dL_law_328 : decode cL_law 328 = .ok (.iconst 1, 1) := by decide +kernel
theorem dL_law_329 : decode cL_law 329 = .ok (.iadd, 1) := by decide +kernel
theorem dL_law_330 : decode cL_law 330 = .ok (.iaload, 1) := by decide +kernel
theorem dL_law_331 : decode cL_law 331 = .ok (.invokevirtual 45, 3) := by decide +kernel
theorem dL_law_334 : decode cL_law 334 = .ok (.aload_n 2, 1) := by decide +kernel
theorem dL_law_335 : decode cL_law 335 = .ok (.aload_n 0, 1) := by decide +kernel
theorem dL_law_336 : decode cL_law 336 = .ok (.iload_n 3, 1) := by decide +kernel
theorem dL_law_337 : decode cL_law 337 = .ok (.iconst 1, 1) := by decide +kernel
theorem dL_law_338 : decode cL_law 338 = .ok (.iadd, 1) := by decide +kernel
theorem dL_law_339 : decode cL_law 339 = .ok (.iaload, 1) := by decide +kernel
theorem dL_law_340 : decode cL_law 340 = .ok (.invokevirtual 48, 3) := by decide +kernel
theorem dL_law_343 : decode cL_law 343 = .ok (.if_icmp .eq 153, 3) := by decide +kernel
theorem dL_law_346 : decode cL_law 346 = .ok (.iconst 0, 1) := by decide +kernel
theorem dL_law_347 : decode cL_law 347 = .ok (.ireturn, 1) := by decide +kernel
theorem dL_law_348 : decode cL_law 348 = .ok (.aload_n 1, 1) := by decide +kernel
theorem dL_law_349 : decode cL_law 349 = .ok (.aload_n 0, 1) := by decide +kernel
theorem dL_law_350 : decode cL_law 350 = .ok (.iload_n 3, 1) := by decide +kernel
theorem dL_law_351 : decode cL_law 351 = .ok (.iconst 1, 1) := by decide +kernel
theorem dL_law_352 : decode cL_law 352 = .ok (.iadd, 1) := by decide +kernel
theorem dL_law_353 : decode cL_law 353 = .ok (.iaload, 1) := by decide +kernel
theorem dL_law_354 : decode cL_law 354 = .ok (.invokevirtual 49, 3) := by decide +kernel
theorem dL_law_357 : decode cL_law 357 = .ok (.aload_n 2, 1) := by decide +kernel
theorem dL_law_358 : decode cL_law 358 = .ok (.aload_n 0, 1) := by decide +kernel
theorem dL_law_359 : decode cL_law 359 = .ok (.iload_n 3, 1) := by decide +kernel
theorem dL_law_360 : decode cL_law 360 = .ok (.iconst 1, 1) := by decide +kernel
theorem dL_law_361 : decode cL_law 361 = .ok (.iadd, 1) := by decide +kernel
theorem dL_law_362 : decode cL_law 362 = .ok (.iaload, 1) := by decide +kernel
theorem dL_law_363 : decode cL_law 363 = .ok (.invokevirtual 52, 3) := by decide +kernel
theorem dL_law_366 : decode cL_law 366 = .ok (.if_icmp .eq 130, 3) := by decide +kernel
theorem dL_law_369 : decode cL_law 369 = .ok (.iconst 0, 1) := by decide +kernel
theorem dL_law_370 : decode cL_law 370 = .ok (.ireturn, 1) := by decide +kernel
theorem dL_law_371 : decode cL_law 371 = .ok (.aload_n 1, 1) := by decide +kernel
theorem dL_law_372 : decode cL_law 372 = .ok (.aload_n 0, 1) := by decide +kernel
theorem dL_law_373 : decode cL_law 373 = .ok (.iload_n 3, 1) := by decide +kernel
theorem dL_law_374 : decode cL_law 374 = .ok (.iconst 1, 1) := by decide +kernel
theorem dL_law_375 : decode cL_law 375 = .ok (.iadd, 1) := by decide +kernel
theorem dL_law_376 : decode cL_law 376 = .ok (.iaload, 1) := by decide +kernel
theorem dL_law_377 : decode cL_law 377 = .ok (.invokevirtual 53, 3) := by decide +kernel
theorem dL_law_380 : decode cL_law 380 = .ok (.aload_n 2, 1) := by decide +kernel
theorem dL_law_381 : decode cL_law 381 = .ok (.aload_n 0, 1) := by decide +kernel
theorem dL_law_382 : decode cL_law 382 = .ok (.iload_n 3, 1) := by decide +kernel
theorem dL_law_383 : decode cL_law 383 = .ok (.iconst 1, 1) := by decide +kernel
theorem dL_law_384 : decode cL_law 384 = .ok (.iadd, 1) := by decide +kernel
theorem dL_law_385 : decode cL_law 385 = .ok (.iaload, 1) := by decide +kernel
theorem dL_law_386 : decode cL_law 386 = .ok (.invokevirtual 56, 3) := by decide +kernel
theorem dL_law_389 : decode cL_law 389 = .ok (.if_icmp .eq 107, 3) := by decide +kernel
theorem dL_law_392 : decode cL_law 392 = .ok (.iconst 0, 1) := by decide +kernel
theorem dL_law_393 : decode cL_law 393 = .ok (.ireturn, 1) := by decide +kernel
theorem dL_law_394 : decode cL_law 394 = .ok (.aload_n 1, 1) := by decide +kernel
theorem dL_law_395 : decode cL_law 395 = .ok (.invokevirtual 57, 3) := by decide +kernel
theorem dL_law_398 : decode cL_law 398 = .ok (.aload_n 2, 1) := by decide +kernel
theorem dL_law_399 : decode cL_law 399 = .ok (.invokevirtual 60, 3) := by decide +kernel
theorem dL_law_402 : decode cL_law 402 = .ok (.if_icmp .eq 94, 3) := by decide +kernel
theorem dL_law_405 : decode cL_law 405 = .ok (.iconst 0, 1) := by decide +kernel
theorem dL_law_406 : decode cL_law 406 = .ok (.ireturn, 1) := by decide +kernel
theorem dL_law_407 : decode cL_law 407 = .ok (.aload_n 1, 1) := by decide +kernel
theorem dL_law_408 : decode cL_law 408 = .ok (.invokevirtual 61, 3) := by decide +kernel
theorem dL_law_411 : decode cL_law 411 = .ok (.aload_n 2, 1) := by decide +kernel
theorem dL_law_412 : decode cL_law 412 = .ok (.invokevirtual 64, 3) := by decide +kernel
theorem dL_law_415 : decode cL_law 415 = .ok (.if_icmp .eq 81, 3) := by decide +kernel
theorem dL_law_418 : decode cL_law 418 = .ok (.iconst 0, 1) := by decide +kernel
theorem dL_law_419 : decode cL_law 419 = .ok (.ireturn, 1) := by decide +kernel
theorem dL_law_420 : decode cL_law 420 = .ok (.aload_n 1, 1) := by decide +kernel
theorem dL_law_421 : decode cL_law 421 = .ok (.aload_n 0, 1) := by decide +kernel
theorem dL_law_422 : decode cL_law 422 = .ok (.iload_n 3, 1) := by decide +kernel
theorem dL_law_423 : decode cL_law 423 = .ok (.iconst 1, 1) := by decide +kernel
theorem dL_law_424 : decode cL_law 424 = .ok (.iadd, 1) := by decide +kernel
theorem dL_law_425 : decode cL_law 425 = .ok (.iaload, 1) := by decide +kernel
theorem dL_law_426 : decode cL_law 426 = .ok (.aload_n 0, 1) := by decide +kernel
theorem dL_law_427 : decode cL_law 427 = .ok (.iload_n 3, 1) := by decide +kernel
theorem dL_law_428 : decode cL_law 428 = .ok (.iconst 2, 1) := by decide +kernel
theorem dL_law_429 : decode cL_law 429 = .ok (.iadd, 1) := by decide +kernel
theorem dL_law_430 : decode cL_law 430 = .ok (.iaload, 1) := by decide +kernel
theorem dL_law_431 : decode cL_law 431 = .ok (.aload_n 0, 1) := by decide +kernel
theorem dL_law_432 : decode cL_law 432 = .ok (.iload_n 3, 1) := by decide +kernel
theorem dL_law_433 : decode cL_law 433 = .ok (.iconst 3, 1) := by decide +kernel
theorem dL_law_434 : decode cL_law 434 = .ok (.iadd, 1) := by decide +kernel
theorem dL_law_435 : decode cL_law 435 = .ok (.iaload, 1) := by decide +kernel
theorem dL_law_436 : decode cL_law 436 = .ok (.invokevirtual 65, 3) := by decide +kernel
theorem dL_law_439 : decode cL_law 439 = .ok (.aload_n 2, 1) := by decide +kernel
theorem dL_law_440 : decode cL_law 440 = .ok (.aload_n 0, 1) := by decide +kernel
theorem dL_law_441 : decode cL_law 441 = .ok (.iload_n 3, 1) := by decide +kernel
theorem dL_law_442 : decode cL_law 442 = .ok (.iconst 1, 1) := by decide +kernel
theorem dL_law_443 : decode cL_law 443 = .ok (.iadd, 1) := by decide +kernel
theorem dL_law_444 : decode cL_law 444 = .ok (.iaload, 1) := by decide +kernel
theorem dL_law_445 : decode cL_law 445 = .ok (.aload_n 0, 1) := by decide +kernel
theorem dL_law_446 : decode cL_law 446 = .ok (.iload_n 3, 1) := by decide +kernel
theorem dL_law_447 : decode cL_law 447 = .ok (.iconst 2, 1) := by decide +kernel
theorem dL_law_448 : decode cL_law 448 = .ok (.iadd, 1) := by decide +kernel
theorem dL_law_449 : decode cL_law 449 = .ok (.iaload, 1) := by decide +kernel
theorem dL_law_450 : decode cL_law 450 = .ok (.aload_n 0, 1) := by decide +kernel
theorem dL_law_451 : decode cL_law 451 = .ok (.iload_n 3, 1) := by decide +kernel
theorem dL_law_452 : decode cL_law 452 = .ok (.iconst 3, 1) := by decide +kernel
theorem dL_law_453 : decode cL_law 453 = .ok (.iadd, 1) := by decide +kernel
theorem dL_law_454 : decode cL_law 454 = .ok (.iaload, 1) := by decide +kernel
theorem dL_law_455 : decode cL_law 455 = .ok (.invokevirtual 69, 3) := by decide +kernel
theorem dL_law_458 : decode cL_law 458 = .ok (.if_icmp .eq 38, 3) := by decide +kernel
theorem dL_law_461 : decode cL_law 461 = .ok (.iconst 0, 1) := by decide +kernel
theorem dL_law_462 : decode cL_law 462 = .ok (.ireturn, 1) := by decide +kernel
theorem dL_law_463 : decode cL_law 463 = .ok (.aload_n 1, 1) := by decide +kernel
theorem dL_law_464 : decode cL_law 464 = .ok (.aload_n 0, 1) := by decide +kernel
theorem dL_law_465 : decode cL_law 465 = .ok (.iload_n 3, 1) := by decide +kernel
theorem dL_law_466 : decode cL_law 466 = .ok (.iconst 1, 1) := by decide +kernel
theorem dL_law_467 : decode cL_law 467 = .ok (.iadd, 1) := by decide +kernel
theorem dL_law_468 : decode cL_law 468 = .ok (.iaload, 1) := by decide +kernel
theorem dL_law_469 : decode cL_law 469 = .ok (.aload_n 0, 1) := by decide +kernel
theorem dL_law_470 : decode cL_law 470 = .ok (.iload_n 3, 1) := by decide +kernel
theorem dL_law_471 : decode cL_law 471 = .ok (.iconst 2, 1) := by decide +kernel
theorem dL_law_472 : decode cL_law 472 = .ok (.iadd, 1) := by decide +kernel
theorem dL_law_473 : decode cL_law 473 = .ok (.iaload, 1) := by decide +kernel
theorem dL_law_474 : decode cL_law 474 = .ok (.invokevirtual 70, 3) := by decide +kernel
theorem dL_law_477 : decode cL_law 477 = .ok (.aload_n 2, 1) := by decide +kernel
theorem dL_law_478 : decode cL_law 478 = .ok (.aload_n 0, 1) := by decide +kernel
theorem dL_law_479 : decode cL_law 479 = .ok (.iload_n 3, 1) := by decide +kernel
theorem dL_law_480 : decode cL_law 480 = .ok (.iconst 1, 1) := by decide +kernel
theorem dL_law_481 : decode cL_law 481 = .ok (.iadd, 1) := by decide +kernel
theorem dL_law_482 : decode cL_law 482 = .ok (.iaload, 1) := by decide +kernel
theorem dL_law_483 : decode cL_law 483 = .ok (.aload_n 0, 1) := by decide +kernel
theorem dL_law_484 : decode cL_law 484 = .ok (.iload_n 3, 1) := by decide +kernel
theorem dL_law_485 : decode cL_law 485 = .ok (.iconst 2, 1) := by decide +kernel
theorem dL_law_486 : decode cL_law 486 = .ok (.iadd, 1) := by decide +kernel
theorem dL_law_487 : decode cL_law 487 = .ok (.iaload, 1) := by decide +kernel
theorem dL_law_488 : decode cL_law 488 = .ok (.invokevirtual 73, 3) := by decide +kernel
theorem dL_law_491 : decode cL_law 491 = .ok (.if_icmp .eq 5, 3) := by decide +kernel
theorem dL_law_494 : decode cL_law 494 = .ok (.iconst 0, 1) := by decide +kernel
theorem dL_law_495 : decode cL_law 495 = .ok (.ireturn, 1) := by decide +kernel
theorem dL_law_496 : decode cL_law 496 = .ok (.iinc 3 4, 3) := by decide +kernel
theorem dL_law_499 : decode cL_law 499 = .ok (.goto (-481), 3) := by decide +kernel
theorem dL_law_502 : decode cL_law 502 = .ok (.iconst 1, 1) := by decide +kernel
theorem dL_law_503 : decode cL_law 503 = .ok (.ireturn, 1) := by decide +kernel

theorem q15 : (Jvm.Cond.initialized "AreaMapLaw") ∈ lw_all := lw_g (lw_at lw_m0 0 rfl) rfl
set_option maxRecDepth 100000
theorem q18 : (Jvm.Cond.classLink "AreaMapLaw" (7 : Nat) "AreaMap") ∈ lw_all := lw_g (lw_at lw_m0 3 rfl) rfl
theorem q20 : (Jvm.Cond.methodLink "AreaMapLaw" (9 : Nat) ({ cls := "AreaMap", name := "<init>", desc := "()V" } : Jvm.MethodName)) ∈ lw_all := lw_g (lw_at lw_m0 5 rfl) rfl
theorem q52 : (Jvm.Cond.methodLink "AreaMapLaw" (13 : Nat) ({ cls := "AreaMap", name := "map", desc := "(III)I" } : Jvm.MethodName)) ∈ lw_all := lw_g (lw_at lw_m0 37 rfl) rfl
theorem q84 : (Jvm.Cond.methodLink "AreaMapLaw" (18 : Nat) ({ cls := "AreaMap", name := "place", desc := "(III)I" } : Jvm.MethodName)) ∈ lw_all := lw_g (lw_at lw_m0 69 rfl) rfl
theorem q92 : (Jvm.Cond.methodLink "AreaMapLaw" (22 : Nat) ({ cls := "AreaMap", name := "free", desc := "(II)I" } : Jvm.MethodName)) ∈ lw_all := lw_g (lw_at lw_m0 77 rfl) rfl
theorem q96 : (Jvm.Cond.methodLink "AreaMapLaw" (27 : Nat) ({ cls := "AreaMap", name := "protect", desc := "(III)I" } : Jvm.MethodName)) ∈ lw_all := lw_g (lw_at lw_m0 81 rfl) rfl
theorem q100 : (Jvm.Cond.methodLink "AreaMapLaw" (31 : Nat) ({ cls := "AreaMap", name := "rights", desc := "(I)I" } : Jvm.MethodName)) ∈ lw_all := lw_g (lw_at lw_m0 85 rfl) rfl
theorem q111 : (Jvm.Cond.methodLink "AreaMapLaw" (36 : Nat) ({ cls := "AreaMap", name := "tag", desc := "(I)I" } : Jvm.MethodName)) ∈ lw_all := lw_g (lw_at lw_m0 96 rfl) rfl
theorem q115 : (Jvm.Cond.methodLink "AreaMapLaw" (40 : Nat) ({ cls := "AreaMap", name := "areas", desc := "()I" } : Jvm.MethodName)) ∈ lw_all := lw_g (lw_at lw_m0 100 rfl) rfl
theorem q119 : (Jvm.Cond.methodLink "AreaMapLaw" (45 : Nat) ({ cls := "AreaMap", name := "areaFirst", desc := "(I)I" } : Jvm.MethodName)) ∈ lw_all := lw_g (lw_at lw_m0 104 rfl) rfl
theorem q127 : (Jvm.Cond.methodLink "AreaMapLaw" (49 : Nat) ({ cls := "AreaMap", name := "areaLength", desc := "(I)I" } : Jvm.MethodName)) ∈ lw_all := lw_g (lw_at lw_m0 112 rfl) rfl
theorem q131 : (Jvm.Cond.methodLink "AreaMapLaw" (53 : Nat) ({ cls := "AreaMap", name := "areaOf", desc := "(I)I" } : Jvm.MethodName)) ∈ lw_all := lw_g (lw_at lw_m0 116 rfl) rfl
theorem q135 : (Jvm.Cond.methodLink "AreaMapLaw" (57 : Nat) ({ cls := "AreaMap", name := "mapped", desc := "()I" } : Jvm.MethodName)) ∈ lw_all := lw_g (lw_at lw_m0 120 rfl) rfl
theorem q139 : (Jvm.Cond.methodLink "AreaMapLaw" (61 : Nat) ({ cls := "AreaMap", name := "longestFree", desc := "()I" } : Jvm.MethodName)) ∈ lw_all := lw_g (lw_at lw_m0 124 rfl) rfl
theorem q143 : (Jvm.Cond.methodLink "AreaMapLaw" (65 : Nat) ({ cls := "AreaMap", name := "allows", desc := "(III)Z" } : Jvm.MethodName)) ∈ lw_all := lw_g (lw_at lw_m0 128 rfl) rfl
theorem q147 : (Jvm.Cond.methodLink "AreaMapLaw" (70 : Nat) ({ cls := "AreaMap", name := "nextWith", desc := "(II)I" } : Jvm.MethodName)) ∈ lw_all := lw_g (lw_at lw_m0 132 rfl) rfl
theorem q151 : (Jvm.Cond.classLink "AreaMapLaw" (10 : Nat) "AreaMapModel") ∈ lw_all := lw_g (lw_at lw_m0 136 rfl) rfl
theorem q153 : (Jvm.Cond.methodLink "AreaMapLaw" (12 : Nat) ({ cls := "AreaMapModel", name := "<init>", desc := "()V" } : Jvm.MethodName)) ∈ lw_all := lw_g (lw_at lw_m0 138 rfl) rfl
theorem q165 : (Jvm.Cond.methodLink "AreaMapLaw" (17 : Nat) ({ cls := "AreaMapModel", name := "map", desc := "(III)I" } : Jvm.MethodName)) ∈ lw_all := lw_g (lw_at lw_m0 150 rfl) rfl
theorem q197 : (Jvm.Cond.methodLink "AreaMapLaw" (21 : Nat) ({ cls := "AreaMapModel", name := "place", desc := "(III)I" } : Jvm.MethodName)) ∈ lw_all := lw_g (lw_at lw_m0 182 rfl) rfl
theorem q205 : (Jvm.Cond.methodLink "AreaMapLaw" (26 : Nat) ({ cls := "AreaMapModel", name := "free", desc := "(II)I" } : Jvm.MethodName)) ∈ lw_all := lw_g (lw_at lw_m0 190 rfl) rfl
theorem q209 : (Jvm.Cond.methodLink "AreaMapLaw" (30 : Nat) ({ cls := "AreaMapModel", name := "protect", desc := "(III)I" } : Jvm.MethodName)) ∈ lw_all := lw_g (lw_at lw_m0 194 rfl) rfl
theorem q213 : (Jvm.Cond.methodLink "AreaMapLaw" (35 : Nat) ({ cls := "AreaMapModel", name := "rights", desc := "(I)I" } : Jvm.MethodName)) ∈ lw_all := lw_g (lw_at lw_m0 198 rfl) rfl
theorem q221 : (Jvm.Cond.methodLink "AreaMapLaw" (39 : Nat) ({ cls := "AreaMapModel", name := "tag", desc := "(I)I" } : Jvm.MethodName)) ∈ lw_all := lw_g (lw_at lw_m0 206 rfl) rfl
theorem q225 : (Jvm.Cond.methodLink "AreaMapLaw" (44 : Nat) ({ cls := "AreaMapModel", name := "areas", desc := "()I" } : Jvm.MethodName)) ∈ lw_all := lw_g (lw_at lw_m0 210 rfl) rfl
theorem q226 : (Jvm.Cond.methodLink "AreaMapLaw" (48 : Nat) ({ cls := "AreaMapModel", name := "areaFirst", desc := "(I)I" } : Jvm.MethodName)) ∈ lw_all := lw_g (lw_at lw_m0 211 rfl) rfl
theorem q230 : (Jvm.Cond.methodLink "AreaMapLaw" (52 : Nat) ({ cls := "AreaMapModel", name := "areaLength", desc := "(I)I" } : Jvm.MethodName)) ∈ lw_all := lw_g (lw_at lw_m0 215 rfl) rfl
theorem q235 : (Jvm.Cond.methodLink "AreaMapLaw" (56 : Nat) ({ cls := "AreaMapModel", name := "areaOf", desc := "(I)I" } : Jvm.MethodName)) ∈ lw_all := lw_g (lw_at lw_m0 220 rfl) rfl
theorem q239 : (Jvm.Cond.methodLink "AreaMapLaw" (60 : Nat) ({ cls := "AreaMapModel", name := "mapped", desc := "()I" } : Jvm.MethodName)) ∈ lw_all := lw_g (lw_at lw_m0 224 rfl) rfl
theorem q243 : (Jvm.Cond.methodLink "AreaMapLaw" (64 : Nat) ({ cls := "AreaMapModel", name := "longestFree", desc := "()I" } : Jvm.MethodName)) ∈ lw_all := lw_g (lw_at lw_m0 228 rfl) rfl
theorem q247 : (Jvm.Cond.methodLink "AreaMapLaw" (69 : Nat) ({ cls := "AreaMapModel", name := "allows", desc := "(III)Z" } : Jvm.MethodName)) ∈ lw_all := lw_g (lw_at lw_m0 232 rfl) rfl
theorem q251 : (Jvm.Cond.methodLink "AreaMapLaw" (73 : Nat) ({ cls := "AreaMapModel", name := "nextWith", desc := "(II)I" } : Jvm.MethodName)) ∈ lw_all := lw_g (lw_at lw_m0 236 rfl) rfl
end
section
/-! own rows: numbers as nI, the two worlds, contracts that write nothing (am_RO), contracts that write (am_MU, am_MV) -/
set_option maxRecDepth 100000
abbrev am_cl : List vw_C := [(RX0, TX0, 8), (RX1, TX1, 2)]
def am_rm (k : Nat) : Room := { frames := k, cells := 0, slots := 0, locals := 40 * k }
def am_Fx (p : Program) (s : State) (m : MethodId) (meth : Method) (c : Code) (args : Array Value) (cc : ByteArray) (nL : Nat) (ret : Option FieldType) (own : String) : Prop := p.tables.exec = Jvm.exec ∧ c.code = cc ∧ meth.sig.returnType = ret ∧ meth.locks = false ∧ c.maxLocals = nL ∧ s.vm.findClass own = some m.cls ∧ ∀ w ∈ lw_all, w.before args s = true
theorem am_nb : ∀ v, v < 128 → vp_nar .byte (nI v) = nI v := by decide +kernel
theorem am_i8 : ∀ v, v < 128 → (nI v).toInt8.toInt32 = nI v := by decide +kernel
theorem am_upd (f : Nat → Nat) (j v : Nat) : upd (fun i => nI (f i)) j (nI v) = fun i => nI (va_up f j v i) := by
  funext i
  unfold upd va_up
  split <;> rfl
theorem am_min {a b : Nat} (ha : a < 2 ^ 31) (hb : b < 2 ^ 31) : (if nI a < nI b then nI a else nI b) = nI (min a b) := by
  by_cases h : a < b
  · rw [if_pos ((nI_ltI ha hb).mpr h), Nat.min_eq_left (by omega)]
  · rw [if_neg (fun z => h ((nI_ltI ha hb).mp z)), Nat.min_eq_right (by omega)]
theorem am_max {a b : Nat} (ha : a < 2 ^ 31) (hb : b < 2 ^ 31) : (if nI b < nI a then nI a else nI b) = nI (max a b) := by
  by_cases h : b < a
  · rw [if_pos ((nI_ltI hb ha).mpr h), Nat.max_eq_left (by omega)]
  · rw [if_neg (fun z => h ((nI_ltI hb ha).mp z)), Nat.max_eq_right (by omega)]
section AM1
variable {p : Program} {l : Launch} {e : Env} {R : Room} {s : State} {m : MethodId} {args : Array Value} {below : List Frame} {meth : Method} {c : Code} {H : Heap} {locs : List Loc} {cells slots : Nat} {Q : State → Prop}
variable {cc : ByteArray} {pc : Nat} {ls : Array Slot} {rest : List Value}
theorem am_top {x y : Int32} (h : x = y) (k : W p l e R s m args below meth c H locs cells slots Q (F0 m pc ls (.int y :: rest))) : W p l e R s m args below meth c H locs cells slots Q (F0 m pc ls (.int x :: rest)) := by subst h; exact k
theorem am_iadd (hx : p.tables.exec = Jvm.exec) (hb : c.code = cc) {a b : Nat} (hdg : decode cc pc = .ok (.iadd, 1)) (k : W p l e R s m args below meth c H locs cells slots Q (F0 m (pc + 1) ls (.int (nI (a + b)) :: rest))) : W p l e R s m args below meth c H locs cells slots Q (F0 m pc ls (.int (nI b) :: .int (nI a) :: rest)) := lv_iadd hx hb hdg (am_top (nI_add a b) k)
theorem am_isub (hx : p.tables.exec = Jvm.exec) (hb : c.code = cc) {a b : Nat} (h : b ≤ a) (hdg : decode cc pc = .ok (.isub, 1)) (k : W p l e R s m args below meth c H locs cells slots Q (F0 m (pc + 1) ls (.int (nI (a - b)) :: rest))) : W p l e R s m args below meth c H locs cells slots Q (F0 m pc ls (.int (nI b) :: .int (nI a) :: rest)) := lv_isub hx hb hdg (am_top (pk_sub h) k)
theorem am_i2b (hx : p.tables.exec = Jvm.exec) (hb : c.code = cc) {a : Nat} (h : a < 128) (hdg : decode cc pc = .ok (.i2b, 1)) (k : W p l e R s m args below meth c H locs cells slots Q (F0 m (pc + 1) ls (.int (nI a) :: rest))) : W p l e R s m args below meth c H locs cells slots Q (F0 m pc ls (.int (nI a) :: rest)) := lv_i2b hx hb hdg (am_i8 a h) k
theorem am_icmp_eq (hx : p.tables.exec = Jvm.exec) (hb : c.code = cc) {a b : Nat} {off : Int} {tgt : Nat} (ha : a < 2 ^ 31) (h2 : b < 2 ^ 31) (hdg : decode cc pc = .ok (.if_icmp .eq off, 3)) (ht : (pc : Int) + off = (tgt : Int)) (kt : a = b → W p l e R s m args below meth c H locs cells slots Q (F0 m tgt ls rest)) (kf : a ≠ b → W p l e R s m args below meth c H locs cells slots Q (F0 m (pc + 3) ls rest)) : W p l e R s m args below meth c H locs cells slots Q (F0 m pc ls (.int (nI b) :: .int (nI a) :: rest)) := lv_icmp_eq hx hb hdg ht (fun q => kt ((nI_eq ha h2).mp q)) (fun q => kf (fun z => q ((nI_eq ha h2).mpr z)))
theorem am_icmp_ne (hx : p.tables.exec = Jvm.exec) (hb : c.code = cc) {a b : Nat} {off : Int} {tgt : Nat} (ha : a < 2 ^ 31) (h2 : b < 2 ^ 31) (hdg : decode cc pc = .ok (.if_icmp .ne off, 3)) (ht : (pc : Int) + off = (tgt : Int)) (kt : a ≠ b → W p l e R s m args below meth c H locs cells slots Q (F0 m tgt ls rest)) (kf : a = b → W p l e R s m args below meth c H locs cells slots Q (F0 m (pc + 3) ls rest)) : W p l e R s m args below meth c H locs cells slots Q (F0 m pc ls (.int (nI b) :: .int (nI a) :: rest)) := lv_icmp_ne hx hb hdg ht (fun q => kt (fun z => q ((nI_eq ha h2).mpr z))) (fun q => kf ((nI_eq ha h2).mp q))
theorem am_icmp_lt (hx : p.tables.exec = Jvm.exec) (hb : c.code = cc) {a b : Nat} {off : Int} {tgt : Nat} (ha : a < 2 ^ 31) (h2 : b < 2 ^ 31) (hdg : decode cc pc = .ok (.if_icmp .lt off, 3)) (ht : (pc : Int) + off = (tgt : Int)) (kt : a < b → W p l e R s m args below meth c H locs cells slots Q (F0 m tgt ls rest)) (kf : b ≤ a → W p l e R s m args below meth c H locs cells slots Q (F0 m (pc + 3) ls rest)) : W p l e R s m args below meth c H locs cells slots Q (F0 m pc ls (.int (nI b) :: .int (nI a) :: rest)) := lv_icmp_lt hx hb hdg ht (fun q => kt ((nI_ltI ha h2).mp q)) (fun q => kf (Nat.not_lt.mp (fun z => q ((nI_ltI ha h2).mpr z))))
theorem am_icmp_ge (hx : p.tables.exec = Jvm.exec) (hb : c.code = cc) {a b : Nat} {off : Int} {tgt : Nat} (ha : a < 2 ^ 31) (h2 : b < 2 ^ 31) (hdg : decode cc pc = .ok (.if_icmp .ge off, 3)) (ht : (pc : Int) + off = (tgt : Int)) (kt : b ≤ a → W p l e R s m args below meth c H locs cells slots Q (F0 m tgt ls rest)) (kf : a < b → W p l e R s m args below meth c H locs cells slots Q (F0 m (pc + 3) ls rest)) : W p l e R s m args below meth c H locs cells slots Q (F0 m pc ls (.int (nI b) :: .int (nI a) :: rest)) := lv_icmp_ge hx hb hdg ht (fun q => kt ((nI_leI h2 ha).mp q)) (fun q => kf (Nat.not_le.mp (fun z => q ((nI_leI h2 ha).mpr z))))
theorem am_icmp_gt (hx : p.tables.exec = Jvm.exec) (hb : c.code = cc) {a b : Nat} {off : Int} {tgt : Nat} (ha : a < 2 ^ 31) (h2 : b < 2 ^ 31) (hdg : decode cc pc = .ok (.if_icmp .gt off, 3)) (ht : (pc : Int) + off = (tgt : Int)) (kt : b < a → W p l e R s m args below meth c H locs cells slots Q (F0 m tgt ls rest)) (kf : a ≤ b → W p l e R s m args below meth c H locs cells slots Q (F0 m (pc + 3) ls rest)) : W p l e R s m args below meth c H locs cells slots Q (F0 m pc ls (.int (nI b) :: .int (nI a) :: rest)) := lv_icmp_gt hx hb hdg ht (fun q => kt ((nI_ltI h2 ha).mp q)) (fun q => kf (Nat.not_lt.mp (fun z => q ((nI_ltI h2 ha).mpr z))))
theorem am_icmp_le (hx : p.tables.exec = Jvm.exec) (hb : c.code = cc) {a b : Nat} {off : Int} {tgt : Nat} (ha : a < 2 ^ 31) (h2 : b < 2 ^ 31) (hdg : decode cc pc = .ok (.if_icmp .le off, 3)) (ht : (pc : Int) + off = (tgt : Int)) (kt : a ≤ b → W p l e R s m args below meth c H locs cells slots Q (F0 m tgt ls rest)) (kf : b < a → W p l e R s m args below meth c H locs cells slots Q (F0 m (pc + 3) ls rest)) : W p l e R s m args below meth c H locs cells slots Q (F0 m pc ls (.int (nI b) :: .int (nI a) :: rest)) := lv_icmp_le hx hb hdg ht (fun q => kt ((nI_leI ha h2).mp q)) (fun q => kf (Nat.not_le.mp (fun z => q ((nI_leI ha h2).mpr z))))
theorem am_z {a : Nat} (ha : a < 2 ^ 31) : nI a = 0 ↔ a = 0 := by
  rw [← nI_0]
  exact nI_eq ha (by decide)
theorem am_if_eq (hx : p.tables.exec = Jvm.exec) (hb : c.code = cc) {a : Nat} {off : Int} {tgt : Nat} (ha : a < 2 ^ 31) (hdg : decode cc pc = .ok (.ifCond .eq off, 3)) (ht : (pc : Int) + off = (tgt : Int)) (kt : a = 0 → W p l e R s m args below meth c H locs cells slots Q (F0 m tgt ls rest)) (kf : 0 < a → W p l e R s m args below meth c H locs cells slots Q (F0 m (pc + 3) ls rest)) : W p l e R s m args below meth c H locs cells slots Q (F0 m pc ls (.int (nI a) :: rest)) := lv_if_eq hx hb hdg ht (fun q => kt ((am_z ha).mp q)) (fun q => kf (Nat.pos_of_ne_zero (fun z => q ((am_z ha).mpr z))))
theorem am_if_ne (hx : p.tables.exec = Jvm.exec) (hb : c.code = cc) {a : Nat} {off : Int} {tgt : Nat} (ha : a < 2 ^ 31) (hdg : decode cc pc = .ok (.ifCond .ne off, 3)) (ht : (pc : Int) + off = (tgt : Int)) (kt : 0 < a → W p l e R s m args below meth c H locs cells slots Q (F0 m tgt ls rest)) (kf : a = 0 → W p l e R s m args below meth c H locs cells slots Q (F0 m (pc + 3) ls rest)) : W p l e R s m args below meth c H locs cells slots Q (F0 m pc ls (.int (nI a) :: rest)) := lv_if_ne hx hb hdg ht (fun q => kt (Nat.pos_of_ne_zero (fun z => q ((am_z ha).mpr z)))) (fun q => kf ((am_z ha).mp q))
theorem am_if_le (hx : p.tables.exec = Jvm.exec) (hb : c.code = cc) {a : Nat} {off : Int} {tgt : Nat} (ha : a < 2 ^ 31) (hdg : decode cc pc = .ok (.ifCond .le off, 3)) (ht : (pc : Int) + off = (tgt : Int)) (kt : a = 0 → W p l e R s m args below meth c H locs cells slots Q (F0 m tgt ls rest)) (kf : 0 < a → W p l e R s m args below meth c H locs cells slots Q (F0 m (pc + 3) ls rest)) : W p l e R s m args below meth c H locs cells slots Q (F0 m pc ls (.int (nI a) :: rest)) := lv_if_le hx hb hdg ht (fun q => kt (Decidable.byContradiction (fun z => nI_nle (Nat.pos_of_ne_zero z) ha q))) (fun q => kf (Nat.pos_of_ne_zero (fun z => q (by rw [z, nI_0]; decide))))
theorem am_if_gt (hx : p.tables.exec = Jvm.exec) (hb : c.code = cc) {a : Nat} {off : Int} {tgt : Nat} (ha : a < 2 ^ 31) (hdg : decode cc pc = .ok (.ifCond .gt off, 3)) (ht : (pc : Int) + off = (tgt : Int)) (kt : 0 < a → W p l e R s m args below meth c H locs cells slots Q (F0 m tgt ls rest)) (kf : a = 0 → W p l e R s m args below meth c H locs cells slots Q (F0 m (pc + 3) ls rest)) : W p l e R s m args below meth c H locs cells slots Q (F0 m pc ls (.int (nI a) :: rest)) := lv_if_gt hx hb hdg ht (fun q => kt (Nat.pos_of_ne_zero (fun z => absurd q (by rw [z, nI_0]; decide)))) (fun q => kf (Decidable.byContradiction (fun z => q (by rw [← nI_0]; exact nI_lt (Nat.pos_of_ne_zero z) ha))))
theorem am_if_lt (hx : p.tables.exec = Jvm.exec) (hb : c.code = cc) {a : Nat} {off : Int} {tgt : Nat} (ha : a < 2 ^ 31) (hdg : decode cc pc = .ok (.ifCond .lt off, 3)) (ht : (pc : Int) + off = (tgt : Int)) (kf : W p l e R s m args below meth c H locs cells slots Q (F0 m (pc + 3) ls rest)) : W p l e R s m args below meth c H locs cells slots Q (F0 m pc ls (.int (nI a) :: rest)) := lv_if_lt hx hb hdg ht (fun q => absurd q (nI_pos ha)) (fun _ => kf)
theorem am_if_ge (hx : p.tables.exec = Jvm.exec) (hb : c.code = cc) {a : Nat} {off : Int} {tgt : Nat} (ha : a < 2 ^ 31) (hdg : decode cc pc = .ok (.ifCond .ge off, 3)) (ht : (pc : Int) + off = (tgt : Int)) (kt : W p l e R s m args below meth c H locs cells slots Q (F0 m tgt ls rest)) : W p l e R s m args below meth c H locs cells slots Q (F0 m pc ls (.int (nI a) :: rest)) := lv_if_ge hx hb hdg ht (fun _ => kt) (fun q => absurd (nI_pos' ha) q)
variable {D : va_G} {cl : List vw_C} {A : Nat → Prop} {a : Nat} {tys : List (ClassId × FieldType)} {ws : va_W} {H0 : Heap}
theorem am_bald (hx : p.tables.exec = Jvm.exec) (hb : c.code = cc) (hK : va_K D cl tys s) (hP : va_P D cl ws H) (q0 t0 : Nat) {cA : ClassId} {n : Nat} {f : Nat → Nat} (ha : ws[q0]? = some (a, .inl (cA, n, .inl (fun i => nI (f i))))) (ht : tys[t0]? = some (cA, .byte)) {j : Nat} (hj : j < n) (hn : n < 2 ^ 31) (hdg : decode cc pc = .ok (.baload, 1)) (kk : W p l e R s m args below meth c H locs cells slots Q (F0 m (pc + 1) ls (.int (nI (f j)) :: rest))) : W p l e R s m args below meth c H locs cells slots Q (F0 m pc ls (.int (nI j) :: .ref a :: rest)) := by
  refine va_bald hx hb hK hP q0 t0 ha ht (vp_in_nI hj hn) hdg ?_
  rw [nI_clamp (Nat.lt_trans hj hn)]
  exact kk
theorem am_iald (hx : p.tables.exec = Jvm.exec) (hb : c.code = cc) (hK : va_K D cl tys s) (hP : va_P D cl ws H) (q0 t0 : Nat) {cA : ClassId} {n : Nat} {f : Nat → Nat} (ha : ws[q0]? = some (a, .inl (cA, n, .inl (fun i => nI (f i))))) (ht : tys[t0]? = some (cA, .int)) {j : Nat} (hj : j < n) (hn : n < 2 ^ 31) (hdg : decode cc pc = .ok (.iaload, 1)) (kk : W p l e R s m args below meth c H locs cells slots Q (F0 m (pc + 1) ls (.int (nI (f j)) :: rest))) : W p l e R s m args below meth c H locs cells slots Q (F0 m pc ls (.int (nI j) :: .ref a :: rest)) := by
  refine va_iald hx hb hK hP q0 t0 ha ht (vp_in_nI hj hn) hdg ?_
  rw [nI_clamp (Nat.lt_trans hj hn)]
  exact kk
theorem am_bast (hx : p.tables.exec = Jvm.exec) (hb : c.code = cc) (hK : va_K D cl tys s) (hP : va_P D cl ws H) (hD : va_D A ws) (hS : va_S A H0 H locs) (q0 t0 : Nat) {cA : ClassId} {n : Nat} {f : Nat → Nat} (ha : ws[q0]? = some (a, .inl (cA, n, .inl (fun i => nI (f i))))) (ht : tys[t0]? = some (cA, .byte)) {j v : Nat} (hj : j < n) (hn : n < 2 ^ 31) (hv : v < 128) (hdg : decode cc pc = .ok (.bastore, 1)) (kk : ∀ (H1 : Heap) (locs1 : List Loc), va_P D cl (ws.set q0 (a, .inl (cA, n, .inl (fun i => nI (va_up f j v i))))) H1 → va_D A (ws.set q0 (a, .inl (cA, n, .inl (fun i => nI (va_up f j v i))))) → va_S A H0 H1 locs1 → W p l e R s m args below meth c H1 locs1 cells slots Q (F0 m (pc + 1) ls rest)) : W p l e R s m args below meth c H locs cells slots Q (F0 m pc ls (.int (nI v) :: .int (nI j) :: .ref a :: rest)) := by
  refine va_bast hx hb hK hP hD hS q0 t0 ha ht (vp_in_nI hj hn) hdg ?_
  rw [am_nb v hv, nI_clamp (Nat.lt_trans hj hn), am_upd]
  exact kk
theorem am_iast (hx : p.tables.exec = Jvm.exec) (hb : c.code = cc) (hK : va_K D cl tys s) (hP : va_P D cl ws H) (hD : va_D A ws) (hS : va_S A H0 H locs) (q0 t0 : Nat) {cA : ClassId} {n : Nat} {f : Nat → Nat} (ha : ws[q0]? = some (a, .inl (cA, n, .inl (fun i => nI (f i))))) (ht : tys[t0]? = some (cA, .int)) {j v : Nat} (hj : j < n) (hn : n < 2 ^ 31) (hdg : decode cc pc = .ok (.iastore, 1)) (kk : ∀ (H1 : Heap) (locs1 : List Loc), va_P D cl (ws.set q0 (a, .inl (cA, n, .inl (fun i => nI (va_up f j v i))))) H1 → va_D A (ws.set q0 (a, .inl (cA, n, .inl (fun i => nI (va_up f j v i))))) → va_S A H0 H1 locs1 → W p l e R s m args below meth c H1 locs1 cells slots Q (F0 m (pc + 1) ls rest)) : W p l e R s m args below meth c H locs cells slots Q (F0 m pc ls (.int (nI v) :: .int (nI j) :: .ref a :: rest)) := by
  refine va_iast hx hb hK hP hD hS q0 t0 ha ht (vp_in_nI hj hn) hdg ?_
  rw [nI_clamp (Nat.lt_trans hj hn), am_upd]
  exact kk
end AM1
/-- the cells of an AreaMap at ad 0: count n, areas F T K, made k, new list NF NT NK -/
abbrev am_X (ad : Nat → Nat) (dB : ClassId) (n : Nat) (F T K : Nat → Nat) (k : Nat) (NF NT NK : Nat → Nat) : va_W := [(ad 0, .inr (0, [.int (nI n), .ref (ad 1), .ref (ad 2), .ref (ad 3), .int (nI k), .ref (ad 4), .ref (ad 5), .ref (ad 6)])), (ad 1, .inl (dB, 20, .inl (fun i => nI (F i)))), (ad 2, .inl (dB, 20, .inl (fun i => nI (T i)))), (ad 3, .inl (dB, 20, .inl (fun i => nI (K i)))), (ad 4, .inl (dB, 48, .inl (fun i => nI (NF i)))), (ad 5, .inl (dB, 48, .inl (fun i => nI (NT i)))), (ad 6, .inl (dB, 48, .inl (fun i => nI (NK i))))]
/-- the cells of an AreaMapModel at bd 0: pages P, old O -/
abbrev am_M (bd : Nat → Nat) (dN : ClassId) (P O : Nat → Nat) : va_W := [(bd 0, .inr (1, [.ref (bd 1), .ref (bd 2)])), (bd 1, .inl (dN, 64, .inl (fun i => nI (P i)))), (bd 2, .inl (dN, 64, .inl (fun i => nI (O i))))]
abbrev am_SX : Type := Nat × (Nat → Nat) × (Nat → Nat) × (Nat → Nat) × Nat × (Nat → Nat) × (Nat → Nat) × (Nat → Nat)
abbrev am_SM : Type := (Nat → Nat) × (Nat → Nat)
abbrev am_Xu (ad : Nat → Nat) (dB : ClassId) (u : am_SX) : va_W := am_X ad dB u.1 u.2.1 u.2.2.1 u.2.2.2.1 u.2.2.2.2.1 u.2.2.2.2.2.1 u.2.2.2.2.2.2.1 u.2.2.2.2.2.2.2
abbrev am_Mu (bd : Nat → Nat) (dN : ClassId) (u : am_SM) : va_W := am_M bd dN u.1 u.2
section AM2
variable {p : Program} {l : Launch} {e : Env} {R : Room} {s : State} {m : MethodId} {args : Array Value} {below : List Frame} {meth : Method} {c : Code} {H : Heap} {locs : List Loc} {cells slots : Nat} {Q : State → Prop}
variable {cc : ByteArray} {pc nL : Nat} {ls : Array Slot} {rest : List Value} {ret : Option FieldType} {D : va_G} {A : Nat → Prop} {H0 : Heap} {ad bd : Nat → Nat} {dB dN : ClassId} {n k : Nat} {F T K NF NT NK P O : Nat → Nat} {tys : List (ClassId × FieldType)}
theorem am_gX_32 (X : am_Fx p s m meth c args cc nL ret RX0) (hK : va_K D am_cl tys s) (hP : va_P D am_cl (am_X ad dB n F T K k NF NT NK) H) (hdg : decode cc pc = .ok (.getfield 32, 3)) (kk : W p l e R s m args below meth c H locs cells slots Q (F0 m (pc + 3) ls (.int (nI n) :: rest))) : W p l e R s m args below meth c H locs cells slots Q (F0 m pc ls (.ref (ad 0) :: rest)) := va_get (D := D) (ci := 0) (v := .int (nI n)) (C := RX0) (T := TX0) (N := 8) X.1 X.2.1 X.2.2.2.2.2.2 in_X0 X.2.2.2.2.2.1 hK hP 0 rfl rfl 0 (by decide) (X.2.2.2.2.2.2 _ q26) (fun _ h9 => h9) rfl hdg kk
theorem am_gX_7 (X : am_Fx p s m meth c args cc nL ret RX0) (hK : va_K D am_cl tys s) (hP : va_P D am_cl (am_X ad dB n F T K k NF NT NK) H) (hdg : decode cc pc = .ok (.getfield 7, 3)) (kk : W p l e R s m args below meth c H locs cells slots Q (F0 m (pc + 3) ls (.ref (ad 1) :: rest))) : W p l e R s m args below meth c H locs cells slots Q (F0 m pc ls (.ref (ad 0) :: rest)) := va_get (D := D) (ci := 0) (v := .ref (ad 1)) (C := RX0) (T := TX0) (N := 8) X.1 X.2.1 X.2.2.2.2.2.2 in_X0 X.2.2.2.2.2.1 hK hP 0 rfl rfl 1 (by decide) (X.2.2.2.2.2.2 _ q27) (fun _ h9 => h9) rfl hdg kk
theorem am_gX_13 (X : am_Fx p s m meth c args cc nL ret RX0) (hK : va_K D am_cl tys s) (hP : va_P D am_cl (am_X ad dB n F T K k NF NT NK) H) (hdg : decode cc pc = .ok (.getfield 13, 3)) (kk : W p l e R s m args below meth c H locs cells slots Q (F0 m (pc + 3) ls (.ref (ad 2) :: rest))) : W p l e R s m args below meth c H locs cells slots Q (F0 m pc ls (.ref (ad 0) :: rest)) := va_get (D := D) (ci := 0) (v := .ref (ad 2)) (C := RX0) (T := TX0) (N := 8) X.1 X.2.1 X.2.2.2.2.2.2 in_X0 X.2.2.2.2.2.1 hK hP 0 rfl rfl 2 (by decide) (X.2.2.2.2.2.2 _ q28) (fun _ h9 => h9) rfl hdg kk
theorem am_gX_16 (X : am_Fx p s m meth c args cc nL ret RX0) (hK : va_K D am_cl tys s) (hP : va_P D am_cl (am_X ad dB n F T K k NF NT NK) H) (hdg : decode cc pc = .ok (.getfield 16, 3)) (kk : W p l e R s m args below meth c H locs cells slots Q (F0 m (pc + 3) ls (.ref (ad 3) :: rest))) : W p l e R s m args below meth c H locs cells slots Q (F0 m pc ls (.ref (ad 0) :: rest)) := va_get (D := D) (ci := 0) (v := .ref (ad 3)) (C := RX0) (T := TX0) (N := 8) X.1 X.2.1 X.2.2.2.2.2.2 in_X0 X.2.2.2.2.2.1 hK hP 0 rfl rfl 3 (by decide) (X.2.2.2.2.2.2 _ q29) (fun _ h9 => h9) rfl hdg kk
theorem am_gX_28 (X : am_Fx p s m meth c args cc nL ret RX0) (hK : va_K D am_cl tys s) (hP : va_P D am_cl (am_X ad dB n F T K k NF NT NK) H) (hdg : decode cc pc = .ok (.getfield 28, 3)) (kk : W p l e R s m args below meth c H locs cells slots Q (F0 m (pc + 3) ls (.int (nI k) :: rest))) : W p l e R s m args below meth c H locs cells slots Q (F0 m pc ls (.ref (ad 0) :: rest)) := va_get (D := D) (ci := 0) (v := .int (nI k)) (C := RX0) (T := TX0) (N := 8) X.1 X.2.1 X.2.2.2.2.2.2 in_X0 X.2.2.2.2.2.1 hK hP 0 rfl rfl 4 (by decide) (X.2.2.2.2.2.2 _ q30) (fun _ h9 => h9) rfl hdg kk
theorem am_gX_19 (X : am_Fx p s m meth c args cc nL ret RX0) (hK : va_K D am_cl tys s) (hP : va_P D am_cl (am_X ad dB n F T K k NF NT NK) H) (hdg : decode cc pc = .ok (.getfield 19, 3)) (kk : W p l e R s m args below meth c H locs cells slots Q (F0 m (pc + 3) ls (.ref (ad 4) :: rest))) : W p l e R s m args below meth c H locs cells slots Q (F0 m pc ls (.ref (ad 0) :: rest)) := va_get (D := D) (ci := 0) (v := .ref (ad 4)) (C := RX0) (T := TX0) (N := 8) X.1 X.2.1 X.2.2.2.2.2.2 in_X0 X.2.2.2.2.2.1 hK hP 0 rfl rfl 5 (by decide) (X.2.2.2.2.2.2 _ q31) (fun _ h9 => h9) rfl hdg kk
theorem am_gX_22 (X : am_Fx p s m meth c args cc nL ret RX0) (hK : va_K D am_cl tys s) (hP : va_P D am_cl (am_X ad dB n F T K k NF NT NK) H) (hdg : decode cc pc = .ok (.getfield 22, 3)) (kk : W p l e R s m args below meth c H locs cells slots Q (F0 m (pc + 3) ls (.ref (ad 5) :: rest))) : W p l e R s m args below meth c H locs cells slots Q (F0 m pc ls (.ref (ad 0) :: rest)) := va_get (D := D) (ci := 0) (v := .ref (ad 5)) (C := RX0) (T := TX0) (N := 8) X.1 X.2.1 X.2.2.2.2.2.2 in_X0 X.2.2.2.2.2.1 hK hP 0 rfl rfl 6 (by decide) (X.2.2.2.2.2.2 _ q32) (fun _ h9 => h9) rfl hdg kk
theorem am_gX_25 (X : am_Fx p s m meth c args cc nL ret RX0) (hK : va_K D am_cl tys s) (hP : va_P D am_cl (am_X ad dB n F T K k NF NT NK) H) (hdg : decode cc pc = .ok (.getfield 25, 3)) (kk : W p l e R s m args below meth c H locs cells slots Q (F0 m (pc + 3) ls (.ref (ad 6) :: rest))) : W p l e R s m args below meth c H locs cells slots Q (F0 m pc ls (.ref (ad 0) :: rest)) := va_get (D := D) (ci := 0) (v := .ref (ad 6)) (C := RX0) (T := TX0) (N := 8) X.1 X.2.1 X.2.2.2.2.2.2 in_X0 X.2.2.2.2.2.1 hK hP 0 rfl rfl 7 (by decide) (X.2.2.2.2.2.2 _ q33) (fun _ h9 => h9) rfl hdg kk
theorem am_pX_32 (X : am_Fx p s m meth c args cc nL ret RX0) (hK : va_K D am_cl tys s) (hP : va_P D am_cl (am_X ad dB n F T K k NF NT NK) H) (hD : va_D A (am_X ad dB n F T K k NF NT NK)) (hS : va_S A H0 H locs) {v : Nat} (hdg : decode cc pc = .ok (.putfield 32, 3)) (kk : ∀ (H1 : Heap) (locs1 : List Loc), va_P D am_cl (am_X ad dB v F T K k NF NT NK) H1 → va_D A (am_X ad dB v F T K k NF NT NK) → va_S A H0 H1 locs1 → W p l e R s m args below meth c H1 locs1 cells slots Q (F0 m (pc + 3) ls rest)) : W p l e R s m args below meth c H locs cells slots Q (F0 m pc ls (.int (nI v) :: .ref (ad 0) :: rest)) := va_put (D := D) (ci := 0) (v := .int (nI v)) (ty := .int) (C := RX0) (T := TX0) (N := 8) X.1 X.2.1 X.2.2.2.2.2.2 in_X0 tyX0 tyX0_ok nmX0 X.2.2.2.2.2.1 hK hP hD hS 0 rfl rfl 0 (by decide) (X.2.2.2.2.2.2 _ q26) (fun _ h9 => h9) rfl (by decide +kernel) rfl rfl (Nat.le_of_ble_eq_true rfl) hdg (fun H1 l1 a1 b1 c1 => kk H1 l1 a1 b1 c1)
theorem am_pX_28 (X : am_Fx p s m meth c args cc nL ret RX0) (hK : va_K D am_cl tys s) (hP : va_P D am_cl (am_X ad dB n F T K k NF NT NK) H) (hD : va_D A (am_X ad dB n F T K k NF NT NK)) (hS : va_S A H0 H locs) {v : Nat} (hdg : decode cc pc = .ok (.putfield 28, 3)) (kk : ∀ (H1 : Heap) (locs1 : List Loc), va_P D am_cl (am_X ad dB n F T K v NF NT NK) H1 → va_D A (am_X ad dB n F T K v NF NT NK) → va_S A H0 H1 locs1 → W p l e R s m args below meth c H1 locs1 cells slots Q (F0 m (pc + 3) ls rest)) : W p l e R s m args below meth c H locs cells slots Q (F0 m pc ls (.int (nI v) :: .ref (ad 0) :: rest)) := va_put (D := D) (ci := 0) (v := .int (nI v)) (ty := .int) (C := RX0) (T := TX0) (N := 8) X.1 X.2.1 X.2.2.2.2.2.2 in_X0 tyX0 tyX0_ok nmX0 X.2.2.2.2.2.1 hK hP hD hS 0 rfl rfl 4 (by decide) (X.2.2.2.2.2.2 _ q30) (fun _ h9 => h9) rfl (by decide +kernel) rfl rfl (Nat.le_of_ble_eq_true rfl) hdg (fun H1 l1 a1 b1 c1 => kk H1 l1 a1 b1 c1)
theorem am_lX_1 (X : am_Fx p s m meth c args cc nL ret RX0) (hK : va_K D am_cl [(dB, .byte)] s) (hP : va_P D am_cl (am_X ad dB n F T K k NF NT NK) H) {j : Nat} (hj : j < 20) (hdg : decode cc pc = .ok (.baload, 1)) (kk : W p l e R s m args below meth c H locs cells slots Q (F0 m (pc + 1) ls (.int (nI (F j)) :: rest))) : W p l e R s m args below meth c H locs cells slots Q (F0 m pc ls (.int (nI j) :: .ref (ad 1) :: rest)) := am_bald (f := F) X.1 X.2.1 hK hP 1 0 rfl rfl hj (by decide) hdg kk
theorem am_lX_2 (X : am_Fx p s m meth c args cc nL ret RX0) (hK : va_K D am_cl [(dB, .byte)] s) (hP : va_P D am_cl (am_X ad dB n F T K k NF NT NK) H) {j : Nat} (hj : j < 20) (hdg : decode cc pc = .ok (.baload, 1)) (kk : W p l e R s m args below meth c H locs cells slots Q (F0 m (pc + 1) ls (.int (nI (T j)) :: rest))) : W p l e R s m args below meth c H locs cells slots Q (F0 m pc ls (.int (nI j) :: .ref (ad 2) :: rest)) := am_bald (f := T) X.1 X.2.1 hK hP 2 0 rfl rfl hj (by decide) hdg kk
theorem am_lX_3 (X : am_Fx p s m meth c args cc nL ret RX0) (hK : va_K D am_cl [(dB, .byte)] s) (hP : va_P D am_cl (am_X ad dB n F T K k NF NT NK) H) {j : Nat} (hj : j < 20) (hdg : decode cc pc = .ok (.baload, 1)) (kk : W p l e R s m args below meth c H locs cells slots Q (F0 m (pc + 1) ls (.int (nI (K j)) :: rest))) : W p l e R s m args below meth c H locs cells slots Q (F0 m pc ls (.int (nI j) :: .ref (ad 3) :: rest)) := am_bald (f := K) X.1 X.2.1 hK hP 3 0 rfl rfl hj (by decide) hdg kk
theorem am_lX_4 (X : am_Fx p s m meth c args cc nL ret RX0) (hK : va_K D am_cl [(dB, .byte)] s) (hP : va_P D am_cl (am_X ad dB n F T K k NF NT NK) H) {j : Nat} (hj : j < 48) (hdg : decode cc pc = .ok (.baload, 1)) (kk : W p l e R s m args below meth c H locs cells slots Q (F0 m (pc + 1) ls (.int (nI (NF j)) :: rest))) : W p l e R s m args below meth c H locs cells slots Q (F0 m pc ls (.int (nI j) :: .ref (ad 4) :: rest)) := am_bald (f := NF) X.1 X.2.1 hK hP 4 0 rfl rfl hj (by decide) hdg kk
theorem am_lX_5 (X : am_Fx p s m meth c args cc nL ret RX0) (hK : va_K D am_cl [(dB, .byte)] s) (hP : va_P D am_cl (am_X ad dB n F T K k NF NT NK) H) {j : Nat} (hj : j < 48) (hdg : decode cc pc = .ok (.baload, 1)) (kk : W p l e R s m args below meth c H locs cells slots Q (F0 m (pc + 1) ls (.int (nI (NT j)) :: rest))) : W p l e R s m args below meth c H locs cells slots Q (F0 m pc ls (.int (nI j) :: .ref (ad 5) :: rest)) := am_bald (f := NT) X.1 X.2.1 hK hP 5 0 rfl rfl hj (by decide) hdg kk
theorem am_lX_6 (X : am_Fx p s m meth c args cc nL ret RX0) (hK : va_K D am_cl [(dB, .byte)] s) (hP : va_P D am_cl (am_X ad dB n F T K k NF NT NK) H) {j : Nat} (hj : j < 48) (hdg : decode cc pc = .ok (.baload, 1)) (kk : W p l e R s m args below meth c H locs cells slots Q (F0 m (pc + 1) ls (.int (nI (NK j)) :: rest))) : W p l e R s m args below meth c H locs cells slots Q (F0 m pc ls (.int (nI j) :: .ref (ad 6) :: rest)) := am_bald (f := NK) X.1 X.2.1 hK hP 6 0 rfl rfl hj (by decide) hdg kk
theorem am_sX_1 (X : am_Fx p s m meth c args cc nL ret RX0) (hK : va_K D am_cl [(dB, .byte)] s) (hP : va_P D am_cl (am_X ad dB n F T K k NF NT NK) H) (hD : va_D A (am_X ad dB n F T K k NF NT NK)) (hS : va_S A H0 H locs) {j v : Nat} (hj : j < 20) (hv : v < 128) (hdg : decode cc pc = .ok (.bastore, 1)) (kk : ∀ (H1 : Heap) (locs1 : List Loc), va_P D am_cl (am_X ad dB n (va_up F j v) T K k NF NT NK) H1 → va_D A (am_X ad dB n (va_up F j v) T K k NF NT NK) → va_S A H0 H1 locs1 → W p l e R s m args below meth c H1 locs1 cells slots Q (F0 m (pc + 1) ls rest)) : W p l e R s m args below meth c H locs cells slots Q (F0 m pc ls (.int (nI v) :: .int (nI j) :: .ref (ad 1) :: rest)) := am_bast (f := F) X.1 X.2.1 hK hP hD hS 1 0 rfl rfl hj (by decide) hv hdg (fun H1 l1 a1 b1 c1 => kk H1 l1 a1 b1 c1)
theorem am_sX_2 (X : am_Fx p s m meth c args cc nL ret RX0) (hK : va_K D am_cl [(dB, .byte)] s) (hP : va_P D am_cl (am_X ad dB n F T K k NF NT NK) H) (hD : va_D A (am_X ad dB n F T K k NF NT NK)) (hS : va_S A H0 H locs) {j v : Nat} (hj : j < 20) (hv : v < 128) (hdg : decode cc pc = .ok (.bastore, 1)) (kk : ∀ (H1 : Heap) (locs1 : List Loc), va_P D am_cl (am_X ad dB n F (va_up T j v) K k NF NT NK) H1 → va_D A (am_X ad dB n F (va_up T j v) K k NF NT NK) → va_S A H0 H1 locs1 → W p l e R s m args below meth c H1 locs1 cells slots Q (F0 m (pc + 1) ls rest)) : W p l e R s m args below meth c H locs cells slots Q (F0 m pc ls (.int (nI v) :: .int (nI j) :: .ref (ad 2) :: rest)) := am_bast (f := T) X.1 X.2.1 hK hP hD hS 2 0 rfl rfl hj (by decide) hv hdg (fun H1 l1 a1 b1 c1 => kk H1 l1 a1 b1 c1)
theorem am_sX_3 (X : am_Fx p s m meth c args cc nL ret RX0) (hK : va_K D am_cl [(dB, .byte)] s) (hP : va_P D am_cl (am_X ad dB n F T K k NF NT NK) H) (hD : va_D A (am_X ad dB n F T K k NF NT NK)) (hS : va_S A H0 H locs) {j v : Nat} (hj : j < 20) (hv : v < 128) (hdg : decode cc pc = .ok (.bastore, 1)) (kk : ∀ (H1 : Heap) (locs1 : List Loc), va_P D am_cl (am_X ad dB n F T (va_up K j v) k NF NT NK) H1 → va_D A (am_X ad dB n F T (va_up K j v) k NF NT NK) → va_S A H0 H1 locs1 → W p l e R s m args below meth c H1 locs1 cells slots Q (F0 m (pc + 1) ls rest)) : W p l e R s m args below meth c H locs cells slots Q (F0 m pc ls (.int (nI v) :: .int (nI j) :: .ref (ad 3) :: rest)) := am_bast (f := K) X.1 X.2.1 hK hP hD hS 3 0 rfl rfl hj (by decide) hv hdg (fun H1 l1 a1 b1 c1 => kk H1 l1 a1 b1 c1)
theorem am_sX_4 (X : am_Fx p s m meth c args cc nL ret RX0) (hK : va_K D am_cl [(dB, .byte)] s) (hP : va_P D am_cl (am_X ad dB n F T K k NF NT NK) H) (hD : va_D A (am_X ad dB n F T K k NF NT NK)) (hS : va_S A H0 H locs) {j v : Nat} (hj : j < 48) (hv : v < 128) (hdg : decode cc pc = .ok (.bastore, 1)) (kk : ∀ (H1 : Heap) (locs1 : List Loc), va_P D am_cl (am_X ad dB n F T K k (va_up NF j v) NT NK) H1 → va_D A (am_X ad dB n F T K k (va_up NF j v) NT NK) → va_S A H0 H1 locs1 → W p l e R s m args below meth c H1 locs1 cells slots Q (F0 m (pc + 1) ls rest)) : W p l e R s m args below meth c H locs cells slots Q (F0 m pc ls (.int (nI v) :: .int (nI j) :: .ref (ad 4) :: rest)) := am_bast (f := NF) X.1 X.2.1 hK hP hD hS 4 0 rfl rfl hj (by decide) hv hdg (fun H1 l1 a1 b1 c1 => kk H1 l1 a1 b1 c1)
theorem am_sX_5 (X : am_Fx p s m meth c args cc nL ret RX0) (hK : va_K D am_cl [(dB, .byte)] s) (hP : va_P D am_cl (am_X ad dB n F T K k NF NT NK) H) (hD : va_D A (am_X ad dB n F T K k NF NT NK)) (hS : va_S A H0 H locs) {j v : Nat} (hj : j < 48) (hv : v < 128) (hdg : decode cc pc = .ok (.bastore, 1)) (kk : ∀ (H1 : Heap) (locs1 : List Loc), va_P D am_cl (am_X ad dB n F T K k NF (va_up NT j v) NK) H1 → va_D A (am_X ad dB n F T K k NF (va_up NT j v) NK) → va_S A H0 H1 locs1 → W p l e R s m args below meth c H1 locs1 cells slots Q (F0 m (pc + 1) ls rest)) : W p l e R s m args below meth c H locs cells slots Q (F0 m pc ls (.int (nI v) :: .int (nI j) :: .ref (ad 5) :: rest)) := am_bast (f := NT) X.1 X.2.1 hK hP hD hS 5 0 rfl rfl hj (by decide) hv hdg (fun H1 l1 a1 b1 c1 => kk H1 l1 a1 b1 c1)
theorem am_sX_6 (X : am_Fx p s m meth c args cc nL ret RX0) (hK : va_K D am_cl [(dB, .byte)] s) (hP : va_P D am_cl (am_X ad dB n F T K k NF NT NK) H) (hD : va_D A (am_X ad dB n F T K k NF NT NK)) (hS : va_S A H0 H locs) {j v : Nat} (hj : j < 48) (hv : v < 128) (hdg : decode cc pc = .ok (.bastore, 1)) (kk : ∀ (H1 : Heap) (locs1 : List Loc), va_P D am_cl (am_X ad dB n F T K k NF NT (va_up NK j v)) H1 → va_D A (am_X ad dB n F T K k NF NT (va_up NK j v)) → va_S A H0 H1 locs1 → W p l e R s m args below meth c H1 locs1 cells slots Q (F0 m (pc + 1) ls rest)) : W p l e R s m args below meth c H locs cells slots Q (F0 m pc ls (.int (nI v) :: .int (nI j) :: .ref (ad 6) :: rest)) := am_bast (f := NK) X.1 X.2.1 hK hP hD hS 6 0 rfl rfl hj (by decide) hv hdg (fun H1 l1 a1 b1 c1 => kk H1 l1 a1 b1 c1)
theorem am_gM_7 (X : am_Fx p s m meth c args cc nL ret RX1) (hK : va_K D am_cl tys s) (hP : va_P D am_cl (am_M bd dN P O) H) (hdg : decode cc pc = .ok (.getfield 7, 3)) (kk : W p l e R s m args below meth c H locs cells slots Q (F0 m (pc + 3) ls (.ref (bd 1) :: rest))) : W p l e R s m args below meth c H locs cells slots Q (F0 m pc ls (.ref (bd 0) :: rest)) := va_get (D := D) (ci := 1) (v := .ref (bd 1)) (C := RX1) (T := TX1) (N := 2) X.1 X.2.1 X.2.2.2.2.2.2 in_X1 X.2.2.2.2.2.1 hK hP 0 rfl rfl 0 (by decide) (X.2.2.2.2.2.2 _ q157) (fun _ h9 => h9) rfl hdg kk
theorem am_gM_13 (X : am_Fx p s m meth c args cc nL ret RX1) (hK : va_K D am_cl tys s) (hP : va_P D am_cl (am_M bd dN P O) H) (hdg : decode cc pc = .ok (.getfield 13, 3)) (kk : W p l e R s m args below meth c H locs cells slots Q (F0 m (pc + 3) ls (.ref (bd 2) :: rest))) : W p l e R s m args below meth c H locs cells slots Q (F0 m pc ls (.ref (bd 0) :: rest)) := va_get (D := D) (ci := 1) (v := .ref (bd 2)) (C := RX1) (T := TX1) (N := 2) X.1 X.2.1 X.2.2.2.2.2.2 in_X1 X.2.2.2.2.2.1 hK hP 0 rfl rfl 1 (by decide) (X.2.2.2.2.2.2 _ q158) (fun _ h9 => h9) rfl hdg kk
theorem am_lM_1 (X : am_Fx p s m meth c args cc nL ret RX1) (hK : va_K D am_cl [(dN, .int)] s) (hP : va_P D am_cl (am_M bd dN P O) H) {j : Nat} (hj : j < 64) (hdg : decode cc pc = .ok (.iaload, 1)) (kk : W p l e R s m args below meth c H locs cells slots Q (F0 m (pc + 1) ls (.int (nI (P j)) :: rest))) : W p l e R s m args below meth c H locs cells slots Q (F0 m pc ls (.int (nI j) :: .ref (bd 1) :: rest)) := am_iald (f := P) X.1 X.2.1 hK hP 1 0 rfl rfl hj (by decide) hdg kk
theorem am_sM_1 (X : am_Fx p s m meth c args cc nL ret RX1) (hK : va_K D am_cl [(dN, .int)] s) (hP : va_P D am_cl (am_M bd dN P O) H) (hD : va_D A (am_M bd dN P O)) (hS : va_S A H0 H locs) {j v : Nat} (hj : j < 64) (hdg : decode cc pc = .ok (.iastore, 1)) (kk : ∀ (H1 : Heap) (locs1 : List Loc), va_P D am_cl (am_M bd dN (va_up P j v) O) H1 → va_D A (am_M bd dN (va_up P j v) O) → va_S A H0 H1 locs1 → W p l e R s m args below meth c H1 locs1 cells slots Q (F0 m (pc + 1) ls rest)) : W p l e R s m args below meth c H locs cells slots Q (F0 m pc ls (.int (nI v) :: .int (nI j) :: .ref (bd 1) :: rest)) := am_iast (f := P) X.1 X.2.1 hK hP hD hS 1 0 rfl rfl hj (by decide) hdg (fun H1 l1 a1 b1 c1 => kk H1 l1 a1 b1 c1)
theorem am_lM_2 (X : am_Fx p s m meth c args cc nL ret RX1) (hK : va_K D am_cl [(dN, .int)] s) (hP : va_P D am_cl (am_M bd dN P O) H) {j : Nat} (hj : j < 64) (hdg : decode cc pc = .ok (.iaload, 1)) (kk : W p l e R s m args below meth c H locs cells slots Q (F0 m (pc + 1) ls (.int (nI (O j)) :: rest))) : W p l e R s m args below meth c H locs cells slots Q (F0 m pc ls (.int (nI j) :: .ref (bd 2) :: rest)) := am_iald (f := O) X.1 X.2.1 hK hP 2 0 rfl rfl hj (by decide) hdg kk
theorem am_sM_2 (X : am_Fx p s m meth c args cc nL ret RX1) (hK : va_K D am_cl [(dN, .int)] s) (hP : va_P D am_cl (am_M bd dN P O) H) (hD : va_D A (am_M bd dN P O)) (hS : va_S A H0 H locs) {j v : Nat} (hj : j < 64) (hdg : decode cc pc = .ok (.iastore, 1)) (kk : ∀ (H1 : Heap) (locs1 : List Loc), va_P D am_cl (am_M bd dN P (va_up O j v)) H1 → va_D A (am_M bd dN P (va_up O j v)) → va_S A H0 H1 locs1 → W p l e R s m args below meth c H1 locs1 cells slots Q (F0 m (pc + 1) ls rest)) : W p l e R s m args below meth c H locs cells slots Q (F0 m pc ls (.int (nI v) :: .int (nI j) :: .ref (bd 2) :: rest)) := am_iast (f := O) X.1 X.2.1 hK hP hD hS 2 0 rfl rfl hj (by decide) hdg (fun H1 l1 a1 b1 c1 => kk H1 l1 a1 b1 c1)
end AM2
-- ===== contracts =====
abbrev am_pre (D : va_G) (ws : va_W) (tys : List (ClassId × FieldType)) : State → Prop := fun U => va_P D am_cl ws U.heap ∧ va_K D am_cl tys U
def am_QR (below : List Frame) (post : Int32 → Prop) (args : Array Value) (s : State) : State → Prop := MQ below (va_Qi (fun r (_ : Unit) => post r) (fun _ _ => True) (fun _ => False)) args s 0 0 (fun _ => False)
/-- a method that writes nothing -/
def am_RO (l : Launch) (y : MethodName) (b : ByteArray) (L : Nat) (ret : Option FieldType) (k : Nat) (av : List Value) (pre : State → Prop) (post : Int32 → Prop) : Prop := Met l y (ws_ y b L ret) (am_rm k) (va_Pc av pre) (va_Qi (fun r (_ : Unit) => post r) (fun _ _ => True) (fun _ => False)) 0 0 (fun _ => False)
theorem am_RO.intro {l : Launch} {y : MethodName} {b : ByteArray} {L : Nat} {ret : Option FieldType} {k : Nat} {av : List Value} {pre : State → Prop} {post : Int32 → Prop} (own : String) (ho : y.cls = own) (hy : plainName y.cls = true) (hlen : (lg_sl av).length ≤ L)
    (body : ∀ (p : Program) (e : Env) (s : State) (m : MethodId) (args : Array Value) (below : List Frame) (meth : Method) (c : Code), am_Fx p s m meth c args b L ret own → pre s → ∀ ls : Array Slot, lv_has ls L (lv_args 0 av) → W p l e (am_rm k) s m args below meth c s.heap [] 0 0 (am_QR below post args s) (F0 m 0 ls [])) : am_RO l y b L ret k av pre post := by
  refine Met.ofW (cc := b) (maxL := L) (ret := ret) hy rfl ?_
  intro p e s m args below meth c s₁ B hml hv
  obtain ⟨ha, hpre⟩ := hv
  have hts := atoms_spec (ws := ws_ y b L ret) B.pre
  have hts : ∀ w ∈ lw_all, w.before args s = true := fun w h => hts w (List.mem_cons_of_mem _ h)
  have hown : s.vm.findClass y.cls = some m.cls := findClass_of_methodNamed B.named
  rw [ho] at hown
  have key := body p e s m args below meth c ⟨B.exec, B.bytes, B.returns, B.notSynchronized, hml, hown, hts⟩ hpre _ (lv_entry av (n := L) hlen)
  have hE : entryFrame m args L = F0 m 0 ((lg_sl av ++ List.replicate (L - (lg_sl av).length) Slot.unset).toArray) [] := by
    rw [ha]
    exact lg_entry_eq m av L
  rw [hE]
  exact key
def am_QM {S : Type} (below : List Frame) (D : va_G) (Wd : S → va_W) (tys : List (ClassId × FieldType)) (post : Int32 → S → Prop) (args : Array Value) (s : State) (A : Nat → Prop) : State → Prop := MQ below (va_Qi post (fun u t => va_P D am_cl (Wd u) t.heap ∧ va_K D am_cl tys t ∧ va_D A (Wd u)) A) args s 0 0 A
def am_QV {S : Type} (below : List Frame) (D : va_G) (Wd : S → va_W) (tys : List (ClassId × FieldType)) (post : S → Prop) (args : Array Value) (s : State) (A : Nat → Prop) : State → Prop := MQ below (va_Qv post (fun u t => va_P D am_cl (Wd u) t.heap ∧ va_K D am_cl tys t ∧ va_D A (Wd u)) A) args s 0 0 A
abbrev am_pm (D : va_G) (ws : va_W) (tys : List (ClassId × FieldType)) (sz : Nat) : State → Prop := fun U => U.heap.size = sz ∧ va_P D am_cl ws U.heap ∧ va_K D am_cl tys U ∧ va_D (fun _ => True) ws
/-- a method that takes the world Wd u0 to a world Wd u, answering an int -/
def am_MU {S : Type} (l : Launch) (y : MethodName) (b : ByteArray) (L : Nat) (ret : Option FieldType) (k : Nat) (av : List Value) (D : va_G) (Wd : S → va_W) (tys : List (ClassId × FieldType)) (u0 : S) (post : Int32 → S → Prop) : Prop :=
  ∀ sz : Nat, Met l y (ws_ y b L ret) (am_rm k) (va_Pc av (am_pm D (Wd u0) tys sz)) (va_Qi post (fun u t => va_P D am_cl (Wd u) t.heap ∧ va_K D am_cl tys t ∧ va_D (va_A (Wd u0) sz) (Wd u)) (va_A (Wd u0) sz)) 0 0 (va_A (Wd u0) sz)
/-- the same, answering nothing -/
def am_MV {S : Type} (l : Launch) (y : MethodName) (b : ByteArray) (L : Nat) (ret : Option FieldType) (k : Nat) (av : List Value) (D : va_G) (Wd : S → va_W) (tys : List (ClassId × FieldType)) (u0 : S) (post : S → Prop) : Prop :=
  ∀ sz : Nat, Met l y (ws_ y b L ret) (am_rm k) (va_Pc av (am_pm D (Wd u0) tys sz)) (va_Qv post (fun u t => va_P D am_cl (Wd u) t.heap ∧ va_K D am_cl tys t ∧ va_D (va_A (Wd u0) sz) (Wd u)) (va_A (Wd u0) sz)) 0 0 (va_A (Wd u0) sz)
theorem am_MU.intro {S : Type} {l : Launch} {y : MethodName} {b : ByteArray} {L : Nat} {ret : Option FieldType} {k : Nat} {av : List Value} {D : va_G} {Wd : S → va_W} {tys : List (ClassId × FieldType)} {u0 : S} {post : Int32 → S → Prop} (own : String) (ho : y.cls = own) (hy : plainName y.cls = true) (hlen : (lg_sl av).length ≤ L)
    (body : ∀ (p : Program) (e : Env) (s : State) (m : MethodId) (args : Array Value) (below : List Frame) (meth : Method) (c : Code) (A : Nat → Prop), am_Fx p s m meth c args b L ret own → (∀ q : Nat, s.heap.size ≤ q → A q) → va_K D am_cl tys s → va_P D am_cl (Wd u0) s.heap → va_D A (Wd u0) → ∀ ls : Array Slot, lv_has ls L (lv_args 0 av) → W p l e (am_rm k) s m args below meth c s.heap [] 0 0 (am_QM below D Wd tys post args s A) (F0 m 0 ls [])) : am_MU l y b L ret k av D Wd tys u0 post := by
  intro sz
  refine Met.ofW (cc := b) (maxL := L) (ret := ret) hy rfl ?_
  intro p e s m args below meth c s₁ B hml hv
  obtain ⟨ha, hsz, hP, hK, hD0⟩ := hv
  have hts := atoms_spec (ws := ws_ y b L ret) B.pre
  have hts : ∀ w ∈ lw_all, w.before args s = true := fun w h => hts w (List.mem_cons_of_mem _ h)
  have hown : s.vm.findClass y.cls = some m.cls := findClass_of_methodNamed B.named
  rw [ho] at hown
  subst hsz
  have key := body p e s m args below meth c (va_A (Wd u0) s.heap.size) ⟨B.exec, B.bytes, B.returns, B.notSynchronized, hml, hown, hts⟩ (fun q h => Or.inr h) hK hP (hD0.self (sz := s.heap.size)) _ (lv_entry av (n := L) hlen)
  have hE : entryFrame m args L = F0 m 0 ((lg_sl av ++ List.replicate (L - (lg_sl av).length) Slot.unset).toArray) [] := by
    rw [ha]
    exact lg_entry_eq m av L
  rw [hE]
  exact key
theorem am_MV.intro {S : Type} {l : Launch} {y : MethodName} {b : ByteArray} {L : Nat} {ret : Option FieldType} {k : Nat} {av : List Value} {D : va_G} {Wd : S → va_W} {tys : List (ClassId × FieldType)} {u0 : S} {post : S → Prop} (own : String) (ho : y.cls = own) (hy : plainName y.cls = true) (hlen : (lg_sl av).length ≤ L)
    (body : ∀ (p : Program) (e : Env) (s : State) (m : MethodId) (args : Array Value) (below : List Frame) (meth : Method) (c : Code) (A : Nat → Prop), am_Fx p s m meth c args b L ret own → (∀ q : Nat, s.heap.size ≤ q → A q) → va_K D am_cl tys s → va_P D am_cl (Wd u0) s.heap → va_D A (Wd u0) → ∀ ls : Array Slot, lv_has ls L (lv_args 0 av) → W p l e (am_rm k) s m args below meth c s.heap [] 0 0 (am_QV below D Wd tys post args s A) (F0 m 0 ls [])) : am_MV l y b L ret k av D Wd tys u0 post := by
  intro sz
  refine Met.ofW (cc := b) (maxL := L) (ret := ret) hy rfl ?_
  intro p e s m args below meth c s₁ B hml hv
  obtain ⟨ha, hsz, hP, hK, hD0⟩ := hv
  have hts := atoms_spec (ws := ws_ y b L ret) B.pre
  have hts : ∀ w ∈ lw_all, w.before args s = true := fun w h => hts w (List.mem_cons_of_mem _ h)
  have hown : s.vm.findClass y.cls = some m.cls := findClass_of_methodNamed B.named
  rw [ho] at hown
  subst hsz
  have key := body p e s m args below meth c (va_A (Wd u0) s.heap.size) ⟨B.exec, B.bytes, B.returns, B.notSynchronized, hml, hown, hts⟩ (fun q h => Or.inr h) hK hP (hD0.self (sz := s.heap.size)) _ (lv_entry av (n := L) hlen)
  have hE : entryFrame m args L = F0 m 0 ((lg_sl av ++ List.replicate (L - (lg_sl av).length) Slot.unset).toArray) [] := by
    rw [ha]
    exact lg_entry_eq m av L
  rw [hE]
  exact key
section AM3
variable {p : Program} {l : Launch} {e : Env} {R : Room} {s : State} {m : MethodId} {args : Array Value} {below : List Frame} {meth : Method} {c : Code} {H : Heap} {locs : List Loc} {cells slots : Nat} {Q : State → Prop}
variable {cc : ByteArray} {pc nL : Nat} {ls : Array Slot} {rest st0 : List Value} {ret : Option FieldType} {D : va_G} {A : Nat → Prop} {H0 : Heap} {tys tys2 : List (ClassId × FieldType)} {own : String}
theorem am_iret {post : Int32 → Prop} {v : Int32} (X : am_Fx p s m meth c args cc nL (some .int) own) (hS : va_S (fun _ => False) s.heap H locs) (hdg : decode cc pc = .ok (.ireturn, 1)) (hp : post v) : W p l e R s m args below meth c H locs 0 0 (am_QR below post args s) (F0 m pc ls [.int v]) := W.iret (v := v) X.1 X.2.1 X.2.2.1 (fun t ht hW => ⟨⟨v, (), rfl, hp, trivial⟩, hS.F ht⟩) hS.2.2 hdg X.2.2.2.1
theorem am_zret {post : Int32 → Prop} {v : Int32} (X : am_Fx p s m meth c args cc nL (some .boolean) own) (hS : va_S (fun _ => False) s.heap H locs) (hdg : decode cc pc = .ok (.ireturn, 1)) (hn : v = 0 ∨ v = 1) (hp : post v) : W p l e R s m args below meth c H locs 0 0 (am_QR below post args s) (F0 m pc ls [.int v]) := W.zret (v := v) X.1 X.2.1 X.2.2.1 (by rcases hn with rfl | rfl <;> rfl) (fun t ht hW => ⟨⟨v, (), rfl, hp, trivial⟩, hS.F ht⟩) hS.2.2 hdg X.2.2.2.1
theorem am_miret {S : Type} {Wd : S → va_W} {post : Int32 → S → Prop} {v : Int32} (u : S) (X : am_Fx p s m meth c args cc nL (some .int) own) (hK : va_K D am_cl tys s) (hP : va_P D am_cl (Wd u) H) (hD : va_D A (Wd u)) (hS : va_S A s.heap H locs) (hdg : decode cc pc = .ok (.ireturn, 1)) (hp : post v u) : W p l e R s m args below meth c H locs 0 0 (am_QM below D Wd tys post args s A) (F0 m pc ls [.int v]) := W.iret (v := v) X.1 X.2.1 X.2.2.1 (fun t ht hW => ⟨⟨v, u, rfl, hp, by rw [ht]; exact hP, va_K.moved hW.alike hK, hD⟩, hS.F ht⟩) hS.2.2 hdg X.2.2.2.1
theorem am_mzret {S : Type} {Wd : S → va_W} {post : Int32 → S → Prop} {v : Int32} (u : S) (X : am_Fx p s m meth c args cc nL (some .boolean) own) (hK : va_K D am_cl tys s) (hP : va_P D am_cl (Wd u) H) (hD : va_D A (Wd u)) (hS : va_S A s.heap H locs) (hdg : decode cc pc = .ok (.ireturn, 1)) (hn : v = 0 ∨ v = 1) (hp : post v u) : W p l e R s m args below meth c H locs 0 0 (am_QM below D Wd tys post args s A) (F0 m pc ls [.int v]) := W.zret (v := v) X.1 X.2.1 X.2.2.1 (by rcases hn with rfl | rfl <;> rfl) (fun t ht hW => ⟨⟨v, u, rfl, hp, by rw [ht]; exact hP, va_K.moved hW.alike hK, hD⟩, hS.F ht⟩) hS.2.2 hdg X.2.2.2.1
theorem am_mvret {S : Type} {Wd : S → va_W} {post : S → Prop} (u : S) (X : am_Fx p s m meth c args cc nL none own) (hK : va_K D am_cl tys s) (hP : va_P D am_cl (Wd u) H) (hD : va_D A (Wd u)) (hS : va_S A s.heap H locs) (hdg : decode cc pc = .ok (.return_, 1)) (hp : post u) : W p l e R s m args below meth c H locs 0 0 (am_QV below D Wd tys post args s A) (F0 m pc ls []) := W.vret X.1 X.2.1 X.2.2.1 (fun t ht hW => ⟨⟨u, rfl, hp, by rw [ht]; exact hP, va_K.moved hW.alike hK, hD⟩, hS.F ht⟩) hS.2.2 hdg X.2.2.2.1
variable {y : MethodName} {b : ByteArray} {L k idx : Nat} {ret2 : Option FieldType} {av As : List Value} {ws wc wr : va_W} {a : Nat} {C : String}
/-- what a static call asks of the tables -/
def am_LS (own : String) (idx : Nat) (y : MethodName) (b : ByteArray) (L : Nat) (r : Option FieldType) (n : Nat) : Prop := GoodIn lw_all (va_wsS own idx y (ws_ y b L r)) ∧ (y.cls ≠ "java/lang/invoke/MethodHandle" ∧ y.cls ≠ "java/lang/invoke/VarHandle" ∧ (parseMethodDescriptor y.desc).map (fun d => d.parameters.length) = some n)
/-- what a call through an object asks of the tables -/
def am_LV (own : String) (idx : Nat) (C : String) (y : MethodName) (b : ByteArray) (L : Nat) (r : Option FieldType) (n : Nat) : Prop := GoodIn lw_all (wsV own idx C y (ws_ y b L r)) ∧ (y.cls = C ∧ y.cls ≠ "java/lang/invoke/MethodHandle" ∧ y.cls ≠ "java/lang/invoke/VarHandle" ∧ (parseMethodDescriptor y.desc).map (fun d => d.parameters.length) = some n)
/-- a static call that writes nothing -/
theorem am_callS {post : Int32 → Prop} (hM : am_RO l y b L ret2 k av (fun _ => True) post) (hL : am_LS own idx y b L ret2 av.length) (X : am_Fx p s m meth c args cc nL ret own) (hl : ls.size = nL) (hP : va_P D am_cl ws H) (hS : va_S A H0 H locs) (hR : k + 1 ≤ R.frames ∧ 8 + (L + 11) + 40 * k ≤ R.locals) (hc : cells ≤ R.cells ∧ slots ≤ R.slots) (hrm : (rest.map fun v => v.category).sum ≤ 8) (hdg : decode cc pc = .ok (.invokestatic idx, 3)) (hst : st0 = av.reverse ++ rest)
    (kk : ∀ (r : Int32) (H1 : Heap) (locs1 : List Loc), post r → va_P D am_cl ws H1 → va_S A H0 H1 locs1 → W p l e R s m args below meth c H1 locs1 cells slots Q (F0 m (pc + 3) ls (.int r :: rest))) : W p l e R s m args below meth c H locs cells slots Q (F0 m pc ls st0) :=
  va_calli (va_runS (As := av) (rest := rest) ⟨X.1, X.2.1, X.2.2.2.2.1, X.2.2.2.2.2.1, X.2.2.2.2.2.2⟩ hM (va_cwS av.length X.2.2.2.2.2.2 hL.1 rfl rfl rfl hL.2 hR) ⟨fun a U g mk q => q, fun U hU hW => ⟨rfl, trivial⟩⟩ rfl rfl hl hst (lv_room hrm) hdg hc) hS (fun q _ h => h.elim) (fun q h => h.elim)
    (fun r u t H1 locs1 ht hvm hp hB hz hk hS => kk r H1 locs1 hp (hP.kept (fun k q hq => hk q.1 (va_at.lt (hP k q hq)) (fun h => h))) hS)
/-- a call through an object that writes nothing -/
theorem am_callV {post : Int32 → Prop} (hM : am_RO l y b L ret2 k (.ref a :: As) (am_pre D wc tys2) post) (hL : am_LV own idx C y b L ret2 As.length) (X : am_Fx p s m meth c args cc nL ret own) (hl : ls.size = nL) (hPc : va_P D am_cl wc H) (hKc : va_K D am_cl tys2 s) {ci : Nat} {q : vw_C} {fs : List Value} (he : wc[0]? = some (a, .inr (ci, fs))) (hci : am_cl[ci]? = some q) (hC : q.1 = C) (hP : va_P D am_cl ws H) (hS : va_S A H0 H locs) (hR : k + 1 ≤ R.frames ∧ 8 + (L + 11) + 40 * k ≤ R.locals) (hc : cells ≤ R.cells ∧ slots ≤ R.slots) (hrm : (rest.map fun v => v.category).sum ≤ 8) (hdg : decode cc pc = .ok (.invokevirtual idx, 3)) (hst : st0 = As.reverse ++ .ref a :: rest)
    (kk : ∀ (r : Int32) (H1 : Heap) (locs1 : List Loc), post r → va_P D am_cl ws H1 → va_S A H0 H1 locs1 → W p l e R s m args below meth c H1 locs1 cells slots Q (F0 m (pc + 3) ls (.int r :: rest))) : W p l e R s m args below meth c H locs cells slots Q (F0 m pc ls st0) := by
  subst hC
  exact va_calli (va_runV (As := As) (rest := rest) ⟨X.1, X.2.1, X.2.2.2.2.1, X.2.2.2.2.2.1, X.2.2.2.2.2.2⟩ hM (cwV As.length X.2.2.2.2.2.2 hL.1 rfl rfl rfl hL.2 hR) ⟨fun a U g mk q => ⟨q.1, q.2.1, va_K.moved (u := U) (U := U.calling g mk a) (Vm.Alike.refl U.vm) q.2.2⟩, va_recv hKc hPc hci he, fun U hU hW => ⟨rfl, by rw [hU]; exact hPc, va_K.moved hW.alike hKc⟩⟩ rfl rfl hl hst (lv_room hrm) hdg hc) hS (fun q _ h => h.elim) (fun q h => h.elim)
    (fun r u t H1 locs1 ht hvm hp hB hz hk hS => kk r H1 locs1 hp (hP.kept (fun k q hq => hk q.1 (va_at.lt (hP k q hq)) (fun h => h))) hS)
theorem am_fr {ws wr : va_W} {H H1 : Heap} {H0 : Heap} {locs : List Loc} {w1 : va_W} (hP : va_P D am_cl (ws ++ wr) H) (hD : va_D A (ws ++ wr)) (hS : va_S A H0 H locs) (hA : ∀ q : Nat, H0.size ≤ q → A q) : (∀ q, va_A ws H.size q → A q) ∧ ((∀ q : Nat, q < H.size → ¬ va_A ws H.size q → H1[q]? = H[q]?) → va_P D am_cl w1 H1 → va_D (va_A ws H.size) w1 → va_P D am_cl (w1 ++ wr) H1 ∧ va_D A (w1 ++ wr)) := by
  have hin : ∀ (k : Nat) (q : Nat × va_E), ws[k]? = some q → (ws ++ wr)[k]? = some q := fun k q h => by
    rw [List.getElem?_append_left (List.getElem?_eq_some_iff.mp h).1]; exact h
  have hin2 : ∀ (k : Nat) (q : Nat × va_E), wr[k]? = some q → (ws ++ wr)[ws.length + k]? = some q := fun k q h => by
    rw [List.getElem?_append_right (by omega), Nat.add_sub_cancel_left]; exact h
  have hF : ∀ q, va_A ws H.size q → A q := fun q h => by
    rcases h with ⟨k, e, h⟩ | h
    · exact hD.2 k _ (hin k _ h)
    · exact hA q (Nat.le_trans hS.1 h)
  refine ⟨hF, fun hk hP1 hD1 => ?_⟩
  have apart : ∀ (k : Nat) (q : Nat × va_E), wr[k]? = some q → q.1 < H.size ∧ ¬ va_A ws H.size q.1 := by
    intro k q hq
    have hl := va_at.lt (hP _ q (hin2 k q hq))
    refine ⟨hl, fun h => ?_⟩
    rcases h with ⟨k2, e, h⟩ | h
    · have hij := hD.1 _ _ q (q.1, e) (hin2 k q hq) (hin k2 _ h) rfl
      have := (List.getElem?_eq_some_iff.mp h).1
      omega
    · omega
  refine ⟨va_P.app hP1 (fun k q hq => va_at.kept (hP _ q (hin2 k q hq)) (hk q.1 (apart k q hq).1 (apart k q hq).2)), va_D.app (hD1.weaken (fun k q _ h => hF q.1 h)) ⟨fun i j x y hx hy hxy => ?_, fun k q hq => hD.2 _ q (hin2 k q hq)⟩ (fun i j x y hx hy hxy => ?_)⟩
  · have := hD.1 _ _ x y (hin2 i x hx) (hin2 j y hy) hxy
    omega
  · exact (apart j y hy).2 (by rw [← hxy]; exact hD1.2 i x hx)
/-- a call that takes the world Wd u0 to Wd u; the rest wr of the caller's world stays -/
theorem am_mcallV {S : Type} {Wd : S → va_W} {u0 : S} {post : Int32 → S → Prop} (hM : am_MU l y b L ret2 k (.ref a :: As) D Wd tys2 u0 post) (hL : am_LV own idx C y b L ret2 As.length) (X : am_Fx p s m meth c args cc nL ret own) (hl : ls.size = nL) (hKc : va_K D am_cl tys2 s) {ci : Nat} {q : vw_C} {fs : List Value} (he : (Wd u0)[0]? = some (a, .inr (ci, fs))) (hci : am_cl[ci]? = some q) (hC : q.1 = C) (hP : va_P D am_cl (Wd u0 ++ wr) H) (hD : va_D A (Wd u0 ++ wr)) (hS : va_S A H0 H locs) (hA : ∀ q : Nat, H0.size ≤ q → A q) (hR : k + 1 ≤ R.frames ∧ 8 + (L + 11) + 40 * k ≤ R.locals) (hc : cells ≤ R.cells ∧ slots ≤ R.slots) (hrm : (rest.map fun v => v.category).sum ≤ 8) (hdg : decode cc pc = .ok (.invokevirtual idx, 3)) (hst : st0 = As.reverse ++ .ref a :: rest)
    (kk : ∀ (r : Int32) (u : S) (H1 : Heap) (locs1 : List Loc), post r u → va_P D am_cl (Wd u ++ wr) H1 → va_D A (Wd u ++ wr) → va_S A H0 H1 locs1 → W p l e R s m args below meth c H1 locs1 cells slots Q (F0 m (pc + 3) ls (.int r :: rest))) : W p l e R s m args below meth c H locs cells slots Q (F0 m pc ls st0) := by
  subst hC
  have hPc : va_P D am_cl (Wd u0) H := fun k q h => hP k q (by rw [List.getElem?_append_left (List.getElem?_eq_some_iff.mp h).1]; exact h)
  have hDc : va_D (fun _ => True) (Wd u0) := ⟨fun i j x y hx hy hxy => hD.1 i j x y (by rw [List.getElem?_append_left (List.getElem?_eq_some_iff.mp hx).1]; exact hx) (by rw [List.getElem?_append_left (List.getElem?_eq_some_iff.mp hy).1]; exact hy) hxy, fun _ _ _ => trivial⟩
  exact va_calli (va_runV (As := As) (rest := rest) ⟨X.1, X.2.1, X.2.2.2.2.1, X.2.2.2.2.2.1, X.2.2.2.2.2.2⟩ (hM H.size) (cwV As.length X.2.2.2.2.2.2 hL.1 rfl rfl rfl hL.2 hR) ⟨fun a U g mk q => ⟨q.1, q.2.1, q.2.2.1, va_K.moved (u := U) (U := U.calling g mk a) (Vm.Alike.refl U.vm) q.2.2.2.1, q.2.2.2.2⟩, va_recv hKc hPc hci he, fun U hU hW => ⟨rfl, by rw [hU], by rw [hU]; exact hPc, va_K.moved hW.alike hKc, hDc⟩⟩ rfl rfl hl hst (lv_room hrm) hdg hc) hS (fun q _ h => (am_fr (H1 := H) (w1 := []) hP hD hS hA).1 q h) (fun q h => (am_fr (H1 := H) (w1 := []) hP hD hS hA).1 q h)
    (fun r u t H1 locs1 ht hvm hp hB hz hk hS2 => by
      obtain ⟨hP1, hK1, hD1⟩ := hB
      rw [ht] at hP1
      obtain ⟨hP2, hD2⟩ := (am_fr (H1 := H1) (w1 := Wd u) hP hD hS hA).2 hk hP1 hD1
      exact kk r u H1 locs1 hp hP2 hD2 hS2)
/-- the same with nothing beside it -/
theorem am_mcallV0 {S : Type} {Wd : S → va_W} {u0 : S} {post : Int32 → S → Prop} (hM : am_MU l y b L ret2 k (.ref a :: As) D Wd tys2 u0 post) (hL : am_LV own idx C y b L ret2 As.length) (X : am_Fx p s m meth c args cc nL ret own) (hl : ls.size = nL) (hKc : va_K D am_cl tys2 s) {ci : Nat} {q : vw_C} {fs : List Value} (he : (Wd u0)[0]? = some (a, .inr (ci, fs))) (hci : am_cl[ci]? = some q) (hC : q.1 = C) (hP : va_P D am_cl (Wd u0) H) (hD : va_D A (Wd u0)) (hS : va_S A H0 H locs) (hA : ∀ q : Nat, H0.size ≤ q → A q) (hR : k + 1 ≤ R.frames ∧ 8 + (L + 11) + 40 * k ≤ R.locals) (hc : cells ≤ R.cells ∧ slots ≤ R.slots) (hrm : (rest.map fun v => v.category).sum ≤ 8) (hdg : decode cc pc = .ok (.invokevirtual idx, 3)) (hst : st0 = As.reverse ++ .ref a :: rest)
    (kk : ∀ (r : Int32) (u : S) (H1 : Heap) (locs1 : List Loc), post r u → va_P D am_cl (Wd u) H1 → va_D A (Wd u) → va_S A H0 H1 locs1 → W p l e R s m args below meth c H1 locs1 cells slots Q (F0 m (pc + 3) ls (.int r :: rest))) : W p l e R s m args below meth c H locs cells slots Q (F0 m pc ls st0) :=
  am_mcallV (wr := []) hM hL X hl hKc he hci hC (by rw [List.append_nil]; exact hP) (by rw [List.append_nil]; exact hD) hS hA hR hc hrm hdg hst (fun r u H1 locs1 hp hP1 hD1 hS1 => kk r u H1 locs1 hp (by rw [List.append_nil] at hP1; exact hP1) (by rw [List.append_nil] at hD1; exact hD1) hS1)
/-- a call that takes the world Wd u0 to Wd u; the rest wr of the caller's world stays -/
theorem am_mcallVv {S : Type} {Wd : S → va_W} {u0 : S} {post : S → Prop} (hM : am_MV l y b L ret2 k (.ref a :: As) D Wd tys2 u0 post) (hL : am_LV own idx C y b L ret2 As.length) (X : am_Fx p s m meth c args cc nL ret own) (hl : ls.size = nL) (hKc : va_K D am_cl tys2 s) {ci : Nat} {q : vw_C} {fs : List Value} (he : (Wd u0)[0]? = some (a, .inr (ci, fs))) (hci : am_cl[ci]? = some q) (hC : q.1 = C) (hP : va_P D am_cl (Wd u0 ++ wr) H) (hD : va_D A (Wd u0 ++ wr)) (hS : va_S A H0 H locs) (hA : ∀ q : Nat, H0.size ≤ q → A q) (hR : k + 1 ≤ R.frames ∧ 8 + (L + 11) + 40 * k ≤ R.locals) (hc : cells ≤ R.cells ∧ slots ≤ R.slots) (hrm : (rest.map fun v => v.category).sum ≤ 8) (hdg : decode cc pc = .ok (.invokevirtual idx, 3)) (hst : st0 = As.reverse ++ .ref a :: rest)
    (kk : ∀ (u : S) (H1 : Heap) (locs1 : List Loc), post u → va_P D am_cl (Wd u ++ wr) H1 → va_D A (Wd u ++ wr) → va_S A H0 H1 locs1 → W p l e R s m args below meth c H1 locs1 cells slots Q (F0 m (pc + 3) ls rest)) : W p l e R s m args below meth c H locs cells slots Q (F0 m pc ls st0) := by
  subst hC
  have hPc : va_P D am_cl (Wd u0) H := fun k q h => hP k q (by rw [List.getElem?_append_left (List.getElem?_eq_some_iff.mp h).1]; exact h)
  have hDc : va_D (fun _ => True) (Wd u0) := ⟨fun i j x y hx hy hxy => hD.1 i j x y (by rw [List.getElem?_append_left (List.getElem?_eq_some_iff.mp hx).1]; exact hx) (by rw [List.getElem?_append_left (List.getElem?_eq_some_iff.mp hy).1]; exact hy) hxy, fun _ _ _ => trivial⟩
  exact va_callv (va_runV (As := As) (rest := rest) ⟨X.1, X.2.1, X.2.2.2.2.1, X.2.2.2.2.2.1, X.2.2.2.2.2.2⟩ (hM H.size) (cwV As.length X.2.2.2.2.2.2 hL.1 rfl rfl rfl hL.2 hR) ⟨fun a U g mk q => ⟨q.1, q.2.1, q.2.2.1, va_K.moved (u := U) (U := U.calling g mk a) (Vm.Alike.refl U.vm) q.2.2.2.1, q.2.2.2.2⟩, va_recv hKc hPc hci he, fun U hU hW => ⟨rfl, by rw [hU], by rw [hU]; exact hPc, va_K.moved hW.alike hKc, hDc⟩⟩ rfl rfl hl hst (lv_room hrm) hdg hc) hS (fun q _ h => (am_fr (H1 := H) (w1 := []) hP hD hS hA).1 q h) (fun q h => (am_fr (H1 := H) (w1 := []) hP hD hS hA).1 q h)
    (fun u t H1 locs1 ht hvm hp hB hz hk hS2 => by
      obtain ⟨hP1, hK1, hD1⟩ := hB
      rw [ht] at hP1
      obtain ⟨hP2, hD2⟩ := (am_fr (H1 := H1) (w1 := Wd u) hP hD hS hA).2 hk hP1 hD1
      exact kk u H1 locs1 hp hP2 hD2 hS2)
/-- the same with nothing beside it -/
theorem am_mcallVv0 {S : Type} {Wd : S → va_W} {u0 : S} {post : S → Prop} (hM : am_MV l y b L ret2 k (.ref a :: As) D Wd tys2 u0 post) (hL : am_LV own idx C y b L ret2 As.length) (X : am_Fx p s m meth c args cc nL ret own) (hl : ls.size = nL) (hKc : va_K D am_cl tys2 s) {ci : Nat} {q : vw_C} {fs : List Value} (he : (Wd u0)[0]? = some (a, .inr (ci, fs))) (hci : am_cl[ci]? = some q) (hC : q.1 = C) (hP : va_P D am_cl (Wd u0) H) (hD : va_D A (Wd u0)) (hS : va_S A H0 H locs) (hA : ∀ q : Nat, H0.size ≤ q → A q) (hR : k + 1 ≤ R.frames ∧ 8 + (L + 11) + 40 * k ≤ R.locals) (hc : cells ≤ R.cells ∧ slots ≤ R.slots) (hrm : (rest.map fun v => v.category).sum ≤ 8) (hdg : decode cc pc = .ok (.invokevirtual idx, 3)) (hst : st0 = As.reverse ++ .ref a :: rest)
    (kk : ∀ (u : S) (H1 : Heap) (locs1 : List Loc), post u → va_P D am_cl (Wd u) H1 → va_D A (Wd u) → va_S A H0 H1 locs1 → W p l e R s m args below meth c H1 locs1 cells slots Q (F0 m (pc + 3) ls rest)) : W p l e R s m args below meth c H locs cells slots Q (F0 m pc ls st0) :=
  am_mcallVv (wr := []) hM hL X hl hKc he hci hC (by rw [List.append_nil]; exact hP) (by rw [List.append_nil]; exact hD) hS hA hR hc hrm hdg hst (fun u H1 locs1 hp hP1 hD1 hS1 => kk u H1 locs1 hp (by rw [List.append_nil] at hP1; exact hP1) (by rw [List.append_nil] at hD1; exact hD1) hS1)
end AM3
end
section
/-! the plain law: pages g, areas F T K, what the methods answer; no program in sight -/
def am_hi (T : Nat → Nat) : Nat → Nat
  | 0 => 0
  | i + 1 => T i
def am_cnt (q : Nat → Bool) : Nat → Nat
  | 0 => 0
  | n + 1 => am_cnt q n + (if q n = true then 1 else 0)
theorem am_cnt_s (q : Nat → Bool) (n : Nat) : am_cnt q (n + 1) = am_cnt q n + (if q n = true then 1 else 0) := rfl
theorem am_cnt_flat {q : Nat → Bool} {a : Nat} : ∀ b, a ≤ b → (∀ p, a ≤ p → p < b → q p = false) → am_cnt q b = am_cnt q a := by
  intro b
  induction b with
  | zero => intro h _; rw [Nat.le_zero.mp h]
  | succ b ih =>
    intro h hq
    by_cases e : a = b + 1
    · rw [e]
    · have h1 : a ≤ b := by omega
      rw [am_cnt_s, ih h1 (fun p h2 h3 => hq p h2 (by omega)), hq b h1 (by omega)]
      simp
theorem am_cnt_mono (q : Nat → Bool) {a : Nat} : ∀ b, a ≤ b → am_cnt q a ≤ am_cnt q b := by
  intro b
  induction b with
  | zero => intro h; rw [Nat.le_zero.mp h]; exact Nat.le_refl _
  | succ b ih =>
    intro h
    by_cases e : a = b + 1
    · rw [e]; exact Nat.le_refl _
    · have := ih (by omega)
      rw [am_cnt_s]
      omega
theorem am_cnt_congr {q q2 : Nat → Bool} : ∀ n, (∀ p, p < n → q p = q2 p) → am_cnt q n = am_cnt q2 n := by
  intro n
  induction n with
  | zero => intro _; rfl
  | succ n ih =>
    intro h
    rw [am_cnt_s, am_cnt_s, ih (fun p hp => h p (by omega)), h n (by omega)]
/-- the number of pages p < n of the span from a to b with w (g p) -/
def am_cw (w : Nat → Bool) (g : Nat → Nat) (a b n : Nat) : Nat := am_cnt (fun p => decide (a ≤ p ∧ p < b) && w (g p)) n
theorem am_cw_s (w : Nat → Bool) (g : Nat → Nat) (a b n : Nat) : am_cw w g a b (n + 1) = am_cw w g a b n + (if (a ≤ n ∧ n < b) ∧ w (g n) = true then 1 else 0) := by
  unfold am_cw
  rw [am_cnt_s]
  simp only [Bool.and_eq_true, decide_eq_true_eq]
theorem am_cw_seg {w : Nat → Bool} {g : Nat → Nat} {a b x v : Nat} : ∀ y, x ≤ y → (∀ p, x ≤ p → p < y → g p = v) → am_cw w g a b y = am_cw w g a b x + (if w v = true then min y b - max x a else 0) := by
  intro y
  induction y with
  | zero =>
    intro h _
    have : x = 0 := by omega
    subst this
    split <;> omega
  | succ y ih =>
    intro h hq
    by_cases e : x = y + 1
    · subst e
      split <;> omega
    · have h1 : x ≤ y := by omega
      rw [am_cw_s, ih h1 (fun p h2 h3 => hq p h2 (by omega)), hq y h1 (by omega)]
      by_cases hw : w v = true
      · simp only [hw, if_true, and_true]
        split <;> omega
      · simp only [hw, and_false, if_false, Bool.false_eq_true]
theorem am_cw_lo {w : Nat → Bool} {g : Nat → Nat} {a b n : Nat} (h : n ≤ a) : am_cw w g a b n = 0 := by
  unfold am_cw
  rw [am_cnt_flat (a := 0) n (Nat.zero_le _) (fun p _ h2 => by
    have : ¬ (a ≤ p ∧ p < b) := by omega
    simp [this])]
  rfl
theorem am_cw_hi {w : Nat → Bool} {g : Nat → Nat} {a b n : Nat} (h : b ≤ n) : am_cw w g a b n = am_cw w g a b b := by
  unfold am_cw
  exact am_cnt_flat n h (fun p h1 h2 => by
    have : ¬ (a ≤ p ∧ p < b) := by omega
    simp [this])
theorem am_cw_le {w : Nat → Bool} {g : Nat → Nat} {a b : Nat} : ∀ n, am_cw w g a b n ≤ min n b - a := by
  intro n
  induction n with
  | zero => rw [am_cw_lo (Nat.zero_le _)]; exact Nat.zero_le _
  | succ n ih =>
    rw [am_cw_s]
    split <;> omega
theorem am_cw_full {w : Nat → Bool} {g : Nat → Nat} {a b p0 : Nat} (h1 : a ≤ p0) (h2 : p0 < b) (h3 : w (g p0) = false) : ∀ n, p0 < n → am_cw w g a b n + 1 ≤ min n b - a := by
  intro n
  induction n with
  | zero => intro h; omega
  | succ n ih =>
    intro h
    rw [am_cw_s]
    by_cases e : p0 = n
    · subst e
      have := am_cw_le (w := w) (g := g) (a := a) (b := b) p0
      rw [if_neg (fun z => by rw [h3] at z; cases z.2)]
      omega
    · have := ih (by omega)
      split <;> omega
theorem am_cw_congr {w : Nat → Bool} {g g2 : Nat → Nat} {a b : Nat} (n : Nat) (h : ∀ p, p < n → g p = g2 p) : am_cw w g a b n = am_cw w g2 a b n := am_cnt_congr n (fun p hp => by rw [h p hp])
def am_us (g : Nat → Nat) (a b : Nat) : Nat := am_cw (fun v => decide (0 < v)) g a b 64
def am_ch (g : Nat → Nat) (a b r : Nat) : Nat := am_cw (fun v => decide (0 < v) && decide ((v - 1) % 8 ≠ r)) g a b 64
/-- a page at which an area begins -/
def am_beg (g : Nat → Nat) (p : Nat) : Bool := decide (0 < g p) && (decide (p = 0) || decide (g (p - 1) ≠ g p))
theorem am_beg_iff {g : Nat → Nat} {p : Nat} : am_beg g p = true ↔ 0 < g p ∧ (p = 0 ∨ g (p - 1) ≠ g p) := by
  unfold am_beg
  simp only [Bool.and_eq_true, Bool.or_eq_true, decide_eq_true_eq]
theorem am_beg_no {g : Nat → Nat} {p : Nat} (h : ¬ (0 < g p ∧ (p = 0 ∨ g (p - 1) ≠ g p))) : am_beg g p = false := by
  cases e : am_beg g p with
  | false => rfl
  | true => exact absurd (am_beg_iff.mp e) h
def am_runs (g : Nat → Nat) : Nat := am_cnt (am_beg g) 64
theorem am_beg_congr {g g2 : Nat → Nat} {p : Nat} (h : ∀ q, q ≤ p → g q = g2 q) : am_beg g p = am_beg g2 p := by
  unfold am_beg
  rw [h p (Nat.le_refl _), h (p - 1) (by omega)]
theorem am_runs_congr {g g2 : Nat → Nat} (h : ∀ p, p < 64 → g p = g2 p) : am_runs g = am_runs g2 := am_cnt_congr 64 (fun p hp => am_beg_congr (fun q hq => h q (by omega)))
def am_fl (g : Nat → Nat) (a b v : Nat) : Nat → Nat := fun p => if a ≤ p ∧ p < b then v else g p
theorem am_fl_in {g : Nat → Nat} {a b v p : Nat} (h1 : a ≤ p) (h2 : p < b) : am_fl g a b v p = v := if_pos ⟨h1, h2⟩
theorem am_fl_lo {g : Nat → Nat} {a b v p : Nat} (h : p < a) : am_fl g a b v p = g p := if_neg (by omega)
theorem am_fl_up {g : Nat → Nat} {a b v p : Nat} (h : b ≤ p) : am_fl g a b v p = g p := if_neg (by omega)
theorem am_fl_0 (g : Nat → Nat) (a v : Nat) : am_fl g a a v = g := by
  funext p
  exact if_neg (by omega)
theorem am_fl_s {g : Nat → Nat} {a b v : Nat} (h : a ≤ b) : va_up (am_fl g a b v) b v = am_fl g a (b + 1) v := by
  funext p
  unfold va_up am_fl
  by_cases e : p = b
  · rw [if_pos e, if_pos (by omega)]
  · rw [if_neg e]
    by_cases q : a ≤ p ∧ p < b
    · rw [if_pos q, if_pos (by omega)]
    · rw [if_neg q, if_neg (by omega)]
def am_pv (v r : Nat) : Nat := (v - 1) / 8 * 8 + r + 1
def am_pr (g : Nat → Nat) (a b r : Nat) : Nat → Nat := fun p => if a ≤ p ∧ p < b then am_pv (g p) r else g p
theorem am_pr_in {g : Nat → Nat} {a b r p : Nat} (h1 : a ≤ p) (h2 : p < b) : am_pr g a b r p = am_pv (g p) r := if_pos ⟨h1, h2⟩
theorem am_pr_out {g : Nat → Nat} {a b r p : Nat} (h : p < a ∨ b ≤ p) : am_pr g a b r p = g p := if_neg (by omega)
theorem am_pr_0 (g : Nat → Nat) (a r : Nat) : am_pr g a a r = g := by
  funext p
  exact if_neg (by omega)
theorem am_pr_s {g : Nat → Nat} {a b r : Nat} (h : a ≤ b) : va_up (am_pr g a b r) b (am_pv (g b) r) = am_pr g a (b + 1) r := by
  funext p
  unfold va_up am_pr
  by_cases e : p = b
  · rw [if_pos e, if_pos (by omega), e]
  · rw [if_neg e]
    by_cases q : a ≤ p ∧ p < b
    · rw [if_pos q, if_pos (by omega)]
    · rw [if_neg q, if_neg (by omega)]
/-- the first n of f, g behind them -/
def am_cp (f g : Nat → Nat) (n : Nat) : Nat → Nat := fun p => if p < n then f p else g p
theorem am_cp_0 (f g : Nat → Nat) : am_cp f g 0 = g := by
  funext p
  exact if_neg (by omega)
theorem am_cp_s (f g : Nat → Nat) (n : Nat) : va_up (am_cp f g n) n (f n) = am_cp f g (n + 1) := by
  funext p
  unfold va_up am_cp
  by_cases e : p = n
  · rw [if_pos e, if_pos (by omega), e]
  · rw [if_neg e]
    by_cases q : p < n
    · rw [if_pos q, if_pos (by omega)]
    · rw [if_neg q, if_neg (by omega)]
theorem am_cp_lo {f g : Nat → Nat} {n p : Nat} (h : p < n) : am_cp f g n p = f p := if_pos h
theorem am_cp_up {f g : Nat → Nat} {n p : Nat} (h : n ≤ p) : am_cp f g n p = g p := if_neg (by omega)
-- ===== areas and pages =====
/-- the first m areas are the runs of g on the pages before e -/
def am_Seg (m : Nat) (F T K g : Nat → Nat) (e : Nat) : Prop :=
  (∀ i, i < m → am_hi T i ≤ F i ∧ F i < T i ∧ T i ≤ e ∧ K i ≤ 127 ∧ (∀ p, am_hi T i ≤ p → p < F i → g p = 0) ∧ (∀ p, F i ≤ p → p < T i → g p = K i + 1) ∧ (0 < i → F i = am_hi T i → K i ≠ K (i - 1))) ∧ am_hi T m ≤ e ∧ ∀ p, am_hi T m ≤ p → p < e → g p = 0
def am_Rel (c : Nat) (F T K g : Nat → Nat) : Prop := c ≤ 20 ∧ am_Seg c F T K g 64
theorem am_hi_congr {T T2 : Nat → Nat} {i : Nat} (h : ∀ j, j < i → T2 j = T j) : am_hi T2 i = am_hi T i := by
  cases i with
  | zero => rfl
  | succ i => exact h i (Nat.lt_succ_self i)
theorem am_Seg.congr {m : Nat} {F T K g F2 T2 K2 g2 : Nat → Nat} {e : Nat} (h : am_Seg m F T K g e) (h1 : ∀ i, i < m → F2 i = F i ∧ T2 i = T i ∧ K2 i = K i) (h2 : ∀ p, p < e → g2 p = g p) : am_Seg m F2 T2 K2 g2 e := by
  have hh : ∀ i, i ≤ m → am_hi T2 i = am_hi T i := fun i hi => am_hi_congr (fun j hj => (h1 j (by omega)).2.1)
  refine ⟨fun i hi => ?_, ?_, ?_⟩
  · obtain ⟨a1, a2, a3, a4, a5, a6, a7⟩ := h.1 i hi
    obtain ⟨b1, b2, b3⟩ := h1 i hi
    rw [hh i (by omega), b1, b2, b3]
    refine ⟨a1, a2, a3, a4, fun p q1 q2 => by rw [h2 p (by omega)]; exact a5 p q1 q2, fun p q1 q2 => by rw [h2 p (by omega)]; exact a6 p q1 q2, fun q1 q2 => ?_⟩
    rw [(h1 (i - 1) (by omega)).2.2]
    exact a7 q1 q2
  · rw [hh m (Nat.le_refl _)]
    exact h.2.1
  · rw [hh m (Nat.le_refl _)]
    exact fun p q1 q2 => by rw [h2 p q2]; exact h.2.2 p q1 q2
theorem am_Seg.ext {m : Nat} {F T K g : Nat → Nat} {e e2 : Nat} (h : am_Seg m F T K g e) (he : e ≤ e2) (h0 : ∀ p, e ≤ p → p < e2 → g p = 0) : am_Seg m F T K g e2 := by
  refine ⟨fun i hi => ?_, Nat.le_trans h.2.1 he, fun p q1 q2 => ?_⟩
  · obtain ⟨a1, a2, a3, a4, a5, a6, a7⟩ := h.1 i hi
    exact ⟨a1, a2, Nat.le_trans a3 he, a4, a5, a6, a7⟩
  · rcases Nat.lt_or_ge p e with q | q
    · exact h.2.2 p q1 q
    · exact h0 p q q2
theorem am_Seg.cast {m : Nat} {F T K g : Nat → Nat} {e e2 : Nat} (h : am_Seg m F T K g e) (he : e = e2) : am_Seg m F T K g e2 := he ▸ h
theorem am_Seg.hi_le {m : Nat} {F T K g : Nat → Nat} {e : Nat} (h : am_Seg m F T K g e) {i : Nat} : ∀ j, j ≤ m → i ≤ j → am_hi T i ≤ am_hi T j := by
  intro j
  induction j with
  | zero => intro _ h2; rw [Nat.le_zero.mp h2]; exact Nat.le_refl _
  | succ j ih =>
    intro h1 h2
    by_cases q : i = j + 1
    · rw [q]; exact Nat.le_refl _
    · obtain ⟨a1, a2, -⟩ := h.1 j (by omega)
      have := ih (by omega) (by omega)
      show am_hi T i ≤ T j
      omega
theorem am_Seg.find {m : Nat} {F T K g : Nat → Nat} {e : Nat} (h : am_Seg m F T K g e) {p : Nat} (hp : p < e) (hg : 0 < g p) : ∃ i, i < m ∧ F i ≤ p ∧ p < T i := by
  have key : ∀ j, j ≤ m → p < am_hi T j → ∃ i, i < j ∧ F i ≤ p ∧ p < T i := by
    intro j
    induction j with
    | zero => intro _ h2; exact absurd h2 (Nat.not_lt_zero p)
    | succ j ih =>
      intro h1 h2
      have h2 : p < T j := h2
      obtain ⟨a1, a2, a3, a4, a5, -⟩ := h.1 j (by omega)
      rcases Nat.lt_or_ge p (F j) with q | q
      · rcases Nat.lt_or_ge p (am_hi T j) with q2 | q2
        · obtain ⟨i, b1, b2⟩ := ih (by omega) q2
          exact ⟨i, by omega, b2⟩
        · rw [a5 p q2 q] at hg
          exact absurd hg (Nat.lt_irrefl 0)
      · exact ⟨j, by omega, q, h2⟩
  rcases Nat.lt_or_ge p (am_hi T m) with q | q
  · exact key m (Nat.le_refl _) q
  · rw [h.2.2 p q hp] at hg
    exact absurd hg (Nat.lt_irrefl 0)
theorem am_Seg.le {m : Nat} {F T K g : Nat → Nat} {e : Nat} (h : am_Seg m F T K g e) {p : Nat} (hp : p < e) : g p ≤ 128 := by
  rcases Nat.eq_zero_or_pos (g p) with q | q
  · omega
  · obtain ⟨i, h1, h2, h3⟩ := h.find hp q
    obtain ⟨a1, a2, a3, a4, a5, a6, a7⟩ := h.1 i h1
    have := a6 p h2 h3
    omega
theorem am_Seg.apart {m : Nat} {F T K g : Nat → Nat} {e : Nat} (h : am_Seg m F T K g e) {i j : Nat} (hij : i < j) (hj : j < m) : T i ≤ F j := by
  have h1 := h.hi_le (i := i + 1) j (by omega) (by omega)
  have h2 := (h.1 j hj).1
  have h1 : T i ≤ am_hi T j := h1
  omega
theorem am_Seg.cw {m : Nat} {F T K g : Nat → Nat} {e : Nat} (h : am_Seg m F T K g e) {w : Nat → Bool} (hw : w 0 = false) {a b i : Nat} (hi : i < m) : am_cw w g a b (T i) = am_cw w g a b (am_hi T i) + (if w (K i + 1) = true then min (T i) b - max (F i) a else 0) := by
  obtain ⟨a1, a2, a3, a4, a5, a6, a7⟩ := h.1 i hi
  have h1 := am_cw_seg (w := w) (a := a) (b := b) (F i) a1 a5
  rw [hw] at h1
  have h2 := am_cw_seg (w := w) (a := a) (b := b) (T i) (Nat.le_of_lt a2) a6
  rw [h2, h1]
  simp
theorem am_Seg.cwE {m : Nat} {F T K g : Nat → Nat} {e : Nat} (h : am_Seg m F T K g e) {w : Nat → Bool} (hw : w 0 = false) {a b : Nat} : am_cw w g a b e = am_cw w g a b (am_hi T m) := by
  have h1 := am_cw_seg (w := w) (a := a) (b := b) e h.2.1 h.2.2
  rw [hw] at h1
  rw [h1]
  simp
theorem am_Seg.b0 {m : Nat} {F T K g : Nat → Nat} {e : Nat} (h : am_Seg m F T K g e) {i : Nat} (hi : i < m) {p : Nat} (h1 : am_hi T i ≤ p) (h2 : p < F i) : am_beg g p = false := by
  refine am_beg_no (fun z => ?_)
  have := (h.1 i hi).2.2.2.2.1 p h1 h2
  omega
theorem am_Seg.b1 {m : Nat} {F T K g : Nat → Nat} {e : Nat} (h : am_Seg m F T K g e) {i : Nat} (hi : i < m) : am_beg g (F i) = true := by
  obtain ⟨a1, a2, a3, a4, a5, a6, a7⟩ := h.1 i hi
  have hF := a6 (F i) (Nat.le_refl _) a2
  refine am_beg_iff.mpr ⟨by omega, ?_⟩
  rcases Nat.eq_zero_or_pos (F i) with q | q
  · exact Or.inl q
  · right
    rcases Nat.lt_or_ge (am_hi T i) (F i) with q2 | q2
    · rw [a5 (F i - 1) (by omega) (by omega), hF]
      omega
    · have q3 : F i = am_hi T i := by omega
      cases i with
      | zero =>
        have : am_hi T 0 = 0 := rfl
        omega
      | succ i =>
        obtain ⟨b1, b2, b3, b4, b5, b6, b7⟩ := h.1 i (by omega)
        have e1 : am_hi T (i + 1) = T i := rfl
        have a7 := a7 (Nat.succ_pos i) q3
        have e2 : i + 1 - 1 = i := rfl
        rw [e2] at a7
        rw [hF, b6 (F (i + 1) - 1) (by omega) (by omega)]
        omega
theorem am_Seg.b2 {m : Nat} {F T K g : Nat → Nat} {e : Nat} (h : am_Seg m F T K g e) {i : Nat} (hi : i < m) {p : Nat} (h1 : F i < p) (h2 : p < T i) : am_beg g p = false := by
  obtain ⟨a1, a2, a3, a4, a5, a6, a7⟩ := h.1 i hi
  refine am_beg_no (fun z => ?_)
  have e1 := a6 p (by omega) h2
  have e2 := a6 (p - 1) (by omega) (by omega)
  rcases z.2 with q | q
  · omega
  · omega
theorem am_Seg.bF {m : Nat} {F T K g : Nat → Nat} {e : Nat} (h : am_Seg m F T K g e) {i : Nat} (hi : i < m) : am_cnt (am_beg g) (F i) = am_cnt (am_beg g) (am_hi T i) := am_cnt_flat (F i) (h.1 i hi).1 (fun p h1 h2 => h.b0 hi h1 h2)
theorem am_Seg.bP {m : Nat} {F T K g : Nat → Nat} {e : Nat} (h : am_Seg m F T K g e) {i : Nat} (hi : i < m) {p : Nat} (h1 : F i ≤ p) (h2 : p < T i) : am_cnt (am_beg g) (p + 1) = am_cnt (am_beg g) (am_hi T i) + 1 := by
  rw [am_cnt_flat (a := F i + 1) (p + 1) (by omega) (fun q q1 q2 => h.b2 hi (by omega) (by omega)), am_cnt_s, h.b1 hi, h.bF hi]
  rfl
theorem am_Seg.bc {m : Nat} {F T K g : Nat → Nat} {e : Nat} (h : am_Seg m F T K g e) : ∀ i, i ≤ m → am_cnt (am_beg g) (am_hi T i) = i := by
  intro i
  induction i with
  | zero => intro _; rfl
  | succ i ih =>
    intro hi
    obtain ⟨a1, a2, -⟩ := h.1 i (by omega)
    have h1 := h.bP (i := i) (by omega) (p := T i - 1) (by omega) (by omega)
    rw [ih (by omega), show T i - 1 + 1 = T i by omega] at h1
    exact h1
theorem am_Seg.count {m : Nat} {F T K g : Nat → Nat} {e : Nat} (h : am_Seg m F T K g e) : am_cnt (am_beg g) e = m := by
  rw [am_cnt_flat (a := am_hi T m) e h.2.1 (fun p h1 h2 => am_beg_no (fun z => by have := h.2.2 p h1 h2; omega))]
  exact h.bc m (Nat.le_refl _)
-- ===== what emit does =====
def am_em (m : Nat) (F T K : Nat → Nat) (a b k : Nat) : Nat × (Nat → Nat) × (Nat → Nat) × (Nat → Nat) := if b ≤ a then (m, F, T, K) else if 0 < m ∧ T (m - 1) = a ∧ K (m - 1) = k then (m, F, va_up T (m - 1) b, K) else (m + 1, va_up F m a, va_up T m b, va_up K m k)
theorem am_em_no {m m2 : Nat} {F T K F2 T2 K2 : Nat → Nat} {a b k : Nat} (hu : (m2, F2, T2, K2) = am_em m F T K a b k) (h : b ≤ a) : m2 = m ∧ F2 = F ∧ T2 = T ∧ K2 = K := by
  unfold am_em at hu
  rw [if_pos h] at hu
  simp only [Prod.mk.injEq] at hu
  exact hu
theorem am_em_le {m m2 : Nat} {F T K F2 T2 K2 : Nat → Nat} {a b k : Nat} (hu : (m2, F2, T2, K2) = am_em m F T K a b k) : m ≤ m2 ∧ m2 ≤ m + 1 := by
  unfold am_em at hu
  split at hu
  · simp only [Prod.mk.injEq] at hu
    omega
  · split at hu
    · simp only [Prod.mk.injEq] at hu
      omega
    · simp only [Prod.mk.injEq] at hu
      omega
theorem am_Seg.em {m m2 : Nat} {F T K F2 T2 K2 g : Nat → Nat} {e a b k : Nat} (h : am_Seg m F T K g e) (hu : (m2, F2, T2, K2) = am_em m F T K a b k) (he : e ≤ a) (hab : a < b) (hk : k ≤ 127) (h0 : ∀ p, e ≤ p → p < a → g p = 0) (h1 : ∀ p, a ≤ p → p < b → g p = k + 1) : am_Seg m2 F2 T2 K2 g b := by
  unfold am_em at hu
  rw [if_neg (by omega)] at hu
  split at hu
  · rename_i hj
    obtain ⟨j1, j2, j3⟩ := hj
    simp only [Prod.mk.injEq] at hu
    obtain ⟨rfl, rfl, rfl, rfl⟩ := hu
    have hh : ∀ i, i < m2 → am_hi (va_up T (m2 - 1) b) i = am_hi T i := fun i hi => am_hi_congr (fun j hj => va_up_ne T b (by omega))
    refine ⟨fun i hi => ?_, ?_, ?_⟩
    · obtain ⟨a1, a2, a3, a4, a5, a6, a7⟩ := h.1 i hi
      rw [hh i hi]
      by_cases q : i = m2 - 1
      · subst q
        rw [va_up_self]
        refine ⟨a1, by omega, Nat.le_refl _, a4, a5, fun p p1 p2 => ?_, a7⟩
        rcases Nat.lt_or_ge p a with q2 | q2
        · exact a6 p p1 (by omega)
        · rw [h1 p q2 p2, j3]
      · rw [va_up_ne T b q]
        exact ⟨a1, a2, by omega, a4, a5, a6, a7⟩
    · cases m2 with
      | zero => omega
      | succ n =>
        show va_up T n b n ≤ b
        rw [va_up_self]
        exact Nat.le_refl _
    · cases m2 with
      | zero => omega
      | succ n =>
        intro p p1 p2
        have p1 : va_up T n b n ≤ p := p1
        rw [va_up_self] at p1
        omega
  · rename_i hj
    simp only [Prod.mk.injEq] at hu
    obtain ⟨rfl, rfl, rfl, rfl⟩ := hu
    have hh : ∀ i, i ≤ m → am_hi (va_up T m b) i = am_hi T i := fun i hi => am_hi_congr (fun j hj => va_up_ne T b (by omega))
    have hhm := h.2.1
    refine ⟨fun i hi => ?_, ?_, ?_⟩
    · rw [hh i (by omega)]
      by_cases q : i = m
      · subst q
        rw [va_up_self, va_up_self, va_up_self]
        refine ⟨by omega, hab, Nat.le_refl _, hk, fun p p1 p2 => ?_, h1, fun p1 p2 => ?_⟩
        · rcases Nat.lt_or_ge p e with q2 | q2
          · exact h.2.2 p p1 q2
          · exact h0 p q2 p2
        · rw [va_up_ne K k (by omega)]
          intro p3
          cases i with
          | zero => omega
          | succ n =>
            have p2 : a = T n := p2
            exact hj ⟨p1, p2.symm, p3.symm⟩
      · obtain ⟨a1, a2, a3, a4, a5, a6, a7⟩ := h.1 i (by omega)
        rw [va_up_ne T b q, va_up_ne F a q, va_up_ne K k q, va_up_ne K k (by omega)]
        exact ⟨a1, a2, by omega, a4, a5, a6, a7⟩
    · show va_up T m b m ≤ b
      rw [va_up_self]
      exact Nat.le_refl _
    · intro p p1 p2
      have p1 : va_up T m b m ≤ p := p1
      rw [va_up_self] at p1
      omega
end
section
/-! the plain law, second part: the steps of rewrite and protect, searches, the specs -/
-- ===== rewrite: g2 = am_fl g a b v =====
/-- how far the new list has come before area i -/
def am_rwE (T : Nat → Nat) (a b i : Nat) : Nat := if a < am_hi T i then max (am_hi T i) b else am_hi T i
theorem am_rwE_0 (T : Nat → Nat) (a b : Nat) : am_rwE T a b 0 = 0 := if_neg (by show ¬ a < 0; omega)
theorem am_Seg.nil (F T K g : Nat → Nat) : am_Seg 0 F T K g 0 := ⟨fun i h => absurd h (Nat.not_lt_zero i), Nat.le_refl _, fun p _ h => absurd h (Nat.not_lt_zero p)⟩
/-- the piece before the span -/
theorem am_rw_a {c m m2 : Nat} {F T K g NF NT NK NF2 NT2 NK2 : Nat → Nat} {a b v i : Nat} (h : am_Seg c F T K g 64) (hi : i < c) (hab : a < b) (hS : am_Seg m NF NT NK (am_fl g a b v) (am_rwE T a b i)) (hu : (m2, NF2, NT2, NK2) = am_em m NF NT NK (F i) (min (T i) a) (K i)) : am_Seg m2 NF2 NT2 NK2 (am_fl g a b v) (if F i < a then min (T i) a else am_rwE T a b i) := by
  obtain ⟨a1, a2, a3, a4, a5, a6, a7⟩ := h.1 i hi
  by_cases q : F i < a
  · rw [if_pos q]
    have e0 : am_rwE T a b i = am_hi T i := if_neg (by omega)
    rw [e0] at hS
    exact hS.em hu a1 (by omega) a4 (fun p p1 p2 => by rw [am_fl_lo (by omega)]; exact a5 p p1 p2) (fun p p1 p2 => by rw [am_fl_lo (by omega)]; exact a6 p p1 (by omega))
  · rw [if_neg q]
    obtain ⟨rfl, rfl, rfl, rfl⟩ := am_em_no hu (by omega)
    exact hS
/-- the span itself, put ahead of the first area that ends behind its start -/
theorem am_rw_b {c m m2 : Nat} {F T K g NF NT NK NF2 NT2 NK2 : Nat → Nat} {a b k i : Nat} (h : am_Seg c F T K g 64) (hi : i < c) (hab : a < b) (hk : k ≤ 127) (h1 : am_hi T i ≤ a) (h2 : a < T i) (hS : am_Seg m NF NT NK (am_fl g a b (k + 1)) (if F i < a then min (T i) a else am_rwE T a b i)) (hu : (m2, NF2, NT2, NK2) = am_em m NF NT NK a b k) : am_Seg m2 NF2 NT2 NK2 (am_fl g a b (k + 1)) b := by
  obtain ⟨a1, a2, a3, a4, a5, a6, a7⟩ := h.1 i hi
  have e0 : am_rwE T a b i = am_hi T i := if_neg (by omega)
  rw [e0] at hS
  by_cases q : F i < a
  · rw [if_pos q] at hS
    exact hS.em hu (by omega) hab hk (fun p p1 p2 => by omega) (fun p p1 p2 => am_fl_in p1 p2)
  · rw [if_neg q] at hS
    exact hS.em hu h1 hab hk (fun p p1 p2 => by rw [am_fl_lo p2]; exact a5 p p1 (by omega)) (fun p p1 p2 => am_fl_in p1 p2)
/-- how far it has come when the span's part is done -/
theorem am_rw_b0 {c m : Nat} {F T K g NF NT NK : Nat → Nat} {a b v i : Nat} (h : am_Seg c F T K g 64) (hi : i < c) (hab : a < b) (hv : v = 0 ∨ a < am_hi T i ∨ T i ≤ a) (hS : am_Seg m NF NT NK (am_fl g a b v) (if F i < a then min (T i) a else am_rwE T a b i)) : am_Seg m NF NT NK (am_fl g a b v) (if a < T i then (if a < am_hi T i then max (am_hi T i) b else b) else T i) := by
  obtain ⟨a1, a2, a3, a4, a5, a6, a7⟩ := h.1 i hi
  by_cases q1 : a < am_hi T i
  · have e0 : am_rwE T a b i = max (am_hi T i) b := if_pos q1
    rw [e0, if_neg (by omega)] at hS
    rw [if_pos (by omega), if_pos q1]
    exact hS
  · have e0 : am_rwE T a b i = am_hi T i := if_neg q1
    rw [e0] at hS
    by_cases q2 : a < T i
    · have hv0 : v = 0 := by omega
      subst hv0
      rw [if_pos q2, if_neg q1]
      by_cases q : F i < a
      · rw [if_pos q] at hS
        exact hS.ext (by omega) (fun p p1 p2 => am_fl_in (by omega) p2)
      · rw [if_neg q] at hS
        refine hS.ext (by omega) (fun p p1 p2 => ?_)
        rcases Nat.lt_or_ge p a with q3 | q3
        · rw [am_fl_lo q3]
          exact a5 p p1 (by omega)
        · exact am_fl_in q3 p2
    · rw [if_neg q2]
      rw [if_pos (by omega)] at hS
      exact hS.cast (by omega)
theorem am_rw_b1 {c m : Nat} {F T K g NF NT NK : Nat → Nat} {a b v i : Nat} (h1 : am_hi T i ≤ a) (h2 : a < T i) (hS : am_Seg m NF NT NK (am_fl g a b v) b) : am_Seg m NF NT NK (am_fl g a b v) (if a < T i then (if a < am_hi T i then max (am_hi T i) b else b) else T i) := by
  rw [if_pos h2, if_neg (by omega)]
  exact hS
/-- the piece behind the span -/
theorem am_rw_c {c m m2 : Nat} {F T K g NF NT NK NF2 NT2 NK2 : Nat → Nat} {a b v i : Nat} (h : am_Seg c F T K g 64) (hi : i < c) (hab : a < b) (hS : am_Seg m NF NT NK (am_fl g a b v) (if a < T i then (if a < am_hi T i then max (am_hi T i) b else b) else T i)) (hu : (m2, NF2, NT2, NK2) = am_em m NF NT NK (max (F i) b) (T i) (K i)) : am_Seg m2 NF2 NT2 NK2 (am_fl g a b v) (am_rwE T a b (i + 1)) := by
  obtain ⟨a1, a2, a3, a4, a5, a6, a7⟩ := h.1 i hi
  have e1 : am_rwE T a b (i + 1) = if a < T i then max (T i) b else T i := rfl
  rw [e1]
  by_cases q : max (F i) b < T i
  · rw [if_pos (by omega)] at hS
    rw [if_pos (by omega)]
    have hE : (if a < am_hi T i then max (am_hi T i) b else b) ≤ max (F i) b := by split <;> omega
    have hE2 : am_hi T i ≤ (if a < am_hi T i then max (am_hi T i) b else b) := by split <;> omega
    have hE3 : b ≤ (if a < am_hi T i then max (am_hi T i) b else b) := by split <;> omega
    generalize (if a < am_hi T i then max (am_hi T i) b else b) = E at hS hE hE2 hE3
    have hS := hS.em hu hE q a4 (fun p p1 p2 => by
      rw [am_fl_up (by omega)]
      exact a5 p (by omega) (by omega)) (fun p p1 p2 => by rw [am_fl_up (by omega)]; exact a6 p (by omega) p2)
    exact hS.cast (by omega)
  · obtain ⟨rfl, rfl, rfl, rfl⟩ := am_em_no hu (by omega)
    by_cases q2 : a < T i
    · rw [if_pos q2] at hS ⊢
      by_cases q3 : a < am_hi T i
      · rw [if_pos q3] at hS
        exact hS.cast (by omega)
      · rw [if_neg q3] at hS
        exact hS.cast (by omega)
    · rw [if_neg q2] at hS ⊢
      exact hS
/-- behind the last area -/
theorem am_rw_e0 {c m : Nat} {F T K g NF NT NK : Nat → Nat} {a b v : Nat} (h : am_Seg c F T K g 64) (hab : a < b) (hb : b ≤ 64) (hv : v = 0 ∨ a < am_hi T c) (hS : am_Seg m NF NT NK (am_fl g a b v) (am_rwE T a b c)) : am_Seg m NF NT NK (am_fl g a b v) 64 := by
  have hh := h.2.1
  by_cases q : a < am_hi T c
  · have e0 : am_rwE T a b c = max (am_hi T c) b := if_pos q
    rw [e0] at hS
    exact hS.ext (by omega) (fun p p1 p2 => by rw [am_fl_up (by omega)]; exact h.2.2 p (by omega) p2)
  · have e0 : am_rwE T a b c = am_hi T c := if_neg q
    rw [e0] at hS
    have hv0 : v = 0 := by omega
    subst hv0
    refine hS.ext hh (fun p p1 p2 => ?_)
    unfold am_fl
    split
    · rfl
    · exact h.2.2 p p1 p2
theorem am_rw_e1 {c m m2 : Nat} {F T K g NF NT NK NF2 NT2 NK2 : Nat → Nat} {a b k : Nat} (h : am_Seg c F T K g 64) (hab : a < b) (hb : b ≤ 64) (hk : k ≤ 127) (q : am_hi T c ≤ a) (hS : am_Seg m NF NT NK (am_fl g a b (k + 1)) (am_rwE T a b c)) (hu : (m2, NF2, NT2, NK2) = am_em m NF NT NK a b k) : am_Seg m2 NF2 NT2 NK2 (am_fl g a b (k + 1)) 64 := by
  have e0 : am_rwE T a b c = am_hi T c := if_neg (by omega)
  rw [e0] at hS
  have hS := hS.em hu q hab hk (fun p p1 p2 => by rw [am_fl_lo p2]; exact h.2.2 p p1 (by omega)) (fun p p1 p2 => am_fl_in p1 p2)
  exact hS.ext hb (fun p p1 p2 => by rw [am_fl_up p1]; exact h.2.2 p (by omega) p2)
-- ===== protect: g2 = am_pr g a b r =====
theorem am_pv_k (K r : Nat) : am_pv (K + 1) r = K / 8 * 8 + r + 1 := rfl
theorem am_pr_a {c m m2 : Nat} {F T K g NF NT NK NF2 NT2 NK2 : Nat → Nat} {a b r i : Nat} (h : am_Seg c F T K g 64) (hi : i < c) (hab : a < b) (hS : am_Seg m NF NT NK (am_pr g a b r) (am_hi T i)) (hu : (m2, NF2, NT2, NK2) = am_em m NF NT NK (F i) (min (T i) a) (K i)) (hg : ∀ p, g p = 0 → p < 64 → p < a ∨ b ≤ p) : am_Seg m2 NF2 NT2 NK2 (am_pr g a b r) (if F i < a then min (T i) a else am_hi T i) := by
  obtain ⟨a1, a2, a3, a4, a5, a6, a7⟩ := h.1 i hi
  by_cases q : F i < a
  · rw [if_pos q]
    exact hS.em hu a1 (by omega) a4 (fun p p1 p2 => by rw [am_pr_out (by omega)]; exact a5 p p1 p2) (fun p p1 p2 => by rw [am_pr_out (by omega)]; exact a6 p p1 (by omega))
  · rw [if_neg q]
    obtain ⟨rfl, rfl, rfl, rfl⟩ := am_em_no hu (by omega)
    exact hS
theorem am_pr_b {c m m2 : Nat} {F T K g NF NT NK NF2 NT2 NK2 : Nat → Nat} {a b r i : Nat} (h : am_Seg c F T K g 64) (hi : i < c) (hab : a < b) (hr : r ≤ 7) (hlt : max (F i) a < min (T i) b) (hS : am_Seg m NF NT NK (am_pr g a b r) (if F i < a then min (T i) a else am_hi T i)) (hu : (m2, NF2, NT2, NK2) = am_em m NF NT NK (max (F i) a) (min (T i) b) (K i / 8 * 8 + r)) (hg : ∀ p, g p = 0 → p < 64 → p < a ∨ b ≤ p) : am_Seg m2 NF2 NT2 NK2 (am_pr g a b r) (min (T i) b) := by
  obtain ⟨a1, a2, a3, a4, a5, a6, a7⟩ := h.1 i hi
  have hin : ∀ p, max (F i) a ≤ p → p < min (T i) b → am_pr g a b r p = K i / 8 * 8 + r + 1 := fun p p1 p2 => by
    rw [am_pr_in (by omega) (by omega), a6 p (by omega) (by omega), am_pv_k]
  by_cases q : F i < a
  · rw [if_pos q] at hS
    exact hS.em hu (by omega) hlt (by omega) (fun p p1 p2 => by omega) hin
  · rw [if_neg q] at hS
    exact hS.em hu (by omega) hlt (by omega) (fun p p1 p2 => by
      have z := a5 p p1 (by omega)
      rw [am_pr_out (hg p z (by omega))]
      exact z) hin
theorem am_pr_b0 {c m : Nat} {F T K g NF NT NK : Nat → Nat} {a b r i : Nat} (hlt : ¬ max (F i) a < min (T i) b) (hS : am_Seg m NF NT NK (am_pr g a b r) (if F i < a then min (T i) a else am_hi T i)) : am_Seg m NF NT NK (am_pr g a b r) (if max (F i) a < min (T i) b then min (T i) b else if F i < a then min (T i) a else am_hi T i) := by
  rw [if_neg hlt]
  exact hS
theorem am_pr_b1 {c m : Nat} {F T K g NF NT NK : Nat → Nat} {a b r i : Nat} (hlt : max (F i) a < min (T i) b) (hS : am_Seg m NF NT NK (am_pr g a b r) (min (T i) b)) : am_Seg m NF NT NK (am_pr g a b r) (if max (F i) a < min (T i) b then min (T i) b else if F i < a then min (T i) a else am_hi T i) := by
  rw [if_pos hlt]
  exact hS
theorem am_pr_c {c m m2 : Nat} {F T K g NF NT NK NF2 NT2 NK2 : Nat → Nat} {a b r i : Nat} (h : am_Seg c F T K g 64) (hi : i < c) (hab : a < b) (hS : am_Seg m NF NT NK (am_pr g a b r) (if max (F i) a < min (T i) b then min (T i) b else if F i < a then min (T i) a else am_hi T i)) (hu : (m2, NF2, NT2, NK2) = am_em m NF NT NK (max (F i) b) (T i) (K i)) (hg : ∀ p, g p = 0 → p < 64 → p < a ∨ b ≤ p) : am_Seg m2 NF2 NT2 NK2 (am_pr g a b r) (T i) := by
  obtain ⟨a1, a2, a3, a4, a5, a6, a7⟩ := h.1 i hi
  by_cases q : max (F i) b < T i
  · by_cases q2 : F i < b
    · rw [if_pos (by omega)] at hS
      exact hS.em hu (by omega) q a4 (fun p p1 p2 => by omega) (fun p p1 p2 => by rw [am_pr_out (by omega)]; exact a6 p (by omega) p2)
    · rw [if_neg (by omega), if_neg (by omega)] at hS
      exact hS.em hu (by omega) q a4 (fun p p1 p2 => by
        have z := a5 p p1 (by omega)
        rw [am_pr_out (hg p z (by omega))]
        exact z) (fun p p1 p2 => by rw [am_pr_out (by omega)]; exact a6 p (by omega) p2)
  · obtain ⟨rfl, rfl, rfl, rfl⟩ := am_em_no hu (by omega)
    by_cases q2 : max (F i) a < min (T i) b
    · rw [if_pos q2] at hS
      exact hS.cast (by omega)
    · rw [if_neg q2, if_pos (by omega)] at hS
      exact hS.cast (by omega)
theorem am_pr_e {c m : Nat} {F T K g NF NT NK : Nat → Nat} {a b r : Nat} (h : am_Seg c F T K g 64) (hS : am_Seg m NF NT NK (am_pr g a b r) (am_hi T c)) (hg : ∀ p, g p = 0 → p < 64 → p < a ∨ b ≤ p) : am_Seg m NF NT NK (am_pr g a b r) 64 :=
  hS.ext h.2.1 (fun p p1 p2 => by
    have z := h.2.2 p p1 p2
    rw [am_pr_out (hg p z p2)]
    exact z)
/-- a span all of whose pages are mapped -/
theorem am_us_all {g : Nat → Nat} {a n : Nat} (h : n ≤ am_us g a (a + n)) (hb : a + n ≤ 64) : ∀ p, g p = 0 → p < 64 → p < a ∨ a + n ≤ p := by
  intro p h0 hp
  rcases Nat.lt_or_ge p a with q | q
  · exact Or.inl q
  · rcases Nat.lt_or_ge p (a + n) with q2 | q2
    · have := am_cw_full (w := fun v => decide (0 < v)) (g := g) q q2 (by rw [h0]; rfl) 64 hp
      unfold am_us at h
      omega
    · exact Or.inr q2
-- ===== searches =====
def am_fst (q : Nat → Bool) : Nat → Nat → Option Nat
  | 0, _ => none
  | k + 1, p => if q p = true then some p else am_fst q k (p + 1)
theorem am_fst_some {q : Nat → Bool} {p : Nat} : ∀ k h, h ≤ p → p < h + k → (∀ j, h ≤ j → j < p → q j = false) → q p = true → am_fst q k h = some p := by
  intro k
  induction k with
  | zero => intro h h1 h2; omega
  | succ k ih =>
    intro h h1 h2 h3 h4
    show (if q h = true then some h else am_fst q k (h + 1)) = some p
    by_cases e : h = p
    · rw [e, if_pos h4]
    · rw [if_neg (by rw [h3 h (Nat.le_refl _) (by omega)]; decide)]
      exact ih (h + 1) (by omega) (by omega) (fun j j1 j2 => h3 j (by omega) j2) h4
theorem am_fst_none {q : Nat → Bool} : ∀ k h, (∀ j, h ≤ j → j < h + k → q j = false) → am_fst q k h = none := by
  intro k
  induction k with
  | zero => intro h _; rfl
  | succ k ih =>
    intro h h1
    show (if q h = true then some h else am_fst q k (h + 1)) = none
    rw [if_neg (by rw [h1 h (Nat.le_refl _) (by omega)]; decide)]
    exact ih (h + 1) (fun j j1 j2 => h1 j (by omega) (by omega))
def am_op (o : Option Nat) (d : Int32) : Int32 := match o with
  | some p => nI p
  | none => d
-- ===== the specs: answer (and new pages) out of the pages =====
abbrev am_okp (x y : Int32) : Prop := 0 ≤ x.toInt ∧ 1 ≤ y.toInt ∧ x.toInt + y.toInt ≤ 64
abbrev am_okk (z : Int32) : Prop := 0 ≤ z.toInt ∧ z.toInt ≤ 127
abbrev am_okr (z : Int32) : Prop := 0 ≤ z.toInt ∧ z.toInt ≤ 7
abbrev am_okg (x : Int32) : Prop := 0 ≤ x.toInt ∧ x.toInt ≤ 63
theorem am_nat {x : Int32} (h : 0 ≤ x.toInt) : ∃ a : Nat, a < 2 ^ 31 ∧ x = nI a ∧ x.toInt = (a : Int) := by
  obtain ⟨j, h1, h2⟩ := nI_of (x := x) (fun z => by rw [Int32.lt_iff_toInt_lt, Int32.toInt_zero] at z; omega)
  exact ⟨j, h1, h2, by rw [h2, nI_toInt h1]⟩
theorem am_okp_n {x y : Int32} (h : am_okp x y) : ∃ a n : Nat, x = nI a ∧ y = nI n ∧ 1 ≤ n ∧ a + n ≤ 64 := by
  obtain ⟨a, h1, h2, h3⟩ := am_nat h.1
  obtain ⟨n, h4, h5, h6⟩ := am_nat (x := y) (by have := h.2.1; omega)
  obtain ⟨q1, q2, q3⟩ := h
  exact ⟨a, n, h2, h5, by omega, by omega⟩
theorem am_okp_i {a n : Nat} (h1 : 1 ≤ n) (h2 : a + n ≤ 64) : am_okp (nI a) (nI n) := by
  unfold am_okp
  rw [nI_toInt (by omega), nI_toInt (by omega)]
  omega
theorem am_okk_n {z : Int32} (h : am_okk z) : ∃ k : Nat, z = nI k ∧ k ≤ 127 := by
  obtain ⟨a, h1, h2, h3⟩ := am_nat h.1
  exact ⟨a, h2, by have := h.2; omega⟩
theorem am_okr_n {z : Int32} (h : am_okr z) : ∃ k : Nat, z = nI k ∧ k ≤ 7 := by
  obtain ⟨a, h1, h2, h3⟩ := am_nat h.1
  exact ⟨a, h2, by have := h.2; omega⟩
theorem am_okg_n {z : Int32} (h : am_okg z) : ∃ k : Nat, z = nI k ∧ k ≤ 63 := by
  obtain ⟨a, h1, h2, h3⟩ := am_nat h.1
  exact ⟨a, h2, by have := h.2; omega⟩
def am_put (g g2 : Nat → Nat) (r : Int32) : Int32 × (Nat → Nat) := if 20 < am_runs g2 then (-2, g) else (r, g2)
def am_sMap (g : Nat → Nat) (x y z : Int32) : Int32 × (Nat → Nat) := if am_okp x y ∧ am_okk z then am_put g (am_fl g x.toNatClampNeg (x.toNatClampNeg + y.toNatClampNeg) (z.toNatClampNeg + 1)) (nI (am_us g x.toNatClampNeg (x.toNatClampNeg + y.toNatClampNeg))) else (-1, g)
def am_sFree (g : Nat → Nat) (x y : Int32) : Int32 × (Nat → Nat) := if am_okp x y then am_put g (am_fl g x.toNatClampNeg (x.toNatClampNeg + y.toNatClampNeg) 0) (nI (am_us g x.toNatClampNeg (x.toNatClampNeg + y.toNatClampNeg))) else (-1, g)
def am_sProt (g : Nat → Nat) (x y z : Int32) : Int32 × (Nat → Nat) := if am_okp x y ∧ am_okr z then (if am_us g x.toNatClampNeg (x.toNatClampNeg + y.toNatClampNeg) < y.toNatClampNeg then (-3, g) else am_put g (am_pr g x.toNatClampNeg (x.toNatClampNeg + y.toNatClampNeg) z.toNatClampNeg) (nI (am_ch g x.toNatClampNeg (x.toNatClampNeg + y.toNatClampNeg) z.toNatClampNeg))) else (-1, g)
def am_rmq (g : Nat → Nat) (n : Nat) (p : Nat) : Bool := decide (p + n ≤ 64) && decide (am_us g p (p + n) = 0)
def am_room (g : Nat → Nat) (h n : Nat) : Option Nat := am_fst (am_rmq g n) (64 - h) h
def am_room2 (g : Nat → Nat) (h n : Nat) : Option Nat := match am_room g h n with
  | some p => some p
  | none => am_room g 0 n
def am_sPlace (g : Nat → Nat) (x y z : Int32) : Int32 × (Nat → Nat) := if 1 ≤ y.toInt ∧ am_okg x ∧ am_okk z then (match am_room2 g x.toNatClampNeg y.toNatClampNeg with
  | some p => am_put g (am_fl g p (p + y.toNatClampNeg) (z.toNatClampNeg + 1)) (nI p)
  | none => (-3, g)) else (-1, g)
def am_sRights (g : Nat → Nat) (x : Int32) : Int32 := if am_okg x then (if g x.toNatClampNeg = 0 then -3 else nI ((g x.toNatClampNeg - 1) % 8)) else -1
def am_sTag (g : Nat → Nat) (x : Int32) : Int32 := if am_okg x then (if g x.toNatClampNeg = 0 then -3 else nI ((g x.toNatClampNeg - 1) / 8)) else -1
def am_nth (g : Nat → Nat) (x : Int32) (p : Nat) : Bool := am_beg g p && decide (nI (am_cnt (am_beg g) p) = x)
def am_sFirst (g : Nat → Nat) (x : Int32) : Int32 := am_op (am_fst (am_nth g x) 64 0) (-3)
def am_end (g : Nat → Nat) (p : Nat) : Nat := (am_fst (fun j => decide (g j ≠ g p)) (64 - p) p).getD 64
def am_sLen (g : Nat → Nat) (x : Int32) : Int32 := match am_fst (am_nth g x) 64 0 with
  | some p => nI (am_end g p - p)
  | none => -3
def am_sOf (g : Nat → Nat) (x : Int32) : Int32 := if am_okg x ∧ 0 < g x.toNatClampNeg then nI (am_cnt (am_beg g) (x.toNatClampNeg + 1) - 1) else -3
/-- the longest free stretch of the pages before p, and the one that ends there -/
def am_lf (g : Nat → Nat) : Nat → Nat × Nat
  | 0 => (0, 0)
  | p + 1 => (max (am_lf g p).1 (if g p = 0 then (am_lf g p).2 + 1 else 0), if g p = 0 then (am_lf g p).2 + 1 else 0)
def am_sAllow (g : Nat → Nat) (x y z : Int32) : Int32 := if am_okp x y ∧ am_okr z ∧ am_fst (fun p => !(decide (0 < g p) && decide (z &&& (nI (g p - 1) ^^^ (-1)) = 0))) y.toNatClampNeg x.toNatClampNeg = none then 1 else 0
def am_nxq (g : Nat → Nat) (x y : Int32) (p : Nat) : Bool := decide (y.toInt ≤ (p : Int)) && (decide (0 < g p) && decide (nI ((g p - 1) / 8) = x))
def am_sNext (g : Nat → Nat) (x y : Int32) : Int32 := am_op (am_fst (am_nxq g x y) 64 0) (-3)
theorem am_lf_gap {g : Nat → Nat} {x : Nat} (h0 : (am_lf g x).2 = 0) : ∀ y, x ≤ y → (∀ p, x ≤ p → p < y → g p = 0) → am_lf g y = (max (am_lf g x).1 (y - x), y - x) := by
  intro y
  induction y with
  | zero =>
    intro h _
    have : x = 0 := by omega
    subst this
    rfl
  | succ y ih =>
    intro h hq
    by_cases e : x = y + 1
    · subst e
      refine Prod.ext ?_ ?_
      · show (am_lf g (y + 1)).1 = max (am_lf g (y + 1)).1 (y + 1 - (y + 1))
        omega
      · show (am_lf g (y + 1)).2 = y + 1 - (y + 1)
        omega
    · have h1 := ih (by omega) (fun p p1 p2 => hq p p1 (by omega))
      have h2 := hq y (by omega) (by omega)
      show (max (am_lf g y).1 (if g y = 0 then (am_lf g y).2 + 1 else 0), if g y = 0 then (am_lf g y).2 + 1 else 0) = _
      rw [if_pos h2, h1]
      refine Prod.ext ?_ ?_
      · show max (max (am_lf g x).1 (y - x)) (y - x + 1) = max (am_lf g x).1 (y + 1 - x)
        omega
      · show y - x + 1 = y + 1 - x
        omega
theorem am_lf_used {g : Nat → Nat} {x : Nat} : ∀ y, x < y → (∀ p, x ≤ p → p < y → 0 < g p) → am_lf g y = ((am_lf g x).1, 0) := by
  intro y
  induction y with
  | zero => intro h; omega
  | succ y ih =>
    intro h hq
    have h2 := hq y (by omega) (by omega)
    show (max (am_lf g y).1 (if g y = 0 then (am_lf g y).2 + 1 else 0), if g y = 0 then (am_lf g y).2 + 1 else 0) = _
    rw [if_neg (by omega)]
    by_cases e : x = y
    · subst e
      refine Prod.ext ?_ rfl
      show max (am_lf g x).1 0 = (am_lf g x).1
      omega
    · rw [ih (by omega) (fun p p1 p2 => hq p p1 (by omega))]
      refine Prod.ext ?_ rfl
      show max (am_lf g x).1 0 = (am_lf g x).1
      omega
theorem am_Seg.lf {m : Nat} {F T K g : Nat → Nat} {e : Nat} (h : am_Seg m F T K g e) {i n : Nat} (hi : i < m) (hn : am_lf g (am_hi T i) = (n, 0)) : am_lf g (T i) = (max n (F i - am_hi T i), 0) := by
  obtain ⟨a1, a2, a3, a4, a5, a6, a7⟩ := h.1 i hi
  rw [am_lf_used (x := F i) (T i) a2 (fun p p1 p2 => by rw [a6 p p1 p2]; omega), am_lf_gap (x := am_hi T i) (by rw [hn]) (F i) a1 a5, hn]
theorem am_Seg.lfE {m : Nat} {F T K g : Nat → Nat} {e : Nat} (h : am_Seg m F T K g e) {n : Nat} (hn : am_lf g (am_hi T m) = (n, 0)) : (am_lf g e).1 = max n (e - am_hi T m) := by
  rw [am_lf_gap (x := am_hi T m) (by rw [hn]) e h.2.1 h.2.2, hn]
end
section
/-! the plain law, third part: raw comparisons, and what the areas say of the specs -/
abbrev am_bp (P : Prop) (r : Int32) : Prop := (r = nI 1 ∧ P) ∨ (r = nI 0 ∧ ¬ P)
theorem am_n1 : ¬ nI 1 = 0 := by decide +kernel
theorem am_bp.t {P : Prop} {r : Int32} (h : am_bp P r) (c : ¬ r = 0) : P := by
  rcases h with ⟨_, q⟩ | ⟨q, _⟩
  · exact q
  · exact absurd (q.trans nI_0) c
theorem am_bp.f {P : Prop} {r : Int32} (h : am_bp P r) (c : r = 0) : ¬ P := by
  rcases h with ⟨q, _⟩ | ⟨_, q⟩
  · exact absurd (q.symm.trans c) am_n1
  · exact q
theorem am_bp.z {P : Prop} {r : Int32} (h : am_bp P r) : r = 0 ∨ r = 1 := by
  rcases h with ⟨q, _⟩ | ⟨q, _⟩
  · right; rw [q]; decide +kernel
  · left; rw [q]; exact nI_0
theorem am_lt0 {x : Int32} : x < 0 ↔ x.toInt < 0 := by rw [Int32.lt_iff_toInt_lt, Int32.toInt_zero]
theorem am_le0 {x : Int32} : 0 ≤ x ↔ 0 ≤ x.toInt := by rw [Int32.le_iff_toInt_le, Int32.toInt_zero]
theorem am_ltn {x : Int32} {n : Nat} (h : n < 2 ^ 31) : x < nI n ↔ x.toInt < (n : Int) := by rw [Int32.lt_iff_toInt_lt, nI_toInt h]
theorem am_len {x : Int32} {n : Nat} (h : n < 2 ^ 31) : x ≤ nI n ↔ x.toInt ≤ (n : Int) := by rw [Int32.le_iff_toInt_le, nI_toInt h]
theorem am_nlt {x : Int32} {n : Nat} (h : n < 2 ^ 31) : nI n < x ↔ (n : Int) < x.toInt := by rw [Int32.lt_iff_toInt_lt, nI_toInt h]
theorem am_nle {x : Int32} {n : Nat} (h : n < 2 ^ 31) : nI n ≤ x ↔ (n : Int) ≤ x.toInt := by rw [Int32.le_iff_toInt_le, nI_toInt h]
theorem am_sl {x y z : Nat} (hx : x < 2 ^ 30) (hy : y < 2 ^ 30) (hz : z < 2 ^ 31) : nI x - nI y < nI z ↔ x < y + z := by
  rw [am_ltn hz, pk_sub_toInt hx hy]
  omega
theorem am_hm {h lo : Nat} (h1 : h < 2 ^ 30) (h2 : lo < 2 ^ 30) : nI h - nI 1 < nI lo ↔ h ≤ lo := by
  rw [am_ltn (by omega), pk_sub_toInt h1 (by decide)]
  omega
theorem am_mid {lo h : Nat} (h1 : 1 ≤ h) (h2 : h < 2 ^ 30) (h3 : lo < 2 ^ 30) : (nI lo + (nI h - nI 1)) >>> (nI 1 &&& 31) = nI ((lo + (h - 1)) / 2) := by
  rw [pk_sub h1, nI_add, pk_shrN (by omega) (nI 1 &&& 31) 1 (by decide +kernel)]
theorem am_k7 {K : Nat} (h : K < 2 ^ 31) : nI K &&& nI 7 = nI (K % 8) := pk_andN (by omega) 3 (by decide +kernel)
theorem am_k3 {K : Nat} (h : K < 2 ^ 31) : nI K >>> (nI 3 &&& 31) = nI (K / 8) := pk_shrN h (nI 3 &&& 31) 3 (by decide +kernel)
theorem am_kp : ∀ K, K < 128 → ∀ r, r < 8 → (nI K &&& (-8)) ||| nI r = nI (K / 8 * 8 + r) := by decide +kernel
-- ===== counts =====
theorem am_Seg.us {m : Nat} {F T K g : Nat → Nat} {e : Nat} (h : am_Seg m F T K g e) {a b i : Nat} (hi : i < m) : am_cw (fun v => decide (0 < v)) g a b (am_hi T (i + 1)) = am_cw (fun v => decide (0 < v)) g a b (am_hi T i) + (min (T i) b - max (F i) a) := by
  have q := h.cw (w := fun v => decide (0 < v)) rfl (a := a) (b := b) hi
  rw [if_pos (by simp)] at q
  exact q
theorem am_Seg.usE {m : Nat} {F T K g : Nat → Nat} (h : am_Seg m F T K g 64) {a b : Nat} : am_us g a b = am_cw (fun v => decide (0 < v)) g a b (am_hi T m) := h.cwE rfl
theorem am_Seg.ch {m : Nat} {F T K g : Nat → Nat} {e : Nat} (h : am_Seg m F T K g e) {a b r i : Nat} (hi : i < m) : am_cw (fun v => decide (0 < v) && decide ((v - 1) % 8 ≠ r)) g a b (am_hi T (i + 1)) = am_cw (fun v => decide (0 < v) && decide ((v - 1) % 8 ≠ r)) g a b (am_hi T i) + (if K i % 8 ≠ r then min (T i) b - max (F i) a else 0) := by
  have q := h.cw (w := fun v => decide (0 < v) && decide ((v - 1) % 8 ≠ r)) rfl (a := a) (b := b) hi
  have e1 : ((fun v => decide (0 < v) && decide ((v - 1) % 8 ≠ r)) (K i + 1) = true) = (K i % 8 ≠ r) := by simp
  simp only [e1] at q
  exact q
theorem am_Seg.chE {m : Nat} {F T K g : Nat → Nat} (h : am_Seg m F T K g 64) {a b r : Nat} : am_ch g a b r = am_cw (fun v => decide (0 < v) && decide ((v - 1) % 8 ≠ r)) g a b (am_hi T m) := h.cwE rfl
theorem am_us_0 {g : Nat → Nat} {a b : Nat} (h : ∀ p, a ≤ p → p < b → g p = 0) : am_us g a b = 0 := by
  unfold am_us am_cw
  rw [am_cnt_flat (a := 0) 64 (by decide) (fun p _ _ => ?_)]
  · rfl
  · by_cases q : a ≤ p ∧ p < b
    · rw [h p q.1 q.2]; simp
    · simp [q]
theorem am_us_pos {g : Nat → Nat} {a b p : Nat} (h1 : a ≤ p) (h2 : p < b) (h3 : p < 64) (h4 : 0 < g p) : 0 < am_us g a b := by
  have q := am_cnt_mono (fun p => decide (a ≤ p ∧ p < b) && decide (0 < g p)) (a := p + 1) 64 (by omega)
  rw [am_cnt_s, if_pos (by simp [h1, h2, h4])] at q
  show 0 < am_cnt (fun p => decide (a ≤ p ∧ p < b) && decide (0 < g p)) 64
  omega
-- ===== finding =====
theorem am_Seg.free {m : Nat} {F T K g : Nat → Nat} {e : Nat} (h : am_Seg m F T K g e) {a : Nat} (ha : a < e) (hn : ∀ i, i < m → T i ≤ a ∨ a < F i) : g a = 0 := by
  rcases Nat.eq_zero_or_pos (g a) with q | q
  · exact q
  · obtain ⟨i, h1, h2, h3⟩ := h.find ha q
    have := hn i h1
    omega
theorem am_rmq_no {g : Nat → Nat} {b q p : Nat} (h1 : q ≤ p) (h2 : p < q + b) (h4 : 0 < g p) : am_rmq g b q = false := by
  unfold am_rmq
  by_cases z : q + b ≤ 64
  · have := am_us_pos h1 h2 (by omega) h4
    simp
    omega
  · simp [z]
theorem am_rmq_yes {g : Nat → Nat} {b q : Nat} (h1 : q + b ≤ 64) (h2 : ∀ p, q ≤ p → p < q + b → g p = 0) : am_rmq g b q = true := by
  unfold am_rmq
  simp [h1, am_us_0 h2]
theorem am_rmq_far {g : Nat → Nat} {b q : Nat} (h1 : ¬ q + b ≤ 64) : am_rmq g b q = false := by
  unfold am_rmq
  simp [h1]
theorem am_Seg.roomStep {m : Nat} {F T K g : Nat → Nat} (h : am_Seg m F T K g 64) {i a b pg : Nat} (hi : i < m) (hb : 1 ≤ b) (h1 : F i < pg + b) (hno : ∀ q, a ≤ q → q < pg → am_rmq g b q = false) : ∀ q, a ≤ q → q < T i → am_rmq g b q = false := by
  intro q q1 q2
  rcases Nat.lt_or_ge q pg with z | z
  · exact hno q q1 z
  · obtain ⟨a1, a2, a3, a4, a5, a6, a7⟩ := h.1 i hi
    have := a6 (max q (F i)) (by omega) (by omega)
    exact am_rmq_no (p := max q (F i)) (by omega) (by omega) (by omega)
theorem am_room_hit {g : Nat → Nat} {a b pg : Nat} (h1 : a ≤ pg) (h2 : pg + b ≤ 64) (hb : 1 ≤ b) (hno : ∀ q, a ≤ q → q < pg → am_rmq g b q = false) (h0 : ∀ p, pg ≤ p → p < pg + b → g p = 0) : nI pg = am_op (am_room g a b) (-1) := by
  unfold am_room
  rw [am_fst_some (p := pg) (64 - a) a h1 (by omega) hno (am_rmq_yes h2 h0)]
  rfl
theorem am_room_no {g : Nat → Nat} {a b pg : Nat} (h2 : ¬ pg + b ≤ 64) (hno : ∀ q, a ≤ q → q < pg → am_rmq g b q = false) : (-1 : Int32) = am_op (am_room g a b) (-1) := by
  unfold am_room
  rw [am_fst_none (64 - a) a (fun j j1 _ => by
    rcases Nat.lt_or_ge j pg with z | z
    · exact hno j j1 z
    · exact am_rmq_far (by omega))]
  rfl
-- ===== the specs at good arguments =====
theorem am_sRights_bad {g : Nat → Nat} {x : Int32} (h : ¬ am_okg x) : (-1 : Int32) = am_sRights g x := (if_neg h).symm
theorem am_sTag_bad {g : Nat → Nat} {x : Int32} (h : ¬ am_okg x) : (-1 : Int32) = am_sTag g x := (if_neg h).symm
theorem am_okg_i {a : Nat} (h : a ≤ 63) : am_okg (nI a) := by
  unfold am_okg
  rw [nI_toInt (by omega)]
  omega
theorem am_okk_i {a : Nat} (h : a ≤ 127) : am_okk (nI a) := by
  unfold am_okk
  rw [nI_toInt (by omega)]
  omega
theorem am_okr_i {a : Nat} (h : a ≤ 7) : am_okr (nI a) := by
  unfold am_okr
  rw [nI_toInt (by omega)]
  omega
theorem am_sRights_n {g : Nat → Nat} {a : Nat} (h : a ≤ 63) (h0 : g a = 0) : (-3 : Int32) = am_sRights g (nI a) := by
  unfold am_sRights
  rw [if_pos (am_okg_i h), nI_clamp (by omega), if_pos h0]
theorem am_sRights_k {g : Nat → Nat} {a K : Nat} (h : a ≤ 63) (h0 : g a = K + 1) : nI (K % 8) = am_sRights g (nI a) := by
  unfold am_sRights
  rw [if_pos (am_okg_i h), nI_clamp (by omega), if_neg (by omega), h0]
  rfl
theorem am_sTag_n {g : Nat → Nat} {a : Nat} (h : a ≤ 63) (h0 : g a = 0) : (-3 : Int32) = am_sTag g (nI a) := by
  unfold am_sTag
  rw [if_pos (am_okg_i h), nI_clamp (by omega), if_pos h0]
theorem am_sTag_k {g : Nat → Nat} {a K : Nat} (h : a ≤ 63) (h0 : g a = K + 1) : nI (K / 8) = am_sTag g (nI a) := by
  unfold am_sTag
  rw [if_pos (am_okg_i h), nI_clamp (by omega), if_neg (by omega), h0]
  rfl
theorem am_sOf_bad {g : Nat → Nat} {x : Int32} (h : ¬ am_okg x) : (-3 : Int32) = am_sOf g x := (if_neg (fun z => h z.1)).symm
theorem am_sOf_n {g : Nat → Nat} {a : Nat} (h : a ≤ 63) (h0 : g a = 0) : (-3 : Int32) = am_sOf g (nI a) := by
  unfold am_sOf
  rw [if_neg]
  rw [nI_clamp (by omega)]
  omega
theorem am_sOf_k {g : Nat → Nat} {a : Nat} (h : a ≤ 63) (h0 : 0 < g a) : nI (am_cnt (am_beg g) (a + 1) - 1) = am_sOf g (nI a) := by
  unfold am_sOf
  rw [nI_clamp (by omega), if_pos ⟨am_okg_i h, h0⟩]
theorem am_Seg.of {m : Nat} {F T K g : Nat → Nat} {e : Nat} (h : am_Seg m F T K g e) {i a : Nat} (hi : i < m) (h1 : F i ≤ a) (h2 : a < T i) : am_cnt (am_beg g) (a + 1) - 1 = i := by
  rw [h.bP hi h1 h2, h.bc i (by omega)]
  omega
theorem am_Seg.nth {m : Nat} {F T K g : Nat → Nat} (h : am_Seg m F T K g 64) (hm : m ≤ 64) {i : Nat} (hi : i < m) : am_fst (am_nth g (nI i)) 64 0 = some (F i) := by
  obtain ⟨a1, a2, a3, -⟩ := h.1 i hi
  have hc : am_cnt (am_beg g) (F i) = i := by rw [h.bF hi, h.bc i (by omega)]
  refine am_fst_some 64 0 (Nat.zero_le _) (by omega) (fun j _ j2 => ?_) ?_
  · unfold am_nth
    cases q : am_beg g j with
    | false => rfl
    | true =>
      have q2 := am_cnt_mono (am_beg g) (a := j + 1) (F i) (by omega)
      rw [am_cnt_s, if_pos q, hc] at q2
      simp only [Bool.true_and, decide_eq_false_iff_not]
      intro z
      rw [nI_eq (by omega) (by omega)] at z
      omega
  · unfold am_nth
    rw [h.b1 hi, hc]
    simp
theorem am_Seg.nthN {m : Nat} {F T K g : Nat → Nat} (h : am_Seg m F T K g 64) (hm : m ≤ 64) {x : Int32} (hx : ¬ (0 ≤ x.toInt ∧ x.toInt < (m : Int))) : am_fst (am_nth g x) 64 0 = none := by
  refine am_fst_none 64 0 (fun j _ j2 => ?_)
  unfold am_nth
  cases q : am_beg g j with
  | false => rfl
  | true =>
    have q2 := am_cnt_mono (am_beg g) (a := j + 1) 64 (by omega)
    rw [am_cnt_s, if_pos q, h.count] at q2
    simp only [Bool.true_and, decide_eq_false_iff_not]
    intro z
    apply hx
    rw [← z, nI_toInt (by omega)]
    omega
theorem am_Seg.next {m : Nat} {F T K g : Nat → Nat} {e : Nat} (h : am_Seg m F T K g e) {i : Nat} (hi : i < m) (hT : T i < e) : g (T i) ≠ K i + 1 := by
  by_cases q : i + 1 < m
  · obtain ⟨a1, a2, a3, a4, a5, a6, a7⟩ := h.1 (i + 1) q
    have a1 : T i ≤ F (i + 1) := a1
    rcases Nat.lt_or_ge (T i) (F (i + 1)) with z | z
    · rw [a5 (T i) (Nat.le_refl _) z]
      omega
    · have z2 : F (i + 1) = T i := by omega
      have := a7 (Nat.succ_pos i) z2
      rw [← z2, a6 (F (i + 1)) (Nat.le_refl _) a2]
      intro z3
      exact this (by show K (i + 1) = K i; omega)
  · have e1 : m = i + 1 := by omega
    have := h.2.2 (T i) (by rw [e1]; exact Nat.le_refl _) hT
    omega
theorem am_Seg.end {m : Nat} {F T K g : Nat → Nat} (h : am_Seg m F T K g 64) {i : Nat} (hi : i < m) : am_end g (F i) = T i := by
  obtain ⟨a1, a2, a3, a4, a5, a6, a7⟩ := h.1 i hi
  have hF := a6 (F i) (Nat.le_refl _) a2
  unfold am_end
  rw [hF]
  rcases Nat.lt_or_ge (T i) 64 with q | q
  · rw [am_fst_some (p := T i) (64 - F i) (F i) (by omega) (by omega) (fun j j1 j2 => by rw [a6 j j1 j2]; simp) (by simp [h.next hi q])]
    rfl
  · rw [am_fst_none (64 - F i) (F i) (fun j j1 j2 => by rw [a6 j j1 (by omega)]; simp)]
    show 64 = T i
    omega
theorem am_sLen_k {g : Nat → Nat} {x : Int32} {a b : Nat} (h : am_fst (am_nth g x) 64 0 = some a) (hb : am_end g a = b) : nI (b - a) = am_sLen g x := by
  unfold am_sLen
  rw [h, ← hb]
theorem am_sLen_n {g : Nat → Nat} {x : Int32} (h : am_fst (am_nth g x) 64 0 = none) : (-3 : Int32) = am_sLen g x := by
  unfold am_sLen
  rw [h]
theorem am_sFirst_k {g : Nat → Nat} {x : Int32} {a : Nat} (h : am_fst (am_nth g x) 64 0 = some a) : nI a = am_sFirst g x := by
  unfold am_sFirst
  rw [h]
  rfl
theorem am_sFirst_n {g : Nat → Nat} {x : Int32} (h : am_fst (am_nth g x) 64 0 = none) : (-3 : Int32) = am_sFirst g x := by
  unfold am_sFirst
  rw [h]
  rfl
-- ===== allows =====
abbrev am_bad (g : Nat → Nat) (z : Int32) (p : Nat) : Bool := !(decide (0 < g p) && decide (z &&& (nI (g p - 1) ^^^ (-1)) = 0))
theorem am_sAllow_0 {g : Nat → Nat} {x y z : Int32} (h : ¬ (am_okp x y ∧ am_okr z)) : nI 0 = am_sAllow g x y z := by
  unfold am_sAllow
  rw [if_neg (fun q => h ⟨q.1, q.2.1⟩), nI_0]
theorem am_sAllow_b {g : Nat → Nat} {z : Int32} {a b p : Nat} (hb : a + b ≤ 64) (h1 : a ≤ p) (h2 : p < a + b) (h3 : am_bad g z p = true) : nI 0 = am_sAllow g (nI a) (nI b) z := by
  unfold am_sAllow
  rw [if_neg, nI_0]
  intro q
  have q3 := q.2.2
  rw [nI_clamp (by omega), nI_clamp (by omega)] at q3
  obtain ⟨k, k1, k2⟩ := pk_least (fun j => a ≤ j ∧ am_bad g z j = true) ⟨p, h1, h3⟩
  have kp : k ≤ p := by
    rcases Nat.lt_or_ge p k with w | w
    · exact absurd ⟨h1, h3⟩ (k2 p w)
    · exact w
  rw [am_fst_some (p := k) b a k1.1 (by omega) (fun j j1 j2 => by
    cases w : am_bad g z j with
    | false => rfl
    | true => exact absurd ⟨j1, w⟩ (k2 j j2)) k1.2] at q3
  cases q3
theorem am_sAllow_1 {g : Nat → Nat} {z : Int32} {a b : Nat} (hb1 : 1 ≤ b) (hb : a + b ≤ 64) (hz : am_okr z) (h : ∀ p, a ≤ p → p < a + b → am_bad g z p = false) : nI 1 = am_sAllow g (nI a) (nI b) z := by
  unfold am_sAllow
  rw [if_pos]
  · decide +kernel
  · refine ⟨am_okp_i hb1 hb, hz, ?_⟩
    rw [nI_clamp (by omega), nI_clamp (by omega)]
    exact am_fst_none b a h
theorem am_bad_0 {g : Nat → Nat} {z : Int32} {p : Nat} (h : g p = 0) : am_bad g z p = true := by
  simp [am_bad, h]
theorem am_bad_k {g : Nat → Nat} {z : Int32} {p K : Nat} (h : g p = K + 1) (h2 : ¬ z &&& (nI K ^^^ (-1)) = 0) : am_bad g z p = true := by
  show (!(decide (0 < g p) && decide (z &&& (nI (g p - 1) ^^^ (-1)) = 0))) = true
  rw [h, Nat.add_sub_cancel, decide_eq_false h2, Bool.and_false]
  rfl
theorem am_bad_no {g : Nat → Nat} {z : Int32} {p K : Nat} (h : g p = K + 1) (h2 : z &&& (nI K ^^^ (-1)) = 0) : am_bad g z p = false := by
  show (!(decide (0 < g p) && decide (z &&& (nI (g p - 1) ^^^ (-1)) = 0))) = false
  rw [h, Nat.add_sub_cancel, decide_eq_true h2, decide_eq_true (Nat.succ_pos K)]
  rfl
-- ===== nextWith =====
theorem am_nxq_0 {g : Nat → Nat} {x y : Int32} {p : Nat} (h : g p = 0) : am_nxq g x y p = false := by
  simp [am_nxq, h]
theorem am_nxq_t {g : Nat → Nat} {x y : Int32} {p K : Nat} (h : g p = K + 1) (h2 : ¬ nI (K / 8) = x) : am_nxq g x y p = false := by
  simp [am_nxq, h, h2]
theorem am_nxq_y {g : Nat → Nat} {x y : Int32} {p : Nat} (h : ¬ y.toInt ≤ (p : Int)) : am_nxq g x y p = false := by
  simp [am_nxq, h]
theorem am_nxq_k {g : Nat → Nat} {x y : Int32} {p K : Nat} (h : g p = K + 1) (h2 : nI (K / 8) = x) (h3 : y.toInt ≤ (p : Int)) : am_nxq g x y p = true := by
  simp [am_nxq, h, h2, h3]
theorem am_sNext_k {g : Nat → Nat} {x y : Int32} {p : Nat} (hp : p < 64) (h0 : ∀ j, j < p → am_nxq g x y j = false) (h1 : am_nxq g x y p = true) : nI p = am_sNext g x y := by
  unfold am_sNext
  rw [am_fst_some (p := p) 64 0 (Nat.zero_le _) (by omega) (fun j _ j2 => h0 j j2) h1]
  rfl
theorem am_sNext_n {g : Nat → Nat} {x y : Int32} (h0 : ∀ j, j < 64 → am_nxq g x y j = false) : (-3 : Int32) = am_sNext g x y := by
  unfold am_sNext
  rw [am_fst_none 64 0 (fun j _ j2 => h0 j (by omega))]
  rfl
theorem am_Seg.nx {m : Nat} {F T K g : Nat → Nat} {e : Nat} (h : am_Seg m F T K g e) {i : Nat} (hi : i < m) {x y : Int32} (h0 : ∀ j, j < am_hi T i → am_nxq g x y j = false) (h1 : ∀ j, F i ≤ j → j < T i → am_nxq g x y j = false) : ∀ j, j < am_hi T (i + 1) → am_nxq g x y j = false := by
  intro j hj
  have hj : j < T i := hj
  obtain ⟨a1, a2, a3, a4, a5, a6, a7⟩ := h.1 i hi
  rcases Nat.lt_or_ge j (am_hi T i) with z | z
  · exact h0 j z
  · rcases Nat.lt_or_ge j (F i) with z2 | z2
    · exact am_nxq_0 (a5 j z z2)
    · exact h1 j z2 hj
end
section
/-! AreaMap: the links of its calls, and its methods that write nothing -/
set_option maxRecDepth 100000
theorem lk_X0_35 : am_LS RX0 35 yX0_least cX0_least 2 (some .int) 2 := ⟨lw_S q69 q70 q16 q71, by decide +kernel⟩
theorem lk_X0_43 : am_LS RX0 43 yX0_greatest cX0_greatest 2 (some .int) 2 := ⟨lw_S q66 q67 q16 q68, by decide +kernel⟩
theorem lk_X0_50 : am_LS RX0 50 yX0_isProper cX0_isProper 2 (some .boolean) 2 := ⟨lw_S q56 q57 q16 q58, by decide +kernel⟩
theorem lk_X0_54 : am_LS RX0 54 yX0_isKind cX0_isKind 1 (some .boolean) 1 := ⟨lw_S q59 q60 q16 q61, by decide +kernel⟩
theorem lk_X0_68 : am_LS RX0 68 yX0_isPage cX0_isPage 1 (some .boolean) 1 := ⟨lw_S q104 q105 q16 q106, by decide +kernel⟩
theorem lk_X0_39 : am_LV RX0 39 RX0 yX0_emit cX0_emit 5 none 3 := ⟨lw_V q76 q78 qs2 q16 q79, by decide +kernel⟩
theorem lk_X0_46 : am_LV RX0 46 RX0 yX0_commit cX0_commit 2 (some .boolean) 0 := ⟨lw_V q80 q82 qs3 q16 q83, by decide +kernel⟩
theorem lk_X0_58 : am_LV RX0 58 RX0 yX0_mappedIn cX0_mappedIn 7 (some .int) 2 := ⟨lw_V q62 q64 qs0 q16 q65, by decide +kernel⟩
theorem lk_X0_61 : am_LV RX0 61 RX0 yX0_rewrite cX0_rewrite 8 (some .boolean) 3 := ⟨lw_V q72 q74 qs1 q16 q75, by decide +kernel⟩
theorem lk_X0_65 : am_LV RX0 65 RX0 yX0_room cX0_room 5 (some .int) 2 := ⟨lw_V q88 q90 qs4 q16 q91, by decide +kernel⟩
theorem lk_X0_71 : am_LV RX0 71 RX0 yX0_find cX0_find 6 (some .int) 1 := ⟨lw_V q107 q109 qs5 q16 q110, by decide +kernel⟩
theorem lk_X0_75 : am_LV RX0 75 RX0 yX0_isArea cX0_isArea 2 (some .boolean) 1 := ⟨lw_V q123 q125 qs6 q16 q126, by decide +kernel⟩
set_option maxHeartbeats 4000000 in
set_option maxRecDepth 100000 in
theorem mt_X0_least (l : Launch) (x y : Int32) : am_RO l yX0_least cX0_least 2 (some .int) 0 [.int x, .int y] (fun _ => True) (fun r => r = if x < y then x else y) := by
  refine am_RO.intro RX0 rfl (by decide) (Nat.le_of_ble_eq_true rfl) ?_
  intro p e s m args below meth c X hpre ls hl
  have hx := X.1
  have hb := X.2.1
  have hS : va_S (fun _ => False) s.heap s.heap [] := va_S.rf
  have hl : lv_has ls 2 [(0, .int x), (1, .int y)] := hl
  refine lv_iload_n hx hb dX0_least_0 rfl (lv_at hl 0 rfl) ?_
  refine lv_iload_n hx hb dX0_least_1 rfl (lv_at hl 1 rfl) ?_
  refine lv_icmp_ge (tgt := 9) hx hb dX0_least_2 (by decide) (fun c2 => ?_) (fun c2 => ?_)
  · refine lv_iload_n hx hb dX0_least_9 rfl (lv_at hl 1 rfl) ?_
    exact am_iret X hS dX0_least_10 ((if_neg (fun z => absurd (Int32.lt_iff_toInt_lt.mp z) (by have := Int32.le_iff_toInt_le.mp c2; omega))).symm)
  · refine lv_iload_n hx hb dX0_least_5 rfl (lv_at hl 0 rfl) ?_
    refine lv_goto (tgt := 10) hx hb dX0_least_6 (by decide) ?_
    exact am_iret X hS dX0_least_10 ((if_pos (Int32.lt_iff_toInt_lt.mpr (by have := mt Int32.le_iff_toInt_le.mpr c2; omega))).symm)
set_option maxHeartbeats 4000000 in
set_option maxRecDepth 100000 in
theorem mt_X0_greatest (l : Launch) (x y : Int32) : am_RO l yX0_greatest cX0_greatest 2 (some .int) 0 [.int x, .int y] (fun _ => True) (fun r => r = if y < x then x else y) := by
  refine am_RO.intro RX0 rfl (by decide) (Nat.le_of_ble_eq_true rfl) ?_
  intro p e s m args below meth c X hpre ls hl
  have hx := X.1
  have hb := X.2.1
  have hS : va_S (fun _ => False) s.heap s.heap [] := va_S.rf
  have hl : lv_has ls 2 [(0, .int x), (1, .int y)] := hl
  refine lv_iload_n hx hb dX0_greatest_0 rfl (lv_at hl 0 rfl) ?_
  refine lv_iload_n hx hb dX0_greatest_1 rfl (lv_at hl 1 rfl) ?_
  refine lv_icmp_le (tgt := 9) hx hb dX0_greatest_2 (by decide) (fun c2 => ?_) (fun c2 => ?_)
  · refine lv_iload_n hx hb dX0_greatest_9 rfl (lv_at hl 1 rfl) ?_
    exact am_iret X hS dX0_greatest_10 ((if_neg (fun z => absurd (Int32.lt_iff_toInt_lt.mp z) (by have := Int32.le_iff_toInt_le.mp c2; omega))).symm)
  · refine lv_iload_n hx hb dX0_greatest_5 rfl (lv_at hl 0 rfl) ?_
    refine lv_goto (tgt := 10) hx hb dX0_greatest_6 (by decide) ?_
    exact am_iret X hS dX0_greatest_10 ((if_pos (Int32.lt_iff_toInt_lt.mpr (by have := mt Int32.le_iff_toInt_le.mpr c2; omega))).symm)
set_option maxHeartbeats 4000000 in
set_option maxRecDepth 100000 in
theorem mt_X0_isProper (l : Launch) (x y : Int32) : am_RO l yX0_isProper cX0_isProper 2 (some .boolean) 0 [.int x, .int y] (fun _ => True) (fun r => am_bp (am_okp x y) r) := by
  refine am_RO.intro RX0 rfl (by decide) (Nat.le_of_ble_eq_true rfl) ?_
  intro p e s m args below meth c X hpre ls hl
  have hx := X.1
  have hb := X.2.1
  have hS : va_S (fun _ => False) s.heap s.heap [] := va_S.rf
  have hl : lv_has ls 2 [(0, .int x), (1, .int y)] := hl
  refine lv_iload_n hx hb dX0_isProper_0 rfl (lv_at hl 0 rfl) ?_
  refine lv_if_lt (tgt := 27) hx hb dX0_isProper_1 (by decide) (fun c1 => ?_) (fun c1 => ?_)
  · refine lv_iconst (v := nI 0) hx hb dX0_isProper_27 (by decide +kernel) ?_
    exact am_zret X hS dX0_isProper_28 (Or.inl nI_0) (Or.inr ⟨rfl, fun h => by have := am_lt0.mp c1; have := h.1; omega⟩)
  · obtain ⟨a, ha, rfl⟩ := nI_of c1
    refine lv_iload_n hx hb dX0_isProper_4 rfl (lv_at hl 0 rfl) ?_
    refine lv_bipush (v := nI 64) hx hb dX0_isProper_5 (by decide +kernel) ?_
    refine am_icmp_ge (tgt := 27) hx hb (by omega) (by omega) dX0_isProper_7 (by decide) (fun c7 => ?_) (fun c7 => ?_)
    · refine lv_iconst (v := nI 0) hx hb dX0_isProper_27 (by decide +kernel) ?_
      exact am_zret X hS dX0_isProper_28 (Or.inl nI_0) (Or.inr ⟨rfl, fun h => by have h2 := h.2; rw [nI_toInt ha] at h2; omega⟩)
    · refine lv_iload_n hx hb dX0_isProper_10 rfl (lv_at hl 1 rfl) ?_
      refine lv_iconst (v := nI 1) hx hb dX0_isProper_11 (by decide +kernel) ?_
      refine lv_icmp_lt (tgt := 27) hx hb dX0_isProper_12 (by decide) (fun c12 => ?_) (fun c12 => ?_)
      · refine lv_iconst (v := nI 0) hx hb dX0_isProper_27 (by decide +kernel) ?_
        exact am_zret X hS dX0_isProper_28 (Or.inl nI_0) (Or.inr ⟨rfl, fun h => by have := (am_ltn (n := 1) (by decide)).mp c12; have := h.2.1; omega⟩)
      · have c12 := mt (am_ltn (n := 1) (by decide)).mpr c12
        obtain ⟨q, hq, rfl, hq1⟩ := am_nat (x := y) (by omega)
        refine lv_iload_n hx hb dX0_isProper_15 rfl (lv_at hl 1 rfl) ?_
        refine lv_bipush (v := nI 64) hx hb dX0_isProper_16 (by decide +kernel) ?_
        refine lv_iload_n hx hb dX0_isProper_18 rfl (lv_at hl 0 rfl) ?_
        refine am_isub hx hb (by omega) dX0_isProper_19 ?_
        refine am_icmp_gt (tgt := 27) hx hb (by omega) (by omega) dX0_isProper_20 (by decide) (fun c20 => ?_) (fun c20 => ?_)
        · refine lv_iconst (v := nI 0) hx hb dX0_isProper_27 (by decide +kernel) ?_
          exact am_zret X hS dX0_isProper_28 (Or.inl nI_0) (Or.inr ⟨rfl, fun h => by have h2 := h.2; rw [nI_toInt ha, nI_toInt hq] at h2; omega⟩)
        · refine lv_iconst (v := nI 1) hx hb dX0_isProper_23 (by decide +kernel) ?_
          refine lv_goto (tgt := 28) hx hb dX0_isProper_24 (by decide) ?_
          exact am_zret X hS dX0_isProper_28 (Or.inr (by decide +kernel)) (Or.inl ⟨rfl, am_okp_i (by omega) (by omega)⟩)
set_option maxHeartbeats 4000000 in
set_option maxRecDepth 100000 in
theorem mt_X0_isKind (l : Launch) (x : Int32) : am_RO l yX0_isKind cX0_isKind 1 (some .boolean) 0 [.int x] (fun _ => True) (fun r => am_bp (am_okk x) r) := by
  refine am_RO.intro RX0 rfl (by decide) (Nat.le_of_ble_eq_true rfl) ?_
  intro p e s m args below meth c X hpre ls hl
  have hx := X.1
  have hb := X.2.1
  have hS : va_S (fun _ => False) s.heap s.heap [] := va_S.rf
  have hl : lv_has ls 1 [(0, .int x)] := hl
  refine lv_iload_n hx hb dX0_isKind_0 rfl (lv_at hl 0 rfl) ?_
  refine lv_if_lt (tgt := 14) hx hb dX0_isKind_1 (by decide) (fun c1 => ?_) (fun c1 => ?_)
  · refine lv_iconst (v := nI 0) hx hb dX0_isKind_14 (by decide +kernel) ?_
    exact am_zret X hS dX0_isKind_15 (Or.inl nI_0) (Or.inr ⟨rfl, fun h => by have := am_lt0.mp c1; have := h.1; omega⟩)
  · obtain ⟨a, ha, rfl⟩ := nI_of c1
    refine lv_iload_n hx hb dX0_isKind_4 rfl (lv_at hl 0 rfl) ?_
    refine lv_bipush (v := nI 127) hx hb dX0_isKind_5 (by decide +kernel) ?_
    refine am_icmp_gt (tgt := 14) hx hb (by omega) (by omega) dX0_isKind_7 (by decide) (fun c7 => ?_) (fun c7 => ?_)
    · refine lv_iconst (v := nI 0) hx hb dX0_isKind_14 (by decide +kernel) ?_
      exact am_zret X hS dX0_isKind_15 (Or.inl nI_0) (Or.inr ⟨rfl, fun h => by have h2 := h.2; rw [nI_toInt ha] at h2; omega⟩)
    · refine lv_iconst (v := nI 1) hx hb dX0_isKind_10 (by decide +kernel) ?_
      refine lv_goto (tgt := 15) hx hb dX0_isKind_11 (by decide) ?_
      exact am_zret X hS dX0_isKind_15 (Or.inr (by decide +kernel)) (Or.inl ⟨rfl, am_okk_i (by omega)⟩)
set_option maxHeartbeats 4000000 in
set_option maxRecDepth 100000 in
theorem mt_X0_isPage (l : Launch) (x : Int32) : am_RO l yX0_isPage cX0_isPage 1 (some .boolean) 0 [.int x] (fun _ => True) (fun r => am_bp (am_okg x) r) := by
  refine am_RO.intro RX0 rfl (by decide) (Nat.le_of_ble_eq_true rfl) ?_
  intro p e s m args below meth c X hpre ls hl
  have hx := X.1
  have hb := X.2.1
  have hS : va_S (fun _ => False) s.heap s.heap [] := va_S.rf
  have hl : lv_has ls 1 [(0, .int x)] := hl
  refine lv_iload_n hx hb dX0_isPage_0 rfl (lv_at hl 0 rfl) ?_
  refine lv_if_lt (tgt := 14) hx hb dX0_isPage_1 (by decide) (fun c1 => ?_) (fun c1 => ?_)
  · refine lv_iconst (v := nI 0) hx hb dX0_isPage_14 (by decide +kernel) ?_
    exact am_zret X hS dX0_isPage_15 (Or.inl nI_0) (Or.inr ⟨rfl, fun h => by have := am_lt0.mp c1; have := h.1; omega⟩)
  · obtain ⟨a, ha, rfl⟩ := nI_of c1
    refine lv_iload_n hx hb dX0_isPage_4 rfl (lv_at hl 0 rfl) ?_
    refine lv_bipush (v := nI 64) hx hb dX0_isPage_5 (by decide +kernel) ?_
    refine am_icmp_ge (tgt := 14) hx hb (by omega) (by omega) dX0_isPage_7 (by decide) (fun c7 => ?_) (fun c7 => ?_)
    · refine lv_iconst (v := nI 0) hx hb dX0_isPage_14 (by decide +kernel) ?_
      exact am_zret X hS dX0_isPage_15 (Or.inl nI_0) (Or.inr ⟨rfl, fun h => by have h2 := h.2; rw [nI_toInt ha] at h2; omega⟩)
    · refine lv_iconst (v := nI 1) hx hb dX0_isPage_10 (by decide +kernel) ?_
      refine lv_goto (tgt := 15) hx hb dX0_isPage_11 (by decide) ?_
      exact am_zret X hS dX0_isPage_15 (Or.inr (by decide +kernel)) (Or.inl ⟨rfl, am_okg_i (by omega)⟩)
set_option maxHeartbeats 4000000 in
set_option maxRecDepth 100000 in
theorem mt_X0_isArea (l : Launch) (D : va_G) (ad : Nat → Nat) (dB : ClassId) (n : Nat) (F T K : Nat → Nat) (mk : Nat) (NF NT NK : Nat → Nat) (hn : n ≤ 20) (x : Int32) : am_RO l yX0_isArea cX0_isArea 2 (some .boolean) 0 [.ref (ad 0), .int x] (am_pre D (am_X ad dB n F T K mk NF NT NK) [(dB, .byte)]) (fun r => am_bp (0 ≤ x.toInt ∧ x.toInt < (n : Int)) r) := by
  refine am_RO.intro RX0 rfl (by decide) (Nat.le_of_ble_eq_true rfl) ?_
  intro p e s m args below meth c X hpre ls hl
  obtain ⟨hP, hK⟩ := hpre
  have hx := X.1
  have hb := X.2.1
  have hS : va_S (fun _ => False) s.heap s.heap [] := va_S.rf
  have hl : lv_has ls 2 [(0, .ref (ad 0)), (1, .int x)] := hl
  refine lv_iload_n hx hb dX0_isArea_0 rfl (lv_at hl 1 rfl) ?_
  refine lv_if_lt (tgt := 16) hx hb dX0_isArea_1 (by decide) (fun c1 => ?_) (fun c1 => ?_)
  · refine lv_iconst (v := nI 0) hx hb dX0_isArea_16 (by decide +kernel) ?_
    exact am_zret X hS dX0_isArea_17 (Or.inl nI_0) (Or.inr ⟨rfl, fun h => by have := am_lt0.mp c1; have := h.1; omega⟩)
  · obtain ⟨a, ha, rfl⟩ := nI_of c1
    refine lv_iload_n hx hb dX0_isArea_4 rfl (lv_at hl 1 rfl) ?_
    refine lv_aload_n hx hb dX0_isArea_5 rfl (lv_at hl 0 rfl) ?_
    refine am_gX_32 X hK hP dX0_isArea_6 ?_
    refine am_icmp_ge (tgt := 16) hx hb (by omega) (by omega) dX0_isArea_9 (by decide) (fun c9 => ?_) (fun c9 => ?_)
    · refine lv_iconst (v := nI 0) hx hb dX0_isArea_16 (by decide +kernel) ?_
      exact am_zret X hS dX0_isArea_17 (Or.inl nI_0) (Or.inr ⟨rfl, fun h => by have h2 := h.2; rw [nI_toInt ha] at h2; omega⟩)
    · refine lv_iconst (v := nI 1) hx hb dX0_isArea_12 (by decide +kernel) ?_
      refine lv_goto (tgt := 17) hx hb dX0_isArea_13 (by decide) ?_
      exact am_zret X hS dX0_isArea_17 (Or.inr (by decide +kernel)) (Or.inl ⟨rfl, by rw [nI_toInt ha]; omega⟩)
set_option maxHeartbeats 4000000 in
set_option maxRecDepth 100000 in
theorem mt_X0_mappedIn (l : Launch) (D : va_G) (ad : Nat → Nat) (dB : ClassId) (n : Nat) (F T K : Nat → Nat) (mk : Nat) (NF NT NK : Nat → Nat) {g : Nat → Nat} (hR : am_Rel n F T K g) (a b : Nat) (ha : a ≤ 64) (hb64 : b ≤ 64) : am_RO l yX0_mappedIn cX0_mappedIn 7 (some .int) 1 [.ref (ad 0), .int (nI a), .int (nI b)] (am_pre D (am_X ad dB n F T K mk NF NT NK) [(dB, .byte)]) (fun r => r = nI (am_us g a b)) := by
  have hn := hR.1
  refine am_RO.intro RX0 rfl (by decide) (Nat.le_of_ble_eq_true rfl) ?_
  intro p e s m args below meth c X hpre ls hl
  obtain ⟨hP, hK⟩ := hpre
  have hx := X.1
  have hb := X.2.1
  have hS : va_S (fun _ => False) s.heap s.heap [] := va_S.rf
  have hl : lv_has ls 7 [(0, .ref (ad 0)), (1, .int (nI a)), (2, .int (nI b))] := hl
  refine lv_iconst (v := nI 0) hx hb dX0_mappedIn_0 (by decide +kernel) ?_
  refine lv_istore_n (lv' := [(3, .int (nI 0)), (0, .ref (ad 0)), (1, .int (nI a)), (2, .int (nI b))]) hx hb dX0_mappedIn_1 rfl hl (by decide) rfl (fun ls hl => ?_)
  refine lv_iconst (v := nI 0) hx hb dX0_mappedIn_2 (by decide +kernel) ?_
  refine lv_istore (lv' := [(4, .int (nI 0)), (3, .int (nI 0)), (0, .ref (ad 0)), (1, .int (nI a)), (2, .int (nI b))]) hx hb dX0_mappedIn_3 hl (by decide) rfl (fun ls hl => ?_)
  have loop : ∀ (N : Nat) (i : Nat) (acc : Nat), (i ≤ n) → (n < i + N) → (acc = am_cw (fun v => decide (0 < v)) g a b (am_hi T i)) → ∀ (H : Heap) (locs : List Loc), va_P D am_cl (am_X ad dB n F T K mk NF NT NK) H → va_S (fun _ => False) s.heap H locs → ∀ ls : Array Slot, lv_has ls 7 [(0, .ref (ad 0)), (1, .int (nI a)), (2, .int (nI b)), (3, .int (nI acc)), (4, .int (nI i))] → W p l e (am_rm 1) s m args below meth c H locs 0 0 (am_QR below (fun r => r = nI (am_us g a b)) args s) (F0 m 5 ls []) := by
    intro N
    induction N with
    | zero =>
      intro i acc hi hN hacc
      exfalso
      omega
    | succ N ih =>
      intro i acc hi hN hacc H locs hP hS ls hl
      refine lv_iload hx hb dX0_mappedIn_5 (lv_at hl 4 rfl) ?_
      refine lv_aload_n hx hb dX0_mappedIn_7 rfl (lv_at hl 0 rfl) ?_
      refine am_gX_32 X hK hP dX0_mappedIn_8 ?_
      refine am_icmp_ge (tgt := 65) hx hb (by omega) (by omega) dX0_mappedIn_11 (by decide) (fun c11 => ?_) (fun c11 => ?_)
      · refine lv_iload_n hx hb dX0_mappedIn_65 rfl (lv_at hl 3 rfl) ?_
        exact am_iret X hS dX0_mappedIn_66 (by rw [hacc, show i = n by omega]; exact congrArg nI hR.2.usE.symm)
      · obtain ⟨h1, h2, h3, h4, h5, h6, h7⟩ := hR.2.1 i c11
        refine lv_aload_n hx hb dX0_mappedIn_14 rfl (lv_at hl 0 rfl) ?_
        refine am_gX_7 X hK hP dX0_mappedIn_15 ?_
        refine lv_iload hx hb dX0_mappedIn_18 (lv_at hl 4 rfl) ?_
        refine am_lX_1 X hK hP (by omega) dX0_mappedIn_20 ?_
        refine lv_iload_n hx hb dX0_mappedIn_21 rfl (lv_at hl 1 rfl) ?_
        refine am_callS (mt_X0_greatest l (nI (F i)) (nI a)) lk_X0_43 X hl.1 hP hS ⟨by decide, by decide⟩ ⟨Nat.zero_le _, Nat.zero_le _⟩ (by decide) dX0_mappedIn_22 rfl (fun r H locs hp hP hS => ?_)
        subst hp
        refine am_top (y := nI (max (F i) a)) (am_max (by omega) (by omega)) ?_
        refine lv_istore (lv' := [(5, .int (nI (max (F i) a))), (0, .ref (ad 0)), (1, .int (nI a)), (2, .int (nI b)), (3, .int (nI acc)), (4, .int (nI i))]) hx hb dX0_mappedIn_25 hl (by decide) rfl (fun ls hl => ?_)
        refine lv_aload_n hx hb dX0_mappedIn_27 rfl (lv_at hl 1 rfl) ?_
        refine am_gX_13 X hK hP dX0_mappedIn_28 ?_
        refine lv_iload hx hb dX0_mappedIn_31 (lv_at hl 5 rfl) ?_
        refine am_lX_2 X hK hP (by omega) dX0_mappedIn_33 ?_
        refine lv_iload_n hx hb dX0_mappedIn_34 rfl (lv_at hl 3 rfl) ?_
        refine am_callS (mt_X0_least l (nI (T i)) (nI b)) lk_X0_35 X hl.1 hP hS ⟨by decide, by decide⟩ ⟨Nat.zero_le _, Nat.zero_le _⟩ (by decide) dX0_mappedIn_35 rfl (fun r H locs hp hP hS => ?_)
        subst hp
        refine am_top (y := nI (min (T i) b)) (am_min (by omega) (by omega)) ?_
        refine lv_istore (lv' := [(6, .int (nI (min (T i) b))), (5, .int (nI (max (F i) a))), (0, .ref (ad 0)), (1, .int (nI a)), (2, .int (nI b)), (3, .int (nI acc)), (4, .int (nI i))]) hx hb dX0_mappedIn_38 hl (by decide) rfl (fun ls hl => ?_)
        refine lv_iload_n hx hb dX0_mappedIn_40 rfl (lv_at hl 5 rfl) ?_
        refine lv_iload hx hb dX0_mappedIn_41 (lv_at hl 0 rfl) ?_
        refine lv_iload hx hb dX0_mappedIn_43 (lv_at hl 1 rfl) ?_
        refine am_icmp_le (tgt := 56) hx hb (by omega) (by omega) dX0_mappedIn_45 (by decide) (fun c45 => ?_) (fun c45 => ?_)
        · refine lv_iconst (v := nI 0) hx hb dX0_mappedIn_56 (by decide +kernel) ?_
          refine am_iadd hx hb dX0_mappedIn_57 ?_
          refine lv_istore_n (lv' := [(3, .int (nI (acc + 0))), (6, .int (nI (min (T i) b))), (5, .int (nI (max (F i) a))), (0, .ref (ad 0)), (1, .int (nI a)), (2, .int (nI b)), (4, .int (nI i))]) hx hb dX0_mappedIn_58 rfl hl (by decide) rfl (fun ls hl => ?_)
          refine lv_iinc (v := nI (i + 1)) (lv' := [(4, .int (nI (i + 1))), (3, .int (nI (acc + 0))), (6, .int (nI (min (T i) b))), (5, .int (nI (max (F i) a))), (0, .ref (ad 0)), (1, .int (nI a)), (2, .int (nI b))]) hx hb dX0_mappedIn_59 hl (k := 6) rfl (nI_1 _) (by decide) rfl (fun ls hl => ?_)
          refine lv_goto (tgt := 5) hx hb dX0_mappedIn_62 (by decide) ?_
          exact ih (i + 1) (acc + 0) (by omega) (by omega) (by rw [hacc, hR.2.us c11] <;> omega) _ _ hP hS ls (lv_sub hl [4, 5, 6, 1, 0] rfl)
        · refine lv_iload hx hb dX0_mappedIn_48 (lv_at hl 0 rfl) ?_
          refine lv_iload hx hb dX0_mappedIn_50 (lv_at hl 1 rfl) ?_
          refine am_isub hx hb (by omega) dX0_mappedIn_52 ?_
          refine lv_goto (tgt := 57) hx hb dX0_mappedIn_53 (by decide) ?_
          refine am_iadd hx hb dX0_mappedIn_57 ?_
          refine lv_istore_n (lv' := [(3, .int (nI (acc + ((min (T i) b) - (max (F i) a))))), (6, .int (nI (min (T i) b))), (5, .int (nI (max (F i) a))), (0, .ref (ad 0)), (1, .int (nI a)), (2, .int (nI b)), (4, .int (nI i))]) hx hb dX0_mappedIn_58 rfl hl (by decide) rfl (fun ls hl => ?_)
          refine lv_iinc (v := nI (i + 1)) (lv' := [(4, .int (nI (i + 1))), (3, .int (nI (acc + ((min (T i) b) - (max (F i) a))))), (6, .int (nI (min (T i) b))), (5, .int (nI (max (F i) a))), (0, .ref (ad 0)), (1, .int (nI a)), (2, .int (nI b))]) hx hb dX0_mappedIn_59 hl (k := 6) rfl (nI_1 _) (by decide) rfl (fun ls hl => ?_)
          refine lv_goto (tgt := 5) hx hb dX0_mappedIn_62 (by decide) ?_
          exact ih (i + 1) (acc + ((min (T i) b) - (max (F i) a))) (by omega) (by omega) (by rw [hacc, hR.2.us c11] <;> omega) _ _ hP hS ls (lv_sub hl [4, 5, 6, 1, 0] rfl)
  exact loop (n + 1) 0 0 (Nat.zero_le _) (by omega) (am_cw_lo (Nat.zero_le _)).symm _ _ hP hS ls (lv_sub hl [2, 3, 4, 1, 0] rfl)
set_option maxHeartbeats 4000000 in
set_option maxRecDepth 100000 in
theorem mt_X0_find (l : Launch) (D : va_G) (ad : Nat → Nat) (dB : ClassId) (n : Nat) (F T K : Nat → Nat) (mk : Nat) (NF NT NK : Nat → Nat) {g : Nat → Nat} (hR : am_Rel n F T K g) (a : Nat) (ha : a ≤ 63) : am_RO l yX0_find cX0_find 6 (some .int) 0 [.ref (ad 0), .int (nI a)] (am_pre D (am_X ad dB n F T K mk NF NT NK) [(dB, .byte)]) (fun r => (∃ i, i < n ∧ F i ≤ a ∧ a < T i ∧ r = nI i) ∨ (r = -1 ∧ g a = 0)) := by
  have hn := hR.1
  refine am_RO.intro RX0 rfl (by decide) (Nat.le_of_ble_eq_true rfl) ?_
  intro p e s m args below meth c X hpre ls hl
  obtain ⟨hP, hK⟩ := hpre
  have hx := X.1
  have hb := X.2.1
  have hS : va_S (fun _ => False) s.heap s.heap [] := va_S.rf
  have hl : lv_has ls 6 [(0, .ref (ad 0)), (1, .int (nI a))] := hl
  refine lv_iconst (v := nI 0) hx hb dX0_find_0 (by decide +kernel) ?_
  refine lv_istore_n (lv' := [(2, .int (nI 0)), (0, .ref (ad 0)), (1, .int (nI a))]) hx hb dX0_find_1 rfl hl (by decide) rfl (fun ls hl => ?_)
  refine lv_aload_n hx hb dX0_find_2 rfl (lv_at hl 1 rfl) ?_
  refine am_gX_32 X hK hP dX0_find_3 ?_
  refine lv_iconst (v := nI 1) hx hb dX0_find_6 (by decide +kernel) ?_
  refine lv_isub hx hb dX0_find_7 ?_
  refine lv_istore_n (lv' := [(3, .int ((nI n) - (nI 1))), (2, .int (nI 0)), (0, .ref (ad 0)), (1, .int (nI a))]) hx hb dX0_find_8 rfl hl (by decide) rfl (fun ls hl => ?_)
  refine lv_iconst (v := nI 0) hx hb dX0_find_9 (by decide +kernel) ?_
  refine lv_istore (lv' := [(4, .int (nI 0)), (3, .int ((nI n) - (nI 1))), (2, .int (nI 0)), (0, .ref (ad 0)), (1, .int (nI a))]) hx hb dX0_find_10 hl (by decide) rfl (fun ls hl => ?_)
  have loop : ∀ (N : Nat) (lo : Nat) (h : Nat) (rd : Nat), (7 ≤ rd + N) → (rd ≤ 6) → (lo ≤ h) → (h ≤ n) → (h - lo < 2 ^ (6 - rd)) → (∀ j, j < lo → T j ≤ a) → (∀ j, h ≤ j → j < n → a < F j) → ∀ (H : Heap) (locs : List Loc), va_P D am_cl (am_X ad dB n F T K mk NF NT NK) H → va_S (fun _ => False) s.heap H locs → ∀ ls : Array Slot, lv_has ls 6 [(0, .ref (ad 0)), (1, .int (nI a)), (2, .int (nI lo)), (3, .int (nI h - nI 1)), (4, .int (nI rd))] → W p l e (am_rm 0) s m args below meth c H locs 0 0 (am_QR below (fun r => (∃ i, i < n ∧ F i ≤ a ∧ a < T i ∧ r = nI i) ∨ (r = -1 ∧ g a = 0)) args s) (F0 m 12 ls []) := by
    intro N
    induction N with
    | zero =>
      intro lo h rd hN hrd hlh hhn hw hlo hhi
      exfalso
      omega
    | succ N ih =>
      intro lo h rd hN hrd hlh hhn hw hlo hhi H locs hP hS ls hl
      refine lv_iload hx hb dX0_find_12 (lv_at hl 4 rfl) ?_
      refine lv_bipush (v := nI 6) hx hb dX0_find_14 (by decide +kernel) ?_
      refine am_icmp_ge (tgt := 78) hx hb (by omega) (by omega) dX0_find_16 (by decide) (fun c16 => ?_) (fun c16 => ?_)
      · have e6 : rd = 6 := by omega
        subst e6
        have hw : h - lo < 1 := hw
        refine lv_iconst (v := (-1)) hx hb dX0_find_78 (by decide +kernel) ?_
        exact am_iret X hS dX0_find_79 (Or.inr ⟨rfl, hR.2.free (by omega) (fun j hj => (Nat.lt_or_ge j lo).elim (fun z => Or.inl (hlo j z)) (fun z => Or.inr (hhi j (by omega) hj)))⟩)
      · refine lv_iload_n hx hb dX0_find_19 rfl (lv_at hl 2 rfl) ?_
        refine lv_iload_n hx hb dX0_find_20 rfl (lv_at hl 3 rfl) ?_
        refine lv_icmp_gt (tgt := 78) hx hb dX0_find_21 (by decide) (fun c21 => ?_) (fun c21 => ?_)
        · have c21 := (am_hm (by omega) (by omega)).mp c21
          refine lv_iconst (v := (-1)) hx hb dX0_find_78 (by decide +kernel) ?_
          exact am_iret X hS dX0_find_79 (Or.inr ⟨rfl, hR.2.free (by omega) (fun j hj => (Nat.lt_or_ge j lo).elim (fun z => Or.inl (hlo j z)) (fun z => Or.inr (hhi j (by omega) hj)))⟩)
        · have c21 := mt (am_hm (h := h) (lo := lo) (by omega) (by omega)).mpr c21
          refine lv_iload_n hx hb dX0_find_24 rfl (lv_at hl 2 rfl) ?_
          refine lv_iload_n hx hb dX0_find_25 rfl (lv_at hl 3 rfl) ?_
          refine lv_iadd hx hb dX0_find_26 ?_
          refine lv_iconst (v := nI 1) hx hb dX0_find_27 (by decide +kernel) ?_
          refine lv_ishr hx hb dX0_find_28 ?_
          obtain ⟨md, hmd⟩ : ∃ z, z = (lo + (h - 1)) / 2 := ⟨_, rfl⟩
          refine am_top (y := nI md) (by rw [hmd]; exact am_mid (by omega) (by omega) (by omega)) ?_
          obtain ⟨h1, h2, h3, h4, h5, h6, h7⟩ := hR.2.1 md (by omega)
          refine lv_istore (lv' := [(5, .int (nI md)), (0, .ref (ad 0)), (1, .int (nI a)), (2, .int (nI lo)), (3, .int (nI h - nI 1)), (4, .int (nI rd))]) hx hb dX0_find_29 hl (by decide) rfl (fun ls hl => ?_)
          refine lv_aload_n hx hb dX0_find_31 rfl (lv_at hl 1 rfl) ?_
          refine am_gX_13 X hK hP dX0_find_32 ?_
          refine lv_iload hx hb dX0_find_35 (lv_at hl 0 rfl) ?_
          refine am_lX_2 X hK hP (by omega) dX0_find_37 ?_
          refine lv_iload_n hx hb dX0_find_38 rfl (lv_at hl 2 rfl) ?_
          refine am_icmp_gt (tgt := 50) hx hb (by omega) (by omega) dX0_find_39 (by decide) (fun c39 => ?_) (fun c39 => ?_)
          · refine lv_aload_n hx hb dX0_find_50 rfl (lv_at hl 1 rfl) ?_
            refine am_gX_7 X hK hP dX0_find_51 ?_
            refine lv_iload hx hb dX0_find_54 (lv_at hl 0 rfl) ?_
            refine am_lX_1 X hK hP (by omega) dX0_find_56 ?_
            refine lv_iload_n hx hb dX0_find_57 rfl (lv_at hl 2 rfl) ?_
            refine am_icmp_le (tgt := 69) hx hb (by omega) (by omega) dX0_find_58 (by decide) (fun c58 => ?_) (fun c58 => ?_)
            · refine lv_iload hx hb dX0_find_69 (lv_at hl 0 rfl) ?_
              exact am_iret X hS dX0_find_71 (Or.inl ⟨md, by omega, c58, c39, rfl⟩)
            · refine lv_iload hx hb dX0_find_61 (lv_at hl 0 rfl) ?_
              refine lv_iconst (v := nI 1) hx hb dX0_find_63 (by decide +kernel) ?_
              refine lv_isub hx hb dX0_find_64 ?_
              refine lv_istore_n (lv' := [(3, .int ((nI md) - (nI 1))), (5, .int (nI md)), (0, .ref (ad 0)), (1, .int (nI a)), (2, .int (nI lo)), (4, .int (nI rd))]) hx hb dX0_find_65 rfl hl (by decide) rfl (fun ls hl => ?_)
              refine lv_goto (tgt := 72) hx hb dX0_find_66 (by decide) ?_
              refine lv_iinc (v := nI (rd + 1)) (lv' := [(4, .int (nI (rd + 1))), (3, .int ((nI md) - (nI 1))), (5, .int (nI md)), (0, .ref (ad 0)), (1, .int (nI a)), (2, .int (nI lo))]) hx hb dX0_find_72 hl (k := 5) rfl (nI_1 _) (by decide) rfl (fun ls hl => ?_)
              refine lv_goto (tgt := 12) hx hb dX0_find_75 (by decide) ?_
              have e6 : 6 - rd = (6 - (rd + 1)) + 1 := by omega
              rw [e6, Nat.pow_succ] at hw
              exact ih (lo) (md) (rd + 1) (by omega) (by omega) (by omega) (by omega) (by omega) hlo (fun j j1 j2 => (Nat.lt_or_ge md j).elim (fun z => by have := hR.2.apart z j2; omega) (fun z => by rw [show j = md by omega]; exact c58)) _ _ hP hS ls (lv_sub hl [3, 4, 5, 1, 0] rfl)
          · refine lv_iload hx hb dX0_find_42 (lv_at hl 0 rfl) ?_
            refine lv_iconst (v := nI 1) hx hb dX0_find_44 (by decide +kernel) ?_
            refine am_iadd hx hb dX0_find_45 ?_
            refine lv_istore_n (lv' := [(2, .int (nI (md + 1))), (5, .int (nI md)), (0, .ref (ad 0)), (1, .int (nI a)), (3, .int (nI h - nI 1)), (4, .int (nI rd))]) hx hb dX0_find_46 rfl hl (by decide) rfl (fun ls hl => ?_)
            refine lv_goto (tgt := 72) hx hb dX0_find_47 (by decide) ?_
            refine lv_iinc (v := nI (rd + 1)) (lv' := [(4, .int (nI (rd + 1))), (2, .int (nI (md + 1))), (5, .int (nI md)), (0, .ref (ad 0)), (1, .int (nI a)), (3, .int (nI h - nI 1))]) hx hb dX0_find_72 hl (k := 5) rfl (nI_1 _) (by decide) rfl (fun ls hl => ?_)
            refine lv_goto (tgt := 12) hx hb dX0_find_75 (by decide) ?_
            have e6 : 6 - rd = (6 - (rd + 1)) + 1 := by omega
            rw [e6, Nat.pow_succ] at hw
            exact ih (md + 1) (h) (rd + 1) (by omega) (by omega) (by omega) (by omega) (by omega) (fun j hj => (Nat.lt_or_ge j md).elim (fun z => by have := hR.2.apart z (show md < n by omega); omega) (fun z => by rw [show j = md by omega]; exact c39)) hhi _ _ hP hS ls (lv_sub hl [3, 4, 1, 5, 0] rfl)
  exact loop 7 0 n 0 (by omega) (by omega) (Nat.zero_le _) (Nat.le_refl _) (by omega) (fun j hj => absurd hj (Nat.not_lt_zero j)) (fun j j1 j2 => by omega) _ _ hP hS ls (lv_sub hl [3, 4, 2, 1, 0] rfl)
set_option maxHeartbeats 4000000 in
set_option maxRecDepth 100000 in
theorem mt_X0_room (l : Launch) (D : va_G) (ad : Nat → Nat) (dB : ClassId) (n : Nat) (F T K : Nat → Nat) (mk : Nat) (NF NT NK : Nat → Nat) {g : Nat → Nat} (hR : am_Rel n F T K g) (a b : Nat) (ha : a ≤ 63) (hb1 : 1 ≤ b) (hb64 : b ≤ 64) : am_RO l yX0_room cX0_room 5 (some .int) 0 [.ref (ad 0), .int (nI a), .int (nI b)] (am_pre D (am_X ad dB n F T K mk NF NT NK) [(dB, .byte)]) (fun r => r = am_op (am_room g a b) (-1)) := by
  have hn := hR.1
  refine am_RO.intro RX0 rfl (by decide) (Nat.le_of_ble_eq_true rfl) ?_
  intro p e s m args below meth c X hpre ls hl
  obtain ⟨hP, hK⟩ := hpre
  have hx := X.1
  have hb := X.2.1
  have hS : va_S (fun _ => False) s.heap s.heap [] := va_S.rf
  have hl : lv_has ls 5 [(0, .ref (ad 0)), (1, .int (nI a)), (2, .int (nI b))] := hl
  refine lv_iload_n hx hb dX0_room_0 rfl (lv_at hl 1 rfl) ?_
  refine lv_istore_n (lv' := [(3, .int (nI a)), (0, .ref (ad 0)), (1, .int (nI a)), (2, .int (nI b))]) hx hb dX0_room_1 rfl hl (by decide) rfl (fun ls hl => ?_)
  refine lv_iconst (v := nI 0) hx hb dX0_room_2 (by decide +kernel) ?_
  refine lv_istore (lv' := [(4, .int (nI 0)), (3, .int (nI a)), (0, .ref (ad 0)), (1, .int (nI a)), (2, .int (nI b))]) hx hb dX0_room_3 hl (by decide) rfl (fun ls hl => ?_)
  have loop : ∀ (N : Nat) (i : Nat) (pg : Nat), (i ≤ n) → (n < i + N) → (pg = max a (am_hi T i)) → (∀ q, a ≤ q → q < pg → am_rmq g b q = false) → ∀ (H : Heap) (locs : List Loc), va_P D am_cl (am_X ad dB n F T K mk NF NT NK) H → va_S (fun _ => False) s.heap H locs → ∀ ls : Array Slot, lv_has ls 5 [(0, .ref (ad 0)), (1, .int (nI a)), (2, .int (nI b)), (3, .int (nI pg)), (4, .int (nI i))] → W p l e (am_rm 0) s m args below meth c H locs 0 0 (am_QR below (fun r => r = am_op (am_room g a b) (-1)) args s) (F0 m 5 ls []) := by
    intro N
    induction N with
    | zero =>
      intro i pg hi hN hpg hno
      exfalso
      omega
    | succ N ih =>
      intro i pg hi hN hpg hno H locs hP hS ls hl
      refine lv_iload hx hb dX0_room_5 (lv_at hl 4 rfl) ?_
      refine lv_aload_n hx hb dX0_room_7 rfl (lv_at hl 0 rfl) ?_
      refine am_gX_32 X hK hP dX0_room_8 ?_
      refine am_icmp_ge (tgt := 54) hx hb (by omega) (by omega) dX0_room_11 (by decide) (fun c11 => ?_) (fun c11 => ?_)
      · have e9 : i = n := by omega
        subst e9
        have hh := hR.2.2.1
        refine lv_bipush (v := nI 64) hx hb dX0_room_54 (by decide +kernel) ?_
        refine lv_iload_n hx hb dX0_room_56 rfl (lv_at hl 3 rfl) ?_
        refine am_isub hx hb (by omega) dX0_room_57 ?_
        refine lv_iload_n hx hb dX0_room_58 rfl (lv_at hl 2 rfl) ?_
        refine am_icmp_lt (tgt := 66) hx hb (by omega) (by omega) dX0_room_59 (by decide) (fun c59 => ?_) (fun c59 => ?_)
        · refine lv_iconst (v := (-1)) hx hb dX0_room_66 (by decide +kernel) ?_
          exact am_iret X hS dX0_room_67 (am_room_no (pg := pg) (by omega) hno)
        · refine lv_iload_n hx hb dX0_room_62 rfl (lv_at hl 3 rfl) ?_
          refine lv_goto (tgt := 67) hx hb dX0_room_63 (by decide) ?_
          exact am_iret X hS dX0_room_67 (am_room_hit (by omega) (by omega) hb1 hno (fun q q1 q2 => hR.2.2.2 q (by omega) (by omega)))
      · obtain ⟨h1, h2, h3, h4, h5, h6, h7⟩ := hR.2.1 i c11
        refine lv_aload_n hx hb dX0_room_14 rfl (lv_at hl 0 rfl) ?_
        refine am_gX_13 X hK hP dX0_room_15 ?_
        refine lv_iload hx hb dX0_room_18 (lv_at hl 4 rfl) ?_
        refine am_lX_2 X hK hP (by omega) dX0_room_20 ?_
        refine lv_iload_n hx hb dX0_room_21 rfl (lv_at hl 3 rfl) ?_
        refine am_icmp_le (tgt := 48) hx hb (by omega) (by omega) dX0_room_22 (by decide) (fun c22 => ?_) (fun c22 => ?_)
        · refine lv_iinc (v := nI (i + 1)) (lv' := [(4, .int (nI (i + 1))), (0, .ref (ad 0)), (1, .int (nI a)), (2, .int (nI b)), (3, .int (nI pg))]) hx hb dX0_room_48 hl (k := 4) rfl (nI_1 _) (by decide) rfl (fun ls hl => ?_)
          refine lv_goto (tgt := 5) hx hb dX0_room_51 (by decide) ?_
          exact ih (i + 1) (pg) (by omega) (by omega) (by show pg = max a (T i); omega) hno _ _ hP hS ls (lv_sub hl [1, 2, 3, 4, 0] rfl)
        · refine lv_aload_n hx hb dX0_room_25 rfl (lv_at hl 0 rfl) ?_
          refine am_gX_7 X hK hP dX0_room_26 ?_
          refine lv_iload hx hb dX0_room_29 (lv_at hl 4 rfl) ?_
          refine am_lX_1 X hK hP (by omega) dX0_room_31 ?_
          refine lv_iload_n hx hb dX0_room_32 rfl (lv_at hl 3 rfl) ?_
          refine lv_isub hx hb dX0_room_33 ?_
          refine lv_iload_n hx hb dX0_room_34 rfl (lv_at hl 2 rfl) ?_
          refine lv_icmp_lt (tgt := 40) hx hb dX0_room_35 (by decide) (fun c35 => ?_) (fun c35 => ?_)
          · have c35 := (am_sl (by omega) (by omega) (by omega)).mp c35
            refine lv_aload_n hx hb dX0_room_40 rfl (lv_at hl 0 rfl) ?_
            refine am_gX_13 X hK hP dX0_room_41 ?_
            refine lv_iload hx hb dX0_room_44 (lv_at hl 4 rfl) ?_
            refine am_lX_2 X hK hP (by omega) dX0_room_46 ?_
            refine lv_istore_n (lv' := [(3, .int (nI (T i))), (0, .ref (ad 0)), (1, .int (nI a)), (2, .int (nI b)), (4, .int (nI i))]) hx hb dX0_room_47 rfl hl (by decide) rfl (fun ls hl => ?_)
            refine lv_iinc (v := nI (i + 1)) (lv' := [(4, .int (nI (i + 1))), (3, .int (nI (T i))), (0, .ref (ad 0)), (1, .int (nI a)), (2, .int (nI b))]) hx hb dX0_room_48 hl (k := 4) rfl (nI_1 _) (by decide) rfl (fun ls hl => ?_)
            refine lv_goto (tgt := 5) hx hb dX0_room_51 (by decide) ?_
            exact ih (i + 1) (T i) (by omega) (by omega) (by show T i = max a (T i); omega) (hR.2.roomStep c11 hb1 (by omega) hno) _ _ hP hS ls (lv_sub hl [2, 3, 4, 1, 0] rfl)
          · have c35 := mt (am_sl (x := F i) (y := pg) (z := b) (by omega) (by omega) (by omega)).mpr c35
            refine lv_iload_n hx hb dX0_room_38 rfl (lv_at hl 3 rfl) ?_
            exact am_iret X hS dX0_room_39 (am_room_hit (by omega) (by omega) hb1 hno (fun q q1 q2 => h5 q (by omega) (by omega)))
  exact loop (n + 1) 0 a (Nat.zero_le _) (by omega) (by show a = max a 0; omega) (fun q q1 q2 => by omega) _ _ hP hS ls (lv_sub hl [2, 3, 4, 1, 0] rfl)
set_option maxHeartbeats 4000000 in
set_option maxRecDepth 100000 in
theorem mt_X0_rights (l : Launch) (D : va_G) (ad : Nat → Nat) (dB : ClassId) (n : Nat) (F T K : Nat → Nat) (mk : Nat) (NF NT NK : Nat → Nat) {g : Nat → Nat} (hR : am_Rel n F T K g) (x : Int32) : am_RO l yX0_rights cX0_rights 3 (some .int) 1 [.ref (ad 0), .int x] (am_pre D (am_X ad dB n F T K mk NF NT NK) [(dB, .byte)]) (fun r => r = am_sRights g x) := by
  have hn := hR.1
  refine am_RO.intro RX0 rfl (by decide) (Nat.le_of_ble_eq_true rfl) ?_
  intro p e s m args below meth c X hpre ls hl
  obtain ⟨hP, hK⟩ := hpre
  have hx := X.1
  have hb := X.2.1
  have hS : va_S (fun _ => False) s.heap s.heap [] := va_S.rf
  have hl : lv_has ls 3 [(0, .ref (ad 0)), (1, .int x)] := hl
  refine lv_iload_n hx hb dX0_rights_0 rfl (lv_at hl 1 rfl) ?_
  refine am_callS (mt_X0_isPage l (x)) lk_X0_68 X hl.1 hP hS ⟨by decide, by decide⟩ ⟨Nat.zero_le _, Nat.zero_le _⟩ (by decide) dX0_rights_1 rfl (fun rp H locs hq hP hS => ?_)
  refine lv_if_ne (tgt := 9) hx hb dX0_rights_4 (by decide) (fun c4 => ?_) (fun c4 => ?_)
  · have hq := hq.t c4
    obtain ⟨a, rfl, ha⟩ := am_okg_n hq
    refine lv_aload_n hx hb dX0_rights_9 rfl (lv_at hl 0 rfl) ?_
    refine lv_iload_n hx hb dX0_rights_10 rfl (lv_at hl 1 rfl) ?_
    refine am_callV (mt_X0_find l D ad dB n F T K mk NF NT NK hR a (by omega)) lk_X0_71 X hl.1 hP hK rfl rfl rfl hP hS ⟨by decide, by decide⟩ ⟨Nat.zero_le _, Nat.zero_le _⟩ (by decide) dX0_rights_11 rfl (fun r H locs hp hP hS => ?_)
    rcases hp with ⟨i, hi, q1, q2, rfl⟩ | ⟨rfl, h0⟩
    · obtain ⟨h1, h2, h3, h4, h5, h6, h7⟩ := hR.2.1 i hi
      refine lv_istore_n (lv' := [(2, .int (nI i)), (0, .ref (ad 0)), (1, .int (nI a))]) hx hb dX0_rights_14 rfl hl (by decide) rfl (fun ls hl => ?_)
      refine lv_iload_n hx hb dX0_rights_15 rfl (lv_at hl 0 rfl) ?_
      refine am_if_ge (tgt := 24) hx hb (by omega) dX0_rights_16 (by decide) ?_
      refine lv_aload_n hx hb dX0_rights_24 rfl (lv_at hl 1 rfl) ?_
      refine am_gX_16 X hK hP dX0_rights_25 ?_
      refine lv_iload_n hx hb dX0_rights_28 rfl (lv_at hl 0 rfl) ?_
      refine am_lX_3 X hK hP (by omega) dX0_rights_29 ?_
      refine lv_bipush (v := nI 7) hx hb dX0_rights_30 (by decide +kernel) ?_
      refine lv_iand hx hb dX0_rights_32 ?_
      refine am_top (y := nI (K i % 8)) (am_k7 (by omega)) ?_
      exact am_iret X hS dX0_rights_33 (am_sRights_k ha (h6 a q1 q2))
    · refine lv_istore_n (lv' := [(2, .int (-1)), (0, .ref (ad 0)), (1, .int (nI a))]) hx hb dX0_rights_14 rfl hl (by decide) rfl (fun ls hl => ?_)
      refine lv_iload_n hx hb dX0_rights_15 rfl (lv_at hl 0 rfl) ?_
      refine lv_if_ge (tgt := 24) hx hb dX0_rights_16 (by decide) (fun c16 => ?_) (fun c16 => ?_)
      · exact absurd c16 (by decide)
      · refine lv_bipush (v := (-3)) hx hb dX0_rights_19 (by decide +kernel) ?_
        refine lv_goto (tgt := 33) hx hb dX0_rights_21 (by decide) ?_
        exact am_iret X hS dX0_rights_33 (am_sRights_n ha h0)
  · refine lv_iconst (v := (-1)) hx hb dX0_rights_7 (by decide +kernel) ?_
    exact am_iret X hS dX0_rights_8 (am_sRights_bad (hq.f c4))
set_option maxHeartbeats 4000000 in
set_option maxRecDepth 100000 in
theorem mt_X0_tag (l : Launch) (D : va_G) (ad : Nat → Nat) (dB : ClassId) (n : Nat) (F T K : Nat → Nat) (mk : Nat) (NF NT NK : Nat → Nat) {g : Nat → Nat} (hR : am_Rel n F T K g) (x : Int32) : am_RO l yX0_tag cX0_tag 3 (some .int) 1 [.ref (ad 0), .int x] (am_pre D (am_X ad dB n F T K mk NF NT NK) [(dB, .byte)]) (fun r => r = am_sTag g x) := by
  have hn := hR.1
  refine am_RO.intro RX0 rfl (by decide) (Nat.le_of_ble_eq_true rfl) ?_
  intro p e s m args below meth c X hpre ls hl
  obtain ⟨hP, hK⟩ := hpre
  have hx := X.1
  have hb := X.2.1
  have hS : va_S (fun _ => False) s.heap s.heap [] := va_S.rf
  have hl : lv_has ls 3 [(0, .ref (ad 0)), (1, .int x)] := hl
  refine lv_iload_n hx hb dX0_tag_0 rfl (lv_at hl 1 rfl) ?_
  refine am_callS (mt_X0_isPage l (x)) lk_X0_68 X hl.1 hP hS ⟨by decide, by decide⟩ ⟨Nat.zero_le _, Nat.zero_le _⟩ (by decide) dX0_tag_1 rfl (fun rp H locs hq hP hS => ?_)
  refine lv_if_ne (tgt := 9) hx hb dX0_tag_4 (by decide) (fun c4 => ?_) (fun c4 => ?_)
  · have hq := hq.t c4
    obtain ⟨a, rfl, ha⟩ := am_okg_n hq
    refine lv_aload_n hx hb dX0_tag_9 rfl (lv_at hl 0 rfl) ?_
    refine lv_iload_n hx hb dX0_tag_10 rfl (lv_at hl 1 rfl) ?_
    refine am_callV (mt_X0_find l D ad dB n F T K mk NF NT NK hR a (by omega)) lk_X0_71 X hl.1 hP hK rfl rfl rfl hP hS ⟨by decide, by decide⟩ ⟨Nat.zero_le _, Nat.zero_le _⟩ (by decide) dX0_tag_11 rfl (fun r H locs hp hP hS => ?_)
    rcases hp with ⟨i, hi, q1, q2, rfl⟩ | ⟨rfl, h0⟩
    · obtain ⟨h1, h2, h3, h4, h5, h6, h7⟩ := hR.2.1 i hi
      refine lv_istore_n (lv' := [(2, .int (nI i)), (0, .ref (ad 0)), (1, .int (nI a))]) hx hb dX0_tag_14 rfl hl (by decide) rfl (fun ls hl => ?_)
      refine lv_iload_n hx hb dX0_tag_15 rfl (lv_at hl 0 rfl) ?_
      refine am_if_ge (tgt := 24) hx hb (by omega) dX0_tag_16 (by decide) ?_
      refine lv_aload_n hx hb dX0_tag_24 rfl (lv_at hl 1 rfl) ?_
      refine am_gX_16 X hK hP dX0_tag_25 ?_
      refine lv_iload_n hx hb dX0_tag_28 rfl (lv_at hl 0 rfl) ?_
      refine am_lX_3 X hK hP (by omega) dX0_tag_29 ?_
      refine lv_iconst (v := nI 3) hx hb dX0_tag_30 (by decide +kernel) ?_
      refine lv_ishr hx hb dX0_tag_31 ?_
      refine am_top (y := nI (K i / 8)) (am_k3 (by omega)) ?_
      exact am_iret X hS dX0_tag_32 (am_sTag_k ha (h6 a q1 q2))
    · refine lv_istore_n (lv' := [(2, .int (-1)), (0, .ref (ad 0)), (1, .int (nI a))]) hx hb dX0_tag_14 rfl hl (by decide) rfl (fun ls hl => ?_)
      refine lv_iload_n hx hb dX0_tag_15 rfl (lv_at hl 0 rfl) ?_
      refine lv_if_ge (tgt := 24) hx hb dX0_tag_16 (by decide) (fun c16 => ?_) (fun c16 => ?_)
      · exact absurd c16 (by decide)
      · refine lv_bipush (v := (-3)) hx hb dX0_tag_19 (by decide +kernel) ?_
        refine lv_goto (tgt := 32) hx hb dX0_tag_21 (by decide) ?_
        exact am_iret X hS dX0_tag_32 (am_sTag_n ha h0)
  · refine lv_iconst (v := (-1)) hx hb dX0_tag_7 (by decide +kernel) ?_
    exact am_iret X hS dX0_tag_8 (am_sTag_bad (hq.f c4))
set_option maxHeartbeats 4000000 in
set_option maxRecDepth 100000 in
theorem mt_X0_areas (l : Launch) (D : va_G) (ad : Nat → Nat) (dB : ClassId) (n : Nat) (F T K : Nat → Nat) (mk : Nat) (NF NT NK : Nat → Nat) {g : Nat → Nat} (hR : am_Rel n F T K g) : am_RO l yX0_areas cX0_areas 1 (some .int) 0 [.ref (ad 0)] (am_pre D (am_X ad dB n F T K mk NF NT NK) [(dB, .byte)]) (fun r => r = nI (am_runs g)) := by
  refine am_RO.intro RX0 rfl (by decide) (Nat.le_of_ble_eq_true rfl) ?_
  intro p e s m args below meth c X hpre ls hl
  obtain ⟨hP, hK⟩ := hpre
  have hx := X.1
  have hb := X.2.1
  have hS : va_S (fun _ => False) s.heap s.heap [] := va_S.rf
  have hl : lv_has ls 1 [(0, .ref (ad 0))] := hl
  refine lv_aload_n hx hb dX0_areas_0 rfl (lv_at hl 0 rfl) ?_
  refine am_gX_32 X hK hP dX0_areas_1 ?_
  exact am_iret X hS dX0_areas_4 (congrArg nI hR.2.count.symm)
set_option maxHeartbeats 4000000 in
set_option maxRecDepth 100000 in
theorem mt_X0_areaFirst (l : Launch) (D : va_G) (ad : Nat → Nat) (dB : ClassId) (n : Nat) (F T K : Nat → Nat) (mk : Nat) (NF NT NK : Nat → Nat) {g : Nat → Nat} (hR : am_Rel n F T K g) (x : Int32) : am_RO l yX0_areaFirst cX0_areaFirst 2 (some .int) 1 [.ref (ad 0), .int x] (am_pre D (am_X ad dB n F T K mk NF NT NK) [(dB, .byte)]) (fun r => r = am_sFirst g x) := by
  have hn := hR.1
  refine am_RO.intro RX0 rfl (by decide) (Nat.le_of_ble_eq_true rfl) ?_
  intro p e s m args below meth c X hpre ls hl
  obtain ⟨hP, hK⟩ := hpre
  have hx := X.1
  have hb := X.2.1
  have hS : va_S (fun _ => False) s.heap s.heap [] := va_S.rf
  have hl : lv_has ls 2 [(0, .ref (ad 0)), (1, .int x)] := hl
  refine lv_aload_n hx hb dX0_areaFirst_0 rfl (lv_at hl 0 rfl) ?_
  refine lv_iload_n hx hb dX0_areaFirst_1 rfl (lv_at hl 1 rfl) ?_
  refine am_callV (mt_X0_isArea l D ad dB n F T K mk NF NT NK hR.1 (x)) lk_X0_75 X hl.1 hP hK rfl rfl rfl hP hS ⟨by decide, by decide⟩ ⟨Nat.zero_le _, Nat.zero_le _⟩ (by decide) dX0_areaFirst_2 rfl (fun ra H locs hq hP hS => ?_)
  refine lv_if_eq (tgt := 17) hx hb dX0_areaFirst_5 (by decide) (fun c5 => ?_) (fun c5 => ?_)
  · refine lv_bipush (v := (-3)) hx hb dX0_areaFirst_17 (by decide +kernel) ?_
    exact am_iret X hS dX0_areaFirst_19 (am_sFirst_n (hR.2.nthN (by omega) (hq.f c5)))
  · have hq := hq.t c5
    obtain ⟨i, hi31, rfl, hxi⟩ := am_nat hq.1
    have hi : i < n := by have := hq.2; omega
    refine lv_aload_n hx hb dX0_areaFirst_8 rfl (lv_at hl 0 rfl) ?_
    refine am_gX_7 X hK hP dX0_areaFirst_9 ?_
    refine lv_iload_n hx hb dX0_areaFirst_12 rfl (lv_at hl 1 rfl) ?_
    refine am_lX_1 X hK hP (by omega) dX0_areaFirst_13 ?_
    refine lv_goto (tgt := 19) hx hb dX0_areaFirst_14 (by decide) ?_
    exact am_iret X hS dX0_areaFirst_19 (am_sFirst_k (hR.2.nth (by omega) hi))
set_option maxHeartbeats 4000000 in
set_option maxRecDepth 100000 in
theorem mt_X0_areaLength (l : Launch) (D : va_G) (ad : Nat → Nat) (dB : ClassId) (n : Nat) (F T K : Nat → Nat) (mk : Nat) (NF NT NK : Nat → Nat) {g : Nat → Nat} (hR : am_Rel n F T K g) (x : Int32) : am_RO l yX0_areaLength cX0_areaLength 2 (some .int) 1 [.ref (ad 0), .int x] (am_pre D (am_X ad dB n F T K mk NF NT NK) [(dB, .byte)]) (fun r => r = am_sLen g x) := by
  have hn := hR.1
  refine am_RO.intro RX0 rfl (by decide) (Nat.le_of_ble_eq_true rfl) ?_
  intro p e s m args below meth c X hpre ls hl
  obtain ⟨hP, hK⟩ := hpre
  have hx := X.1
  have hb := X.2.1
  have hS : va_S (fun _ => False) s.heap s.heap [] := va_S.rf
  have hl : lv_has ls 2 [(0, .ref (ad 0)), (1, .int x)] := hl
  refine lv_aload_n hx hb dX0_areaLength_0 rfl (lv_at hl 0 rfl) ?_
  refine lv_iload_n hx hb dX0_areaLength_1 rfl (lv_at hl 1 rfl) ?_
  refine am_callV (mt_X0_isArea l D ad dB n F T K mk NF NT NK hR.1 (x)) lk_X0_75 X hl.1 hP hK rfl rfl rfl hP hS ⟨by decide, by decide⟩ ⟨Nat.zero_le _, Nat.zero_le _⟩ (by decide) dX0_areaLength_2 rfl (fun ra H locs hq hP hS => ?_)
  refine lv_if_eq (tgt := 24) hx hb dX0_areaLength_5 (by decide) (fun c5 => ?_) (fun c5 => ?_)
  · refine lv_bipush (v := (-3)) hx hb dX0_areaLength_24 (by decide +kernel) ?_
    exact am_iret X hS dX0_areaLength_26 (am_sLen_n (hR.2.nthN (by omega) (hq.f c5)))
  · have hq := hq.t c5
    obtain ⟨i, hi31, rfl, hxi⟩ := am_nat hq.1
    have hi : i < n := by have := hq.2; omega
    obtain ⟨h1, h2, h3, h4, h5, h6, h7⟩ := hR.2.1 i hi
    refine lv_aload_n hx hb dX0_areaLength_8 rfl (lv_at hl 0 rfl) ?_
    refine am_gX_13 X hK hP dX0_areaLength_9 ?_
    refine lv_iload_n hx hb dX0_areaLength_12 rfl (lv_at hl 1 rfl) ?_
    refine am_lX_2 X hK hP (by omega) dX0_areaLength_13 ?_
    refine lv_aload_n hx hb dX0_areaLength_14 rfl (lv_at hl 0 rfl) ?_
    refine am_gX_7 X hK hP dX0_areaLength_15 ?_
    refine lv_iload_n hx hb dX0_areaLength_18 rfl (lv_at hl 1 rfl) ?_
    refine am_lX_1 X hK hP (by omega) dX0_areaLength_19 ?_
    refine am_isub hx hb (by omega) dX0_areaLength_20 ?_
    refine lv_goto (tgt := 26) hx hb dX0_areaLength_21 (by decide) ?_
    exact am_iret X hS dX0_areaLength_26 (am_sLen_k (hR.2.nth (by omega) hi) (hR.2.end hi))
set_option maxHeartbeats 4000000 in
set_option maxRecDepth 100000 in
theorem mt_X0_areaOf (l : Launch) (D : va_G) (ad : Nat → Nat) (dB : ClassId) (n : Nat) (F T K : Nat → Nat) (mk : Nat) (NF NT NK : Nat → Nat) {g : Nat → Nat} (hR : am_Rel n F T K g) (x : Int32) : am_RO l yX0_areaOf cX0_areaOf 3 (some .int) 1 [.ref (ad 0), .int x] (am_pre D (am_X ad dB n F T K mk NF NT NK) [(dB, .byte)]) (fun r => r = am_sOf g x) := by
  have hn := hR.1
  refine am_RO.intro RX0 rfl (by decide) (Nat.le_of_ble_eq_true rfl) ?_
  intro p e s m args below meth c X hpre ls hl
  obtain ⟨hP, hK⟩ := hpre
  have hx := X.1
  have hb := X.2.1
  have hS : va_S (fun _ => False) s.heap s.heap [] := va_S.rf
  have hl : lv_has ls 3 [(0, .ref (ad 0)), (1, .int x)] := hl
  refine lv_iload_n hx hb dX0_areaOf_0 rfl (lv_at hl 1 rfl) ?_
  refine am_callS (mt_X0_isPage l (x)) lk_X0_68 X hl.1 hP hS ⟨by decide, by decide⟩ ⟨Nat.zero_le _, Nat.zero_le _⟩ (by decide) dX0_areaOf_1 rfl (fun rp H locs hq hP hS => ?_)
  refine lv_if_eq (tgt := 15) hx hb dX0_areaOf_4 (by decide) (fun c4 => ?_) (fun c4 => ?_)
  · refine lv_iconst (v := (-1)) hx hb dX0_areaOf_15 (by decide +kernel) ?_
    refine lv_istore_n (lv' := [(2, .int ((-1))), (0, .ref (ad 0)), (1, .int x)]) hx hb dX0_areaOf_16 rfl hl (by decide) rfl (fun ls hl => ?_)
    refine lv_iload_n hx hb dX0_areaOf_17 rfl (lv_at hl 0 rfl) ?_
    refine lv_if_ge (tgt := 26) hx hb dX0_areaOf_18 (by decide) (fun c18 => ?_) (fun c18 => ?_)
    · exact absurd c18 (by decide)
    · refine lv_bipush (v := (-3)) hx hb dX0_areaOf_21 (by decide +kernel) ?_
      refine lv_goto (tgt := 27) hx hb dX0_areaOf_23 (by decide) ?_
      exact am_iret X hS dX0_areaOf_27 (am_sOf_bad (hq.f c4))
  · have hq := hq.t c4
    obtain ⟨a, rfl, ha⟩ := am_okg_n hq
    refine lv_aload_n hx hb dX0_areaOf_7 rfl (lv_at hl 0 rfl) ?_
    refine lv_iload_n hx hb dX0_areaOf_8 rfl (lv_at hl 1 rfl) ?_
    refine am_callV (mt_X0_find l D ad dB n F T K mk NF NT NK hR a (by omega)) lk_X0_71 X hl.1 hP hK rfl rfl rfl hP hS ⟨by decide, by decide⟩ ⟨Nat.zero_le _, Nat.zero_le _⟩ (by decide) dX0_areaOf_9 rfl (fun r H locs hp hP hS => ?_)
    rcases hp with ⟨i, hi, q1, q2, rfl⟩ | ⟨rfl, h0⟩
    · refine lv_goto (tgt := 16) hx hb dX0_areaOf_12 (by decide) ?_
      refine lv_istore_n (lv' := [(2, .int (nI i)), (0, .ref (ad 0)), (1, .int (nI a))]) hx hb dX0_areaOf_16 rfl hl (by decide) rfl (fun ls hl => ?_)
      refine lv_iload_n hx hb dX0_areaOf_17 rfl (lv_at hl 0 rfl) ?_
      refine am_if_ge (tgt := 26) hx hb (by omega) dX0_areaOf_18 (by decide) ?_
      refine lv_iload_n hx hb dX0_areaOf_26 rfl (lv_at hl 0 rfl) ?_
      exact am_iret X hS dX0_areaOf_27 (by rw [← am_sOf_k ha (by rw [(hR.2.1 i hi).2.2.2.2.2.1 a q1 q2]; omega), hR.2.of hi q1 q2])
    · refine lv_goto (tgt := 16) hx hb dX0_areaOf_12 (by decide) ?_
      refine lv_istore_n (lv' := [(2, .int (-1)), (0, .ref (ad 0)), (1, .int (nI a))]) hx hb dX0_areaOf_16 rfl hl (by decide) rfl (fun ls hl => ?_)
      refine lv_iload_n hx hb dX0_areaOf_17 rfl (lv_at hl 0 rfl) ?_
      refine lv_if_ge (tgt := 26) hx hb dX0_areaOf_18 (by decide) (fun c18 => ?_) (fun c18 => ?_)
      · exact absurd c18 (by decide)
      · refine lv_bipush (v := (-3)) hx hb dX0_areaOf_21 (by decide +kernel) ?_
        refine lv_goto (tgt := 27) hx hb dX0_areaOf_23 (by decide) ?_
        exact am_iret X hS dX0_areaOf_27 (am_sOf_n ha h0)
set_option maxHeartbeats 4000000 in
set_option maxRecDepth 100000 in
theorem mt_X0_mapped (l : Launch) (D : va_G) (ad : Nat → Nat) (dB : ClassId) (n : Nat) (F T K : Nat → Nat) (mk : Nat) (NF NT NK : Nat → Nat) {g : Nat → Nat} (hR : am_Rel n F T K g) : am_RO l yX0_mapped cX0_mapped 1 (some .int) 2 [.ref (ad 0)] (am_pre D (am_X ad dB n F T K mk NF NT NK) [(dB, .byte)]) (fun r => r = nI (am_us g 0 64)) := by
  have hn := hR.1
  refine am_RO.intro RX0 rfl (by decide) (Nat.le_of_ble_eq_true rfl) ?_
  intro p e s m args below meth c X hpre ls hl
  obtain ⟨hP, hK⟩ := hpre
  have hx := X.1
  have hb := X.2.1
  have hS : va_S (fun _ => False) s.heap s.heap [] := va_S.rf
  have hl : lv_has ls 1 [(0, .ref (ad 0))] := hl
  refine lv_aload_n hx hb dX0_mapped_0 rfl (lv_at hl 0 rfl) ?_
  refine lv_iconst (v := nI 0) hx hb dX0_mapped_1 (by decide +kernel) ?_
  refine lv_bipush (v := nI 64) hx hb dX0_mapped_2 (by decide +kernel) ?_
  refine am_callV (mt_X0_mappedIn l D ad dB n F T K mk NF NT NK hR 0 64 (by omega) (by omega)) lk_X0_58 X hl.1 hP hK rfl rfl rfl hP hS ⟨by decide, by decide⟩ ⟨Nat.zero_le _, Nat.zero_le _⟩ (by decide) dX0_mapped_4 rfl (fun r H locs hp hP hS => ?_)
  subst hp
  exact am_iret X hS dX0_mapped_7 rfl
set_option maxHeartbeats 4000000 in
set_option maxRecDepth 100000 in
theorem mt_X0_longestFree (l : Launch) (D : va_G) (ad : Nat → Nat) (dB : ClassId) (n : Nat) (F T K : Nat → Nat) (mk : Nat) (NF NT NK : Nat → Nat) {g : Nat → Nat} (hR : am_Rel n F T K g) : am_RO l yX0_longestFree cX0_longestFree 4 (some .int) 1 [.ref (ad 0)] (am_pre D (am_X ad dB n F T K mk NF NT NK) [(dB, .byte)]) (fun r => r = nI (am_lf g 64).1) := by
  have hn := hR.1
  refine am_RO.intro RX0 rfl (by decide) (Nat.le_of_ble_eq_true rfl) ?_
  intro p e s m args below meth c X hpre ls hl
  obtain ⟨hP, hK⟩ := hpre
  have hx := X.1
  have hb := X.2.1
  have hS : va_S (fun _ => False) s.heap s.heap [] := va_S.rf
  have hl : lv_has ls 4 [(0, .ref (ad 0))] := hl
  refine lv_iconst (v := nI 0) hx hb dX0_longestFree_0 (by decide +kernel) ?_
  refine lv_istore_n (lv' := [(1, .int (nI 0)), (0, .ref (ad 0))]) hx hb dX0_longestFree_1 rfl hl (by decide) rfl (fun ls hl => ?_)
  refine lv_iconst (v := nI 0) hx hb dX0_longestFree_2 (by decide +kernel) ?_
  refine lv_istore_n (lv' := [(2, .int (nI 0)), (1, .int (nI 0)), (0, .ref (ad 0))]) hx hb dX0_longestFree_3 rfl hl (by decide) rfl (fun ls hl => ?_)
  refine lv_iconst (v := nI 0) hx hb dX0_longestFree_4 (by decide +kernel) ?_
  refine lv_istore_n (lv' := [(3, .int (nI 0)), (2, .int (nI 0)), (1, .int (nI 0)), (0, .ref (ad 0))]) hx hb dX0_longestFree_5 rfl hl (by decide) rfl (fun ls hl => ?_)
  have loop : ∀ (N : Nat) (i : Nat) (mo : Nat), (i ≤ n) → (n < i + N) → (mo ≤ 64) → (am_lf g (am_hi T i) = (mo, 0)) → ∀ (H : Heap) (locs : List Loc), va_P D am_cl (am_X ad dB n F T K mk NF NT NK) H → va_S (fun _ => False) s.heap H locs → ∀ ls : Array Slot, lv_has ls 4 [(0, .ref (ad 0)), (1, .int (nI (am_hi T i))), (2, .int (nI mo)), (3, .int (nI i))] → W p l e (am_rm 1) s m args below meth c H locs 0 0 (am_QR below (fun r => r = nI (am_lf g 64).1) args s) (F0 m 6 ls []) := by
    intro N
    induction N with
    | zero =>
      intro i mo hi hN hm64 hmo
      exfalso
      omega
    | succ N ih =>
      intro i mo hi hN hm64 hmo H locs hP hS ls hl
      refine lv_iload_n hx hb dX0_longestFree_6 rfl (lv_at hl 3 rfl) ?_
      refine lv_aload_n hx hb dX0_longestFree_7 rfl (lv_at hl 0 rfl) ?_
      refine am_gX_32 X hK hP dX0_longestFree_8 ?_
      refine am_icmp_ge (tgt := 40) hx hb (by omega) (by omega) dX0_longestFree_11 (by decide) (fun c11 => ?_) (fun c11 => ?_)
      · have e9 : i = n := by omega
        subst e9
        have hh := hR.2.2.1
        refine lv_iload_n hx hb dX0_longestFree_40 rfl (lv_at hl 2 rfl) ?_
        refine lv_bipush (v := nI 64) hx hb dX0_longestFree_41 (by decide +kernel) ?_
        refine lv_iload_n hx hb dX0_longestFree_43 rfl (lv_at hl 1 rfl) ?_
        refine am_isub hx hb (by omega) dX0_longestFree_44 ?_
        refine am_callS (mt_X0_greatest l (nI mo) (nI (64 - (am_hi T i)))) lk_X0_43 X hl.1 hP hS ⟨by decide, by decide⟩ ⟨Nat.zero_le _, Nat.zero_le _⟩ (by decide) dX0_longestFree_45 rfl (fun r H locs hp hP hS => ?_)
        subst hp
        refine am_top (y := nI (max mo (64 - (am_hi T i)))) (am_max (by omega) (by omega)) ?_
        exact am_iret X hS dX0_longestFree_48 (by rw [hR.2.lfE hmo])
      · obtain ⟨h1, h2, h3, h4, h5, h6, h7⟩ := hR.2.1 i c11
        refine lv_iload_n hx hb dX0_longestFree_14 rfl (lv_at hl 2 rfl) ?_
        refine lv_aload_n hx hb dX0_longestFree_15 rfl (lv_at hl 0 rfl) ?_
        refine am_gX_7 X hK hP dX0_longestFree_16 ?_
        refine lv_iload_n hx hb dX0_longestFree_19 rfl (lv_at hl 3 rfl) ?_
        refine am_lX_1 X hK hP (by omega) dX0_longestFree_20 ?_
        refine lv_iload_n hx hb dX0_longestFree_21 rfl (lv_at hl 1 rfl) ?_
        refine am_isub hx hb (by omega) dX0_longestFree_22 ?_
        refine am_callS (mt_X0_greatest l (nI mo) (nI ((F i) - (am_hi T i)))) lk_X0_43 X hl.1 hP hS ⟨by decide, by decide⟩ ⟨Nat.zero_le _, Nat.zero_le _⟩ (by decide) dX0_longestFree_23 rfl (fun r H locs hp hP hS => ?_)
        subst hp
        refine am_top (y := nI (max mo ((F i) - (am_hi T i)))) (am_max (by omega) (by omega)) ?_
        refine lv_istore_n (lv' := [(2, .int (nI (max mo ((F i) - (am_hi T i))))), (0, .ref (ad 0)), (1, .int (nI (am_hi T i))), (3, .int (nI i))]) hx hb dX0_longestFree_26 rfl hl (by decide) rfl (fun ls hl => ?_)
        refine lv_aload_n hx hb dX0_longestFree_27 rfl (lv_at hl 1 rfl) ?_
        refine am_gX_13 X hK hP dX0_longestFree_28 ?_
        refine lv_iload_n hx hb dX0_longestFree_31 rfl (lv_at hl 3 rfl) ?_
        refine am_lX_2 X hK hP (by omega) dX0_longestFree_32 ?_
        refine lv_istore_n (lv' := [(1, .int (nI (T i))), (2, .int (nI (max mo ((F i) - (am_hi T i))))), (0, .ref (ad 0)), (3, .int (nI i))]) hx hb dX0_longestFree_33 rfl hl (by decide) rfl (fun ls hl => ?_)
        refine lv_iinc (v := nI (i + 1)) (lv' := [(3, .int (nI (i + 1))), (1, .int (nI (T i))), (2, .int (nI (max mo ((F i) - (am_hi T i))))), (0, .ref (ad 0))]) hx hb dX0_longestFree_34 hl (k := 3) rfl (nI_1 _) (by decide) rfl (fun ls hl => ?_)
        refine lv_goto (tgt := 6) hx hb dX0_longestFree_37 (by decide) ?_
        exact ih (i + 1) (max mo ((F i) - (am_hi T i))) (by omega) (by omega) (by omega) (hR.2.lf c11 hmo) _ _ hP hS ls (lv_sub hl [3, 1, 2, 0] rfl)
  exact loop (n + 1) 0 0 (Nat.zero_le _) (by omega) (Nat.zero_le _) rfl _ _ hP hS ls (lv_sub hl [3, 2, 1, 0] rfl)
set_option maxHeartbeats 4000000 in
set_option maxRecDepth 100000 in
theorem mt_X0_allows (l : Launch) (D : va_G) (ad : Nat → Nat) (dB : ClassId) (n : Nat) (F T K : Nat → Nat) (mk : Nat) (NF NT NK : Nat → Nat) {g : Nat → Nat} (hR : am_Rel n F T K g) (x y z : Int32) : am_RO l yX0_allows cX0_allows 6 (some .boolean) 1 [.ref (ad 0), .int x, .int y, .int z] (am_pre D (am_X ad dB n F T K mk NF NT NK) [(dB, .byte)]) (fun r => r = am_sAllow g x y z) := by
  have hn := hR.1
  refine am_RO.intro RX0 rfl (by decide) (Nat.le_of_ble_eq_true rfl) ?_
  intro p e s m args below meth c X hpre ls hl
  obtain ⟨hP, hK⟩ := hpre
  have hx := X.1
  have hb := X.2.1
  have hS : va_S (fun _ => False) s.heap s.heap [] := va_S.rf
  have hl : lv_has ls 6 [(0, .ref (ad 0)), (1, .int x), (2, .int y), (3, .int z)] := hl
  refine lv_iload_n hx hb dX0_allows_0 rfl (lv_at hl 1 rfl) ?_
  refine lv_iload_n hx hb dX0_allows_1 rfl (lv_at hl 2 rfl) ?_
  refine am_callS (mt_X0_isProper l (x) (y)) lk_X0_50 X hl.1 hP hS ⟨by decide, by decide⟩ ⟨Nat.zero_le _, Nat.zero_le _⟩ (by decide) dX0_allows_2 rfl (fun rp H locs hq hP hS => ?_)
  refine lv_if_eq (tgt := 18) hx hb dX0_allows_5 (by decide) (fun c5 => ?_) (fun c5 => ?_)
  · refine lv_iconst (v := nI 0) hx hb dX0_allows_18 (by decide +kernel) ?_
    exact am_zret X hS dX0_allows_19 (Or.inl nI_0) (am_sAllow_0 (fun h => hq.f c5 h.1))
  · have hq := hq.t c5
    obtain ⟨a, b, rfl, rfl, hb1, hab⟩ := am_okp_n hq
    refine lv_iload_n hx hb dX0_allows_8 rfl (lv_at hl 3 rfl) ?_
    refine lv_if_lt (tgt := 18) hx hb dX0_allows_9 (by decide) (fun c9 => ?_) (fun c9 => ?_)
    · refine lv_iconst (v := nI 0) hx hb dX0_allows_18 (by decide +kernel) ?_
      exact am_zret X hS dX0_allows_19 (Or.inl nI_0) (am_sAllow_0 (fun h => by have := am_lt0.mp c9; have := h.2.1; omega))
    · obtain ⟨w, hw, rfl⟩ := nI_of c9
      refine lv_iload_n hx hb dX0_allows_12 rfl (lv_at hl 3 rfl) ?_
      refine lv_bipush (v := nI 7) hx hb dX0_allows_13 (by decide +kernel) ?_
      refine am_icmp_le (tgt := 20) hx hb (by omega) (by omega) dX0_allows_15 (by decide) (fun c15 => ?_) (fun c15 => ?_)
      · refine lv_iload_n hx hb dX0_allows_20 rfl (lv_at hl 1 rfl) ?_
        refine lv_istore (lv' := [(4, .int (nI a)), (0, .ref (ad 0)), (1, .int (nI a)), (2, .int (nI b)), (3, .int (nI w))]) hx hb dX0_allows_21 hl (by decide) rfl (fun ls hl => ?_)
        refine lv_aload_n hx hb dX0_allows_23 rfl (lv_at hl 1 rfl) ?_
        refine lv_iload_n hx hb dX0_allows_24 rfl (lv_at hl 2 rfl) ?_
        refine am_callV (mt_X0_find l D ad dB n F T K mk NF NT NK hR a (by omega)) lk_X0_71 X hl.1 hP hK rfl rfl rfl hP hS ⟨by decide, by decide⟩ ⟨Nat.zero_le _, Nat.zero_le _⟩ (by decide) dX0_allows_25 rfl (fun r H locs hp hP hS => ?_)
        rcases hp with ⟨i0, hi0, q1, q2, rfl⟩ | ⟨rfl, h0⟩
        · refine lv_istore (lv' := [(5, .int (nI i0)), (4, .int (nI a)), (0, .ref (ad 0)), (1, .int (nI a)), (2, .int (nI b)), (3, .int (nI w))]) hx hb dX0_allows_28 hl (by decide) rfl (fun ls hl => ?_)
          have loop : ∀ (N : Nat) (i : Nat) (pg : Nat), (i ≤ n) → (n < i + N) → (pg ≤ 64) → (a ≤ pg) → (am_hi T i ≤ pg) → (i < n → pg < T i) → (∀ q, a ≤ q → q < pg → am_bad g (nI w) q = false) → ∀ (H : Heap) (locs : List Loc), va_P D am_cl (am_X ad dB n F T K mk NF NT NK) H → va_S (fun _ => False) s.heap H locs → ∀ ls : Array Slot, lv_has ls 6 [(0, .ref (ad 0)), (1, .int (nI a)), (2, .int (nI b)), (3, .int (nI w)), (4, .int (nI pg)), (5, .int (nI i))] → W p l e (am_rm 1) s m args below meth c H locs 0 0 (am_QR below (fun r => r = am_sAllow g (nI a) (nI b) (nI w)) args s) (F0 m 30 ls []) := by
            intro N
            induction N with
            | zero =>
              intro i pg hi hN hp64 hap hlo hup hok
              exfalso
              omega
            | succ N ih =>
              intro i pg hi hN hp64 hap hlo hup hok H locs hP hS ls hl
              refine lv_iload hx hb dX0_allows_30 (lv_at hl 4 rfl) ?_
              refine lv_iload_n hx hb dX0_allows_32 rfl (lv_at hl 1 rfl) ?_
              refine lv_iload_n hx hb dX0_allows_33 rfl (lv_at hl 2 rfl) ?_
              refine am_iadd hx hb dX0_allows_34 ?_
              refine am_icmp_ge (tgt := 90) hx hb (by omega) (by omega) dX0_allows_35 (by decide) (fun c35 => ?_) (fun c35 => ?_)
              · refine lv_iconst (v := nI 1) hx hb dX0_allows_90 (by decide +kernel) ?_
                exact am_zret X hS dX0_allows_91 (Or.inr (by decide +kernel)) (am_sAllow_1 hb1 hab (am_okr_i c15) (fun q q1 q2 => hok q q1 (by omega)))
              · refine lv_aload_n hx hb dX0_allows_38 rfl (lv_at hl 0 rfl) ?_
                refine lv_iload hx hb dX0_allows_39 (lv_at hl 5 rfl) ?_
                refine am_callV (mt_X0_isArea l D ad dB n F T K mk NF NT NK hR.1 (nI i)) lk_X0_75 X hl.1 hP hK rfl rfl rfl hP hS ⟨by decide, by decide⟩ ⟨Nat.zero_le _, Nat.zero_le _⟩ (by decide) dX0_allows_41 rfl (fun ra H locs hq hP hS => ?_)
                refine lv_if_eq (tgt := 73) hx hb dX0_allows_44 (by decide) (fun c44 => ?_) (fun c44 => ?_)
                · have e9 : i = n := by have hq := hq.f c44; rw [nI_toInt (by omega)] at hq; omega
                  subst e9
                  refine lv_iconst (v := nI 0) hx hb dX0_allows_73 (by decide +kernel) ?_
                  exact am_zret X hS dX0_allows_74 (Or.inl nI_0) (am_sAllow_b (p := pg) (by omega) hap (by omega) (am_bad_0 (hR.2.2.2 pg hlo (by omega))))
                · have hlt : i < n := by have hq := hq.t c44; rw [nI_toInt (by omega)] at hq; omega
                  obtain ⟨h1, h2, h3, h4, h5, h6, h7⟩ := hR.2.1 i hlt
                  have hup := hup hlt
                  refine lv_aload_n hx hb dX0_allows_47 rfl (lv_at hl 0 rfl) ?_
                  refine am_gX_7 X hK hP dX0_allows_48 ?_
                  refine lv_iload hx hb dX0_allows_51 (lv_at hl 5 rfl) ?_
                  refine am_lX_1 X hK hP (by omega) dX0_allows_53 ?_
                  refine lv_iload hx hb dX0_allows_54 (lv_at hl 4 rfl) ?_
                  refine am_icmp_gt (tgt := 73) hx hb (by omega) (by omega) dX0_allows_56 (by decide) (fun c56 => ?_) (fun c56 => ?_)
                  · refine lv_iconst (v := nI 0) hx hb dX0_allows_73 (by decide +kernel) ?_
                    exact am_zret X hS dX0_allows_74 (Or.inl nI_0) (am_sAllow_b (p := pg) (by omega) hap (by omega) (am_bad_0 (h5 pg hlo c56)))
                  · refine lv_iload_n hx hb dX0_allows_59 rfl (lv_at hl 3 rfl) ?_
                    refine lv_aload_n hx hb dX0_allows_60 rfl (lv_at hl 0 rfl) ?_
                    refine am_gX_16 X hK hP dX0_allows_61 ?_
                    refine lv_iload hx hb dX0_allows_64 (lv_at hl 5 rfl) ?_
                    refine am_lX_3 X hK hP (by omega) dX0_allows_66 ?_
                    refine lv_iconst (v := (-1)) hx hb dX0_allows_67 (by decide +kernel) ?_
                    refine lv_ixor hx hb dX0_allows_68 ?_
                    refine lv_iand hx hb dX0_allows_69 ?_
                    refine lv_if_eq (tgt := 75) hx hb dX0_allows_70 (by decide) (fun c70 => ?_) (fun c70 => ?_)
                    · refine lv_aload_n hx hb dX0_allows_75 rfl (lv_at hl 0 rfl) ?_
                      refine am_gX_13 X hK hP dX0_allows_76 ?_
                      refine lv_iload hx hb dX0_allows_79 (lv_at hl 5 rfl) ?_
                      refine am_lX_2 X hK hP (by omega) dX0_allows_81 ?_
                      refine lv_istore (lv' := [(4, .int (nI (T i))), (0, .ref (ad 0)), (1, .int (nI a)), (2, .int (nI b)), (3, .int (nI w)), (5, .int (nI i))]) hx hb dX0_allows_82 hl (by decide) rfl (fun ls hl => ?_)
                      refine lv_iinc (v := nI (i + 1)) (lv' := [(5, .int (nI (i + 1))), (4, .int (nI (T i))), (0, .ref (ad 0)), (1, .int (nI a)), (2, .int (nI b)), (3, .int (nI w))]) hx hb dX0_allows_84 hl (k := 5) rfl (nI_1 _) (by decide) rfl (fun ls hl => ?_)
                      refine lv_goto (tgt := 30) hx hb dX0_allows_87 (by decide) ?_
                      exact ih (i + 1) (T i) (by omega) (by omega) h3 (by omega) (Nat.le_refl _) (fun z => (hR.2.1 (i + 1) z).2.1 |> fun y => by have y0 : T i ≤ F (i + 1) := (hR.2.1 (i + 1) z).1; omega) (fun q q1 q2 => (Nat.lt_or_ge q pg).elim (fun z => hok q q1 z) (fun z => am_bad_no (h6 q (by omega) q2) c70)) _ _ hP hS ls (lv_sub hl [2, 3, 4, 5, 1, 0] rfl)
                    · refine lv_iconst (v := nI 0) hx hb dX0_allows_73 (by decide +kernel) ?_
                      exact am_zret X hS dX0_allows_74 (Or.inl nI_0) (am_sAllow_b (p := pg) (by omega) hap (by omega) (am_bad_k (h6 pg c56 hup) c70))
          exact loop (n + 1) i0 a (by omega) (by omega) (by omega) (Nat.le_refl _) (Nat.le_trans (hR.2.1 i0 hi0).1 q1) (fun _ => q2) (fun q z1 z2 => by omega) _ _ hP hS ls (lv_sub hl [2, 3, 4, 5, 1, 0] rfl)
        · refine lv_istore (lv' := [(5, .int (-1)), (4, .int (nI a)), (0, .ref (ad 0)), (1, .int (nI a)), (2, .int (nI b)), (3, .int (nI w))]) hx hb dX0_allows_28 hl (by decide) rfl (fun ls hl => ?_)
          refine lv_iload hx hb dX0_allows_30 (lv_at hl 1 rfl) ?_
          refine lv_iload_n hx hb dX0_allows_32 rfl (lv_at hl 3 rfl) ?_
          refine lv_iload_n hx hb dX0_allows_33 rfl (lv_at hl 4 rfl) ?_
          refine am_iadd hx hb dX0_allows_34 ?_
          refine am_icmp_ge (tgt := 90) hx hb (by omega) (by omega) dX0_allows_35 (by decide) (fun c35 => ?_) (fun c35 => ?_)
          · exact absurd c35 (by omega)
          · refine lv_aload_n hx hb dX0_allows_38 rfl (lv_at hl 2 rfl) ?_
            refine lv_iload hx hb dX0_allows_39 (lv_at hl 0 rfl) ?_
            refine am_callV (mt_X0_isArea l D ad dB n F T K mk NF NT NK hR.1 (-1)) lk_X0_75 X hl.1 hP hK rfl rfl rfl hP hS ⟨by decide, by decide⟩ ⟨Nat.zero_le _, Nat.zero_le _⟩ (by decide) dX0_allows_41 rfl (fun ra H locs hq hP hS => ?_)
            refine lv_if_eq (tgt := 73) hx hb dX0_allows_44 (by decide) (fun c44 => ?_) (fun c44 => ?_)
            · refine lv_iconst (v := nI 0) hx hb dX0_allows_73 (by decide +kernel) ?_
              exact am_zret X hS dX0_allows_74 (Or.inl nI_0) (am_sAllow_b (p := a) (by omega) (Nat.le_refl _) (by omega) (am_bad_0 h0))
            · exact absurd (hq.t c44).1 (by decide)
      · refine lv_iconst (v := nI 0) hx hb dX0_allows_18 (by decide +kernel) ?_
        exact am_zret X hS dX0_allows_19 (Or.inl nI_0) (am_sAllow_0 (fun h => by have h2 := h.2.2; rw [nI_toInt hw] at h2; omega))
theorem nw_pick {n : Nat} {F T K g : Nat → Nat} (h : am_Seg n F T K g 64) {i : Nat} (hi : i < n) {x y : Int32} (h0 : ∀ j, j < am_hi T i → am_nxq g x y j = false) (ht : nI (K i / 8) = x) (hy : ¬ nI (T i) ≤ y) : (if y < nI (F i) then nI (F i) else y) = am_sNext g x y := by
  obtain ⟨h1, h2, h3, h4, h5, h6, h7⟩ := h.1 i hi
  have hy := mt (am_nle (x := y) (n := T i) (by omega)).mpr hy
  by_cases q : y < nI (F i)
  · rw [if_pos q]
    have q := (am_ltn (by omega)).mp q
    refine am_sNext_k (by omega) (fun j hj => ?_) (am_nxq_k (h6 (F i) (Nat.le_refl _) h2) ht (by omega))
    rcases Nat.lt_or_ge j (am_hi T i) with z | z
    · exact h0 j z
    · exact am_nxq_0 (h5 j z hj)
  · rw [if_neg q]
    have q := mt (am_ltn (x := y) (n := F i) (by omega)).mpr q
    obtain ⟨b, hb, rfl, hb2⟩ := am_nat (x := y) (by omega)
    refine am_sNext_k (by omega) (fun j hj => ?_) (am_nxq_k (h6 b (by omega) (by omega)) ht (by omega))
    exact am_nxq_y (by omega)
set_option maxHeartbeats 4000000 in
set_option maxRecDepth 100000 in
theorem mt_X0_nextWith (l : Launch) (D : va_G) (ad : Nat → Nat) (dB : ClassId) (n : Nat) (F T K : Nat → Nat) (mk : Nat) (NF NT NK : Nat → Nat) {g : Nat → Nat} (hR : am_Rel n F T K g) (x y : Int32) : am_RO l yX0_nextWith cX0_nextWith 4 (some .int) 1 [.ref (ad 0), .int x, .int y] (am_pre D (am_X ad dB n F T K mk NF NT NK) [(dB, .byte)]) (fun r => r = am_sNext g x y) := by
  have hn := hR.1
  refine am_RO.intro RX0 rfl (by decide) (Nat.le_of_ble_eq_true rfl) ?_
  intro p e s m args below meth c X hpre ls hl
  obtain ⟨hP, hK⟩ := hpre
  have hx := X.1
  have hb := X.2.1
  have hS : va_S (fun _ => False) s.heap s.heap [] := va_S.rf
  have hl : lv_has ls 4 [(0, .ref (ad 0)), (1, .int x), (2, .int y)] := hl
  refine lv_iconst (v := nI 0) hx hb dX0_nextWith_0 (by decide +kernel) ?_
  refine lv_istore_n (lv' := [(3, .int (nI 0)), (0, .ref (ad 0)), (1, .int x), (2, .int y)]) hx hb dX0_nextWith_1 rfl hl (by decide) rfl (fun ls hl => ?_)
  have loop : ∀ (N : Nat) (i : Nat), (i ≤ n) → (n < i + N) → (∀ j, j < am_hi T i → am_nxq g x y j = false) → ∀ (H : Heap) (locs : List Loc), va_P D am_cl (am_X ad dB n F T K mk NF NT NK) H → va_S (fun _ => False) s.heap H locs → ∀ ls : Array Slot, lv_has ls 4 [(0, .ref (ad 0)), (1, .int x), (2, .int y), (3, .int (nI i))] → W p l e (am_rm 1) s m args below meth c H locs 0 0 (am_QR below (fun r => r = am_sNext g x y) args s) (F0 m 2 ls []) := by
    intro N
    induction N with
    | zero =>
      intro i hi hN h0
      exfalso
      omega
    | succ N ih =>
      intro i hi hN h0 H locs hP hS ls hl
      refine lv_iload_n hx hb dX0_nextWith_2 rfl (lv_at hl 3 rfl) ?_
      refine lv_aload_n hx hb dX0_nextWith_3 rfl (lv_at hl 0 rfl) ?_
      refine am_gX_32 X hK hP dX0_nextWith_4 ?_
      refine am_icmp_ge (tgt := 49) hx hb (by omega) (by omega) dX0_nextWith_7 (by decide) (fun c7 => ?_) (fun c7 => ?_)
      · have e9 : i = n := by omega
        subst e9
        refine lv_bipush (v := (-3)) hx hb dX0_nextWith_49 (by decide +kernel) ?_
        exact am_iret X hS dX0_nextWith_51 (am_sNext_n (fun j hj => (Nat.lt_or_ge j (am_hi T i)).elim (fun z => h0 j z) (fun z => am_nxq_0 (hR.2.2.2 j z hj))))
      · obtain ⟨h1, h2, h3, h4, h5, h6, h7⟩ := hR.2.1 i c7
        refine lv_aload_n hx hb dX0_nextWith_10 rfl (lv_at hl 0 rfl) ?_
        refine am_gX_16 X hK hP dX0_nextWith_11 ?_
        refine lv_iload_n hx hb dX0_nextWith_14 rfl (lv_at hl 3 rfl) ?_
        refine am_lX_3 X hK hP (by omega) dX0_nextWith_15 ?_
        refine lv_iconst (v := nI 3) hx hb dX0_nextWith_16 (by decide +kernel) ?_
        refine lv_ishr hx hb dX0_nextWith_17 ?_
        refine am_top (y := nI (K i / 8)) (am_k3 (by omega)) ?_
        refine lv_iload_n hx hb dX0_nextWith_18 rfl (lv_at hl 1 rfl) ?_
        refine lv_icmp_ne (tgt := 43) hx hb dX0_nextWith_19 (by decide) (fun c19 => ?_) (fun c19 => ?_)
        · refine lv_iinc (v := nI (i + 1)) (lv' := [(3, .int (nI (i + 1))), (0, .ref (ad 0)), (1, .int x), (2, .int y)]) hx hb dX0_nextWith_43 hl (k := 3) rfl (nI_1 _) (by decide) rfl (fun ls hl => ?_)
          refine lv_goto (tgt := 2) hx hb dX0_nextWith_46 (by decide) ?_
          exact ih (i + 1) (by omega) (by omega) (hR.2.nx c7 h0 (fun j j1 j2 => am_nxq_t (h6 j j1 j2) c19)) _ _ hP hS ls (lv_sub hl [1, 2, 3, 0] rfl)
        · refine lv_aload_n hx hb dX0_nextWith_22 rfl (lv_at hl 0 rfl) ?_
          refine am_gX_13 X hK hP dX0_nextWith_23 ?_
          refine lv_iload_n hx hb dX0_nextWith_26 rfl (lv_at hl 3 rfl) ?_
          refine am_lX_2 X hK hP (by omega) dX0_nextWith_27 ?_
          refine lv_iload_n hx hb dX0_nextWith_28 rfl (lv_at hl 2 rfl) ?_
          refine lv_icmp_le (tgt := 43) hx hb dX0_nextWith_29 (by decide) (fun c29 => ?_) (fun c29 => ?_)
          · refine lv_iinc (v := nI (i + 1)) (lv' := [(3, .int (nI (i + 1))), (0, .ref (ad 0)), (1, .int x), (2, .int y)]) hx hb dX0_nextWith_43 hl (k := 3) rfl (nI_1 _) (by decide) rfl (fun ls hl => ?_)
            refine lv_goto (tgt := 2) hx hb dX0_nextWith_46 (by decide) ?_
            exact ih (i + 1) (by omega) (by omega) (hR.2.nx c7 h0 (fun j j1 j2 => am_nxq_y (by have := (am_nle (by omega)).mp c29; omega))) _ _ hP hS ls (lv_sub hl [1, 2, 3, 0] rfl)
          · refine lv_aload_n hx hb dX0_nextWith_32 rfl (lv_at hl 0 rfl) ?_
            refine am_gX_7 X hK hP dX0_nextWith_33 ?_
            refine lv_iload_n hx hb dX0_nextWith_36 rfl (lv_at hl 3 rfl) ?_
            refine am_lX_1 X hK hP (by omega) dX0_nextWith_37 ?_
            refine lv_iload_n hx hb dX0_nextWith_38 rfl (lv_at hl 2 rfl) ?_
            refine am_callS (mt_X0_greatest l (nI (F i)) (y)) lk_X0_43 X hl.1 hP hS ⟨by decide, by decide⟩ ⟨Nat.zero_le _, Nat.zero_le _⟩ (by decide) dX0_nextWith_39 rfl (fun r H locs hp hP hS => ?_)
            subst hp
            exact am_iret X hS dX0_nextWith_42 (nw_pick hR.2 c7 h0 c19 c29)
  exact loop (n + 1) 0 (Nat.zero_le _) (by omega) (fun j hj => absurd hj (Nat.not_lt_zero j)) _ _ hP hS ls (lv_sub hl [1, 2, 3, 0] rfl)
end
section
/-! the plain law, fourth part: emit's bounds, commit, the specs of the writers -/
theorem am_em_ct {m m2 : Nat} {F T K F2 T2 K2 : Nat → Nat} {a b k : Nat} (hu : (m2, F2, T2, K2) = am_em m F T K a b k) : (b ≤ a → m2 = m) ∧ m ≤ m2 ∧ m2 ≤ m + 1 := ⟨fun h => (am_em_no hu h).1, (am_em_le hu).1, (am_em_le hu).2⟩
def am_bd (m : Nat) (F T K : Nat → Nat) : Prop := ∀ j, j < m → F j ≤ 127 ∧ T j ≤ 127 ∧ K j ≤ 127
theorem am_em_bd {m m2 : Nat} {F T K F2 T2 K2 : Nat → Nat} {a b k : Nat} (hu : (m2, F2, T2, K2) = am_em m F T K a b k) (h : am_bd m F T K) (ha : a ≤ 127) (hb : b ≤ 127) (hk : k ≤ 127) : am_bd m2 F2 T2 K2 := by
  unfold am_em at hu
  split at hu
  · simp only [Prod.mk.injEq] at hu
    obtain ⟨rfl, rfl, rfl, rfl⟩ := hu
    exact h
  · split at hu
    · simp only [Prod.mk.injEq] at hu
      obtain ⟨rfl, rfl, rfl, rfl⟩ := hu
      intro j hj
      obtain ⟨h1, h2, h3⟩ := h j hj
      refine ⟨h1, ?_, h3⟩
      unfold va_up
      split
      · exact hb
      · exact h2
    · simp only [Prod.mk.injEq] at hu
      obtain ⟨rfl, rfl, rfl, rfl⟩ := hu
      intro j hj
      by_cases q : j = m
      · subst q
        rw [va_up_self, va_up_self, va_up_self]
        exact ⟨ha, hb, hk⟩
      · rw [va_up_ne F a q, va_up_ne T b q, va_up_ne K k q]
        exact h j (by omega)
/-- what commit does -/
def am_cm (m : Nat) (NF NT NK : Nat → Nat) (n : Nat) (F T K : Nat → Nat) (r : Int32) (u : am_SX) : Prop := (r = nI 0 ∧ 20 < m ∧ (n, F, T, K, m, NF, NT, NK) = u) ∨ (r = nI 1 ∧ m ≤ 20 ∧ (m, am_cp NF F m, am_cp NT T m, am_cp NK K m, m, NF, NT, NK) = u)
theorem am_cm_rel {m : Nat} {NF NT NK : Nat → Nat} {n : Nat} {F T K g g2 : Nat → Nat} {r : Int32} {u : am_SX} (h : am_cm m NF NT NK n F T K r u) (hR : am_Rel n F T K g) (hS : am_Seg m NF NT NK g2 64) : am_bp (am_runs g2 ≤ 20) r ∧ am_Rel u.1 u.2.1 u.2.2.1 u.2.2.2.1 (if am_runs g2 ≤ 20 then g2 else g) := by
  have hc : am_runs g2 = m := hS.count
  rcases h with ⟨h1, h2, rfl⟩ | ⟨h1, h2, rfl⟩
  · refine ⟨Or.inr ⟨h1, by omega⟩, ?_⟩
    rw [if_neg (by omega)]
    exact hR
  · refine ⟨Or.inl ⟨h1, by omega⟩, ?_⟩
    rw [if_pos (by omega)]
    exact ⟨h2, hS.congr (fun i hi => ⟨am_cp_lo hi, am_cp_lo hi, am_cp_lo hi⟩) (fun _ _ => rfl)⟩
theorem am_put_t {g g2 : Nat → Nat} {r : Int32} (h : am_runs g2 ≤ 20) : am_put g g2 r = (r, g2) := if_neg (by omega)
theorem am_put_f {g g2 : Nat → Nat} {r : Int32} (h : ¬ am_runs g2 ≤ 20) : am_put g g2 r = (-2, g) := if_pos (by omega)
theorem am_sMap_bad {g : Nat → Nat} {x y z : Int32} (h : ¬ (am_okp x y ∧ am_okk z)) : am_sMap g x y z = (-1, g) := if_neg h
theorem am_sMap_ok {g : Nat → Nat} {a q w : Nat} (h1 : 1 ≤ q) (h2 : a + q ≤ 64) (hw : w ≤ 127) : am_sMap g (nI a) (nI q) (nI w) = am_put g (am_fl g a (a + q) (w + 1)) (nI (am_us g a (a + q))) := by
  unfold am_sMap
  rw [if_pos ⟨am_okp_i h1 h2, am_okk_i hw⟩, nI_clamp (by omega), nI_clamp (by omega), nI_clamp (by omega)]
theorem am_sFree_bad {g : Nat → Nat} {x y : Int32} (h : ¬ am_okp x y) : am_sFree g x y = (-1, g) := if_neg h
theorem am_sFree_ok {g : Nat → Nat} {a q : Nat} (h1 : 1 ≤ q) (h2 : a + q ≤ 64) : am_sFree g (nI a) (nI q) = am_put g (am_fl g a (a + q) 0) (nI (am_us g a (a + q))) := by
  unfold am_sFree
  rw [if_pos (am_okp_i h1 h2), nI_clamp (by omega), nI_clamp (by omega)]
theorem am_sProt_bad {g : Nat → Nat} {x y z : Int32} (h : ¬ (am_okp x y ∧ am_okr z)) : am_sProt g x y z = (-1, g) := if_neg h
theorem am_sProt_no {g : Nat → Nat} {a q w : Nat} (h1 : 1 ≤ q) (h2 : a + q ≤ 64) (hw : w ≤ 7) (h : am_us g a (a + q) < q) : am_sProt g (nI a) (nI q) (nI w) = (-3, g) := by
  unfold am_sProt
  rw [if_pos ⟨am_okp_i h1 h2, am_okr_i hw⟩, nI_clamp (by omega), nI_clamp (by omega), nI_clamp (by omega), if_pos h]
theorem am_sProt_ok {g : Nat → Nat} {a q w : Nat} (h1 : 1 ≤ q) (h2 : a + q ≤ 64) (hw : w ≤ 7) (h : q ≤ am_us g a (a + q)) : am_sProt g (nI a) (nI q) (nI w) = am_put g (am_pr g a (a + q) w) (nI (am_ch g a (a + q) w)) := by
  unfold am_sProt
  rw [if_pos ⟨am_okp_i h1 h2, am_okr_i hw⟩, nI_clamp (by omega), nI_clamp (by omega), nI_clamp (by omega), if_neg (by omega)]
theorem am_fst_sound {q : Nat → Bool} {p : Nat} : ∀ k h, am_fst q k h = some p → q p = true := by
  intro k
  induction k with
  | zero => intro h h1; cases h1
  | succ k ih =>
    intro h h1
    have h1 : (if q h = true then some h else am_fst q k (h + 1)) = some p := h1
    split at h1
    · cases h1
      assumption
    · exact ih _ h1
theorem am_room_le {g : Nat → Nat} {a q p : Nat} (h : am_room g a q = some p) : p + q ≤ 64 := by
  have := am_fst_sound _ _ h
  unfold am_rmq at this
  simp at this
  exact this.1
theorem am_room_big {g : Nat → Nat} {a q : Nat} (h : 64 < q) : am_room g a q = none := am_fst_none _ _ (fun j _ _ => am_rmq_far (by omega))
theorem am_room2_s {g : Nat → Nat} {a q p : Nat} (h : am_room g a q = some p) : am_room2 g a q = some p := by
  unfold am_room2
  rw [h]
theorem am_room2_n {g : Nat → Nat} {a q : Nat} (h : am_room g a q = none) : am_room2 g a q = am_room g 0 q := by
  unfold am_room2
  rw [h]
theorem am_sPlace_bad {g : Nat → Nat} {x y z : Int32} (h : ¬ (1 ≤ y.toInt ∧ am_okg x ∧ am_okk z)) : am_sPlace g x y z = (-1, g) := if_neg h
theorem am_sPlace_s {g : Nat → Nat} {a q w p : Nat} (h1 : 1 ≤ q) (h2 : q < 2 ^ 31) (ha : a ≤ 63) (hw : w ≤ 127) (h : am_room2 g a q = some p) : am_sPlace g (nI a) (nI q) (nI w) = am_put g (am_fl g p (p + q) (w + 1)) (nI p) := by
  unfold am_sPlace
  rw [if_pos ⟨by rw [nI_toInt h2]; omega, am_okg_i ha, am_okk_i hw⟩, nI_clamp (by omega), nI_clamp (by omega), nI_clamp (by omega), h]
theorem am_sPlace_n {g : Nat → Nat} {a q w : Nat} (h1 : 1 ≤ q) (h2 : q < 2 ^ 31) (ha : a ≤ 63) (hw : w ≤ 127) (h : am_room2 g a q = none) : am_sPlace g (nI a) (nI q) (nI w) = (-3, g) := by
  unfold am_sPlace
  rw [if_pos ⟨by rw [nI_toInt h2]; omega, am_okg_i ha, am_okk_i hw⟩, nI_clamp (by omega), nI_clamp (by omega), h]
theorem am_rel_t {n : Nat} {F T K g g2 : Nat → Nat} (h : am_Rel n F T K (if am_runs g2 ≤ 20 then g2 else g)) (q : am_runs g2 ≤ 20) : am_Rel n F T K g2 := by
  rw [if_pos q] at h
  exact h
theorem am_rel_f {n : Nat} {F T K g g2 : Nat → Nat} (h : am_Rel n F T K (if am_runs g2 ≤ 20 then g2 else g)) (q : ¬ am_runs g2 ≤ 20) : am_Rel n F T K g := by
  rw [if_neg q] at h
  exact h
theorem am_nm1 {w : Nat} (h : w ≤ 127) : ¬ nI w = -1 := by
  intro z
  have := nI_toInt (n := w) (by omega)
  rw [z] at this
  have e : (-1 : Int32).toInt = -1 := by decide +kernel
  omega
end
section
/-! AreaMap: its methods that write -/
set_option maxRecDepth 100000
set_option maxHeartbeats 4000000 in
set_option maxRecDepth 100000 in
theorem mt_X0_emit (l : Launch) (D : va_G) (ad : Nat → Nat) (dB : ClassId) (n : Nat) (F T K : Nat → Nat) (mk : Nat) (NF NT NK : Nat → Nat) (a b w : Nat) (ha : a ≤ 127) (hb7 : b ≤ 127) (hw : w ≤ 127) (hmk : mk < 48) (hq : am_bd mk NF NT NK) : am_MV l yX0_emit cX0_emit 5 none 0 [.ref (ad 0), .int (nI a), .int (nI b), .int (nI w)] D (am_Xu ad dB) [(dB, .byte)] (n, F, T, K, mk, NF, NT, NK) (fun (u : am_SX) => (n, F, T, K, am_em mk NF NT NK a b w) = u) := by
  refine am_MV.intro RX0 rfl (by decide) (Nat.le_of_ble_eq_true rfl) ?_
  intro p e s m args below meth c A X hA hK hP hD ls hl
  have hP : va_P D am_cl (am_X ad dB n F T K mk NF NT NK) s.heap := hP
  have hD : va_D A (am_X ad dB n F T K mk NF NT NK) := hD
  have hx := X.1
  have hb := X.2.1
  have hS : va_S A s.heap s.heap [] := va_S.rf
  have hl : lv_has ls 5 [(0, .ref (ad 0)), (1, .int (nI a)), (2, .int (nI b)), (3, .int (nI w))] := hl
  refine lv_iload_n hx hb dX0_emit_0 rfl (lv_at hl 1 rfl) ?_
  refine lv_iload_n hx hb dX0_emit_1 rfl (lv_at hl 2 rfl) ?_
  refine am_icmp_lt (tgt := 6) hx hb (by omega) (by omega) dX0_emit_2 (by decide) (fun c2 => ?_) (fun c2 => ?_)
  · have push : ¬ (0 < mk ∧ NT (mk - 1) = a ∧ NK (mk - 1) = w) → ∀ ls : Array Slot, lv_has ls 5 [(0, .ref (ad 0)), (1, .int (nI a)), (2, .int (nI b)), (3, .int (nI w))] → W p l e (am_rm 0) s m args below meth c s.heap [] 0 0 (am_QV below D (am_Xu ad dB) [(dB, .byte)] (fun (u : am_SX) => (n, F, T, K, am_em mk NF NT NK a b w) = u) args s A) (F0 m 47 ls []) := by
      intro hj ls hl
      refine lv_iconst (v := nI 0) hx hb dX0_emit_47 (by decide +kernel) ?_
      refine lv_istore (lv' := [(4, .int (nI 0)), (0, .ref (ad 0)), (1, .int (nI a)), (2, .int (nI b)), (3, .int (nI w))]) hx hb dX0_emit_48 hl (by decide) rfl (fun ls hl => ?_)
      refine lv_iload hx hb dX0_emit_50 (lv_at hl 0 rfl) ?_
      refine am_if_eq (tgt := 71) hx hb (by omega) dX0_emit_52 (by decide) (fun c52 => ?_) (fun c52 => ?_)
      · refine lv_aload_n hx hb dX0_emit_71 rfl (lv_at hl 1 rfl) ?_
        refine am_gX_19 X hK hP dX0_emit_72 ?_
        refine lv_aload_n hx hb dX0_emit_75 rfl (lv_at hl 1 rfl) ?_
        refine am_gX_28 X hK hP dX0_emit_76 ?_
        refine lv_iload_n hx hb dX0_emit_79 rfl (lv_at hl 2 rfl) ?_
        refine am_i2b hx hb (by omega) dX0_emit_80 ?_
        refine am_sX_4 X hK hP hD hS (by omega) (by omega) dX0_emit_81 (fun H locs hP hD hS => ?_)
        refine lv_aload_n hx hb dX0_emit_82 rfl (lv_at hl 1 rfl) ?_
        refine am_gX_22 X hK hP dX0_emit_83 ?_
        refine lv_aload_n hx hb dX0_emit_86 rfl (lv_at hl 1 rfl) ?_
        refine am_gX_28 X hK hP dX0_emit_87 ?_
        refine lv_iload_n hx hb dX0_emit_90 rfl (lv_at hl 3 rfl) ?_
        refine am_i2b hx hb (by omega) dX0_emit_91 ?_
        refine am_sX_5 X hK hP hD hS (by omega) (by omega) dX0_emit_92 (fun H locs hP hD hS => ?_)
        refine lv_aload_n hx hb dX0_emit_93 rfl (lv_at hl 1 rfl) ?_
        refine am_gX_25 X hK hP dX0_emit_94 ?_
        refine lv_aload_n hx hb dX0_emit_97 rfl (lv_at hl 1 rfl) ?_
        refine am_gX_28 X hK hP dX0_emit_98 ?_
        refine lv_iload_n hx hb dX0_emit_101 rfl (lv_at hl 4 rfl) ?_
        refine am_i2b hx hb (by omega) dX0_emit_102 ?_
        refine am_sX_6 X hK hP hD hS (by omega) (by omega) dX0_emit_103 (fun H locs hP hD hS => ?_)
        refine lv_aload_n hx hb dX0_emit_104 rfl (lv_at hl 1 rfl) ?_
        refine lv_dup hx hb dX0_emit_105 rfl ?_
        refine am_gX_28 X hK hP dX0_emit_106 ?_
        refine lv_iconst (v := nI 1) hx hb dX0_emit_109 (by decide +kernel) ?_
        refine am_iadd hx hb dX0_emit_110 ?_
        refine am_pX_28 X hK hP hD hS dX0_emit_111 (fun H locs hP hD hS => ?_)
        exact am_mvret (n, F, T, K, mk + 1, va_up NF mk a, va_up NT mk b, va_up NK mk w) X hK hP hD hS dX0_emit_114 (by unfold am_em; rw [if_neg (by omega), if_neg hj])
      · exact absurd c52 (by decide)
    refine lv_aload_n hx hb dX0_emit_6 rfl (lv_at hl 0 rfl) ?_
    refine am_gX_28 X hK hP dX0_emit_7 ?_
    refine am_if_le (tgt := 47) hx hb (by omega) dX0_emit_10 (by decide) (fun c10 => ?_) (fun c10 => ?_)
    · exact push (fun z => by omega) ls (lv_sub hl [0, 1, 2, 3] rfl)
    · have hq1 := hq (mk - 1) (by omega)
      refine lv_aload_n hx hb dX0_emit_13 rfl (lv_at hl 0 rfl) ?_
      refine am_gX_22 X hK hP dX0_emit_14 ?_
      refine lv_aload_n hx hb dX0_emit_17 rfl (lv_at hl 0 rfl) ?_
      refine am_gX_28 X hK hP dX0_emit_18 ?_
      refine lv_iconst (v := nI 1) hx hb dX0_emit_21 (by decide +kernel) ?_
      refine am_isub hx hb (by omega) dX0_emit_22 ?_
      refine am_lX_5 X hK hP (by omega) dX0_emit_23 ?_
      refine lv_iload_n hx hb dX0_emit_24 rfl (lv_at hl 1 rfl) ?_
      refine am_icmp_ne (tgt := 47) hx hb (by omega) (by omega) dX0_emit_25 (by decide) (fun c25 => ?_) (fun c25 => ?_)
      · exact push (fun z => c25 z.2.1) ls (lv_sub hl [0, 1, 2, 3] rfl)
      · refine lv_aload_n hx hb dX0_emit_28 rfl (lv_at hl 0 rfl) ?_
        refine am_gX_25 X hK hP dX0_emit_29 ?_
        refine lv_aload_n hx hb dX0_emit_32 rfl (lv_at hl 0 rfl) ?_
        refine am_gX_28 X hK hP dX0_emit_33 ?_
        refine lv_iconst (v := nI 1) hx hb dX0_emit_36 (by decide +kernel) ?_
        refine am_isub hx hb (by omega) dX0_emit_37 ?_
        refine am_lX_6 X hK hP (by omega) dX0_emit_38 ?_
        refine lv_iload_n hx hb dX0_emit_39 rfl (lv_at hl 3 rfl) ?_
        refine am_icmp_ne (tgt := 47) hx hb (by omega) (by omega) dX0_emit_40 (by decide) (fun c40 => ?_) (fun c40 => ?_)
        · exact push (fun z => c40 z.2.2) ls (lv_sub hl [0, 1, 2, 3] rfl)
        · refine lv_iconst (v := nI 1) hx hb dX0_emit_43 (by decide +kernel) ?_
          refine lv_goto (tgt := 48) hx hb dX0_emit_44 (by decide) ?_
          refine lv_istore (lv' := [(4, .int (nI 1)), (0, .ref (ad 0)), (1, .int (nI a)), (2, .int (nI b)), (3, .int (nI w))]) hx hb dX0_emit_48 hl (by decide) rfl (fun ls hl => ?_)
          refine lv_iload hx hb dX0_emit_50 (lv_at hl 0 rfl) ?_
          refine am_if_eq (tgt := 71) hx hb (by omega) dX0_emit_52 (by decide) (fun c52 => ?_) (fun c52 => ?_)
          · exact absurd c52 (by decide)
          · refine lv_aload_n hx hb dX0_emit_55 rfl (lv_at hl 1 rfl) ?_
            refine am_gX_22 X hK hP dX0_emit_56 ?_
            refine lv_aload_n hx hb dX0_emit_59 rfl (lv_at hl 1 rfl) ?_
            refine am_gX_28 X hK hP dX0_emit_60 ?_
            refine lv_iconst (v := nI 1) hx hb dX0_emit_63 (by decide +kernel) ?_
            refine am_isub hx hb (by omega) dX0_emit_64 ?_
            refine lv_iload_n hx hb dX0_emit_65 rfl (lv_at hl 3 rfl) ?_
            refine am_i2b hx hb (by omega) dX0_emit_66 ?_
            refine am_sX_5 X hK hP hD hS (by omega) (by omega) dX0_emit_67 (fun H locs hP hD hS => ?_)
            refine lv_goto (tgt := 114) hx hb dX0_emit_68 (by decide) ?_
            exact am_mvret (n, F, T, K, mk, NF, va_up NT (mk - 1) b, NK) X hK hP hD hS dX0_emit_114 (by unfold am_em; rw [if_neg (by omega), if_pos ⟨c10, c25, c40⟩])
  · exact am_mvret (n, F, T, K, mk, NF, NT, NK) X hK hP hD hS dX0_emit_5 (by unfold am_em; rw [if_pos c2])
set_option maxHeartbeats 4000000 in
set_option maxRecDepth 100000 in
theorem mt_X0_commit (l : Launch) (D : va_G) (ad : Nat → Nat) (dB : ClassId) (n : Nat) (F T K : Nat → Nat) (mk : Nat) (NF NT NK : Nat → Nat) (hmk : mk < 48) (hq : am_bd mk NF NT NK) : am_MU l yX0_commit cX0_commit 2 (some .boolean) 0 [.ref (ad 0)] D (am_Xu ad dB) [(dB, .byte)] (n, F, T, K, mk, NF, NT, NK) (fun r (u : am_SX) => am_cm mk NF NT NK n F T K r u) := by
  refine am_MU.intro RX0 rfl (by decide) (Nat.le_of_ble_eq_true rfl) ?_
  intro p e s m args below meth c A X hA hK hP hD ls hl
  have hP : va_P D am_cl (am_X ad dB n F T K mk NF NT NK) s.heap := hP
  have hD : va_D A (am_X ad dB n F T K mk NF NT NK) := hD
  have hx := X.1
  have hb := X.2.1
  have hS : va_S A s.heap s.heap [] := va_S.rf
  have hl : lv_has ls 2 [(0, .ref (ad 0))] := hl
  have loop : ∀ (N : Nat) (i : Nat), (i ≤ mk) → (mk ≤ 20) → (mk < i + N) → ∀ (H : Heap) (locs : List Loc), va_P D am_cl (am_X ad dB mk (am_cp NF F i) (am_cp NT T i) (am_cp NK K i) mk NF NT NK) H → va_D A (am_X ad dB mk (am_cp NF F i) (am_cp NT T i) (am_cp NK K i) mk NF NT NK) → va_S A s.heap H locs → ∀ ls : Array Slot, lv_has ls 2 [(0, .ref (ad 0)), (1, .int (nI i))] → W p l e (am_rm 0) s m args below meth c H locs 0 0 (am_QM below D (am_Xu ad dB) [(dB, .byte)] (fun r (u : am_SX) => am_cm mk NF NT NK n F T K r u) args s A) (F0 m 21 ls []) := by
    intro N
    induction N with
    | zero =>
      intro i hi h20 hN
      exfalso
      omega
    | succ N ih =>
      intro i hi h20 hN H locs hP hD hS ls hl
      refine lv_iload_n hx hb dX0_commit_21 rfl (lv_at hl 1 rfl) ?_
      refine lv_aload_n hx hb dX0_commit_22 rfl (lv_at hl 0 rfl) ?_
      refine am_gX_28 X hK hP dX0_commit_23 ?_
      refine am_icmp_ge (tgt := 71) hx hb (by omega) (by omega) dX0_commit_26 (by decide) (fun c26 => ?_) (fun c26 => ?_)
      · have e9 : mk = i := by omega
        subst e9
        refine lv_iconst (v := nI 1) hx hb dX0_commit_71 (by decide +kernel) ?_
        exact am_mzret (mk, am_cp NF F mk, am_cp NT T mk, am_cp NK K mk, mk, NF, NT, NK) X hK hP hD hS dX0_commit_72 (Or.inr (by decide +kernel)) (Or.inr ⟨rfl, h20, rfl⟩)
      · have hq1 := hq i c26
        refine lv_aload_n hx hb dX0_commit_29 rfl (lv_at hl 0 rfl) ?_
        refine am_gX_7 X hK hP dX0_commit_30 ?_
        refine lv_iload_n hx hb dX0_commit_33 rfl (lv_at hl 1 rfl) ?_
        refine lv_aload_n hx hb dX0_commit_34 rfl (lv_at hl 0 rfl) ?_
        refine am_gX_19 X hK hP dX0_commit_35 ?_
        refine lv_iload_n hx hb dX0_commit_38 rfl (lv_at hl 1 rfl) ?_
        refine am_lX_4 X hK hP (by omega) dX0_commit_39 ?_
        refine am_sX_1 X hK hP hD hS (by omega) (by omega) dX0_commit_40 (fun H locs hP hD hS => ?_)
        refine lv_aload_n hx hb dX0_commit_41 rfl (lv_at hl 0 rfl) ?_
        refine am_gX_13 X hK hP dX0_commit_42 ?_
        refine lv_iload_n hx hb dX0_commit_45 rfl (lv_at hl 1 rfl) ?_
        refine lv_aload_n hx hb dX0_commit_46 rfl (lv_at hl 0 rfl) ?_
        refine am_gX_22 X hK hP dX0_commit_47 ?_
        refine lv_iload_n hx hb dX0_commit_50 rfl (lv_at hl 1 rfl) ?_
        refine am_lX_5 X hK hP (by omega) dX0_commit_51 ?_
        refine am_sX_2 X hK hP hD hS (by omega) (by omega) dX0_commit_52 (fun H locs hP hD hS => ?_)
        refine lv_aload_n hx hb dX0_commit_53 rfl (lv_at hl 0 rfl) ?_
        refine am_gX_16 X hK hP dX0_commit_54 ?_
        refine lv_iload_n hx hb dX0_commit_57 rfl (lv_at hl 1 rfl) ?_
        refine lv_aload_n hx hb dX0_commit_58 rfl (lv_at hl 0 rfl) ?_
        refine am_gX_25 X hK hP dX0_commit_59 ?_
        refine lv_iload_n hx hb dX0_commit_62 rfl (lv_at hl 1 rfl) ?_
        refine am_lX_6 X hK hP (by omega) dX0_commit_63 ?_
        refine am_sX_3 X hK hP hD hS (by omega) (by omega) dX0_commit_64 (fun H locs hP hD hS => ?_)
        refine lv_iinc (v := nI (i + 1)) (lv' := [(1, .int (nI (i + 1))), (0, .ref (ad 0))]) hx hb dX0_commit_65 hl (k := 1) rfl (nI_1 _) (by decide) rfl (fun ls hl => ?_)
        refine lv_goto (tgt := 21) hx hb dX0_commit_68 (by decide) ?_
        rw [am_cp_s, am_cp_s, am_cp_s] at hP hD
        exact ih (i + 1) (by omega) h20 (by omega) _ _ hP hD hS ls (lv_sub hl [1, 0] rfl)
  refine lv_aload_n hx hb dX0_commit_0 rfl (lv_at hl 0 rfl) ?_
  refine am_gX_28 X hK hP dX0_commit_1 ?_
  refine lv_bipush (v := nI 20) hx hb dX0_commit_4 (by decide +kernel) ?_
  refine am_icmp_le (tgt := 11) hx hb (by omega) (by omega) dX0_commit_6 (by decide) (fun c6 => ?_) (fun c6 => ?_)
  · refine lv_aload_n hx hb dX0_commit_11 rfl (lv_at hl 0 rfl) ?_
    refine lv_aload_n hx hb dX0_commit_12 rfl (lv_at hl 0 rfl) ?_
    refine am_gX_28 X hK hP dX0_commit_13 ?_
    refine am_pX_32 X hK hP hD hS dX0_commit_16 (fun H locs hP hD hS => ?_)
    refine lv_iconst (v := nI 0) hx hb dX0_commit_19 (by decide +kernel) ?_
    refine lv_istore_n (lv' := [(1, .int (nI 0)), (0, .ref (ad 0))]) hx hb dX0_commit_20 rfl hl (by decide) rfl (fun ls hl => ?_)
    rw [← am_cp_0 NF F, ← am_cp_0 NT T, ← am_cp_0 NK K] at hP hD
    exact loop (mk + 1) 0 (Nat.zero_le _) c6 (by omega) _ _ hP hD hS ls (lv_sub hl [1, 0] rfl)
  · refine lv_iconst (v := nI 0) hx hb dX0_commit_9 (by decide +kernel) ?_
    exact am_mzret (n, F, T, K, mk, NF, NT, NK) X hK hP hD hS dX0_commit_10 (Or.inl nI_0) (Or.inl ⟨rfl, c6, rfl⟩)
set_option maxHeartbeats 4000000 in
set_option maxRecDepth 100000 in
theorem mt_X0_rewrite (l : Launch) (D : va_G) (ad : Nat → Nat) (dB : ClassId) (n : Nat) (F T K : Nat → Nat) (mk : Nat) (NF NT NK : Nat → Nat) {g : Nat → Nat} (hR : am_Rel n F T K g) (a b v : Nat) (hab : a < b) (hb64 : b ≤ 64) (z : Int32) (hz : (z = -1 ∧ v = 0) ∨ ∃ w, w ≤ 127 ∧ z = nI w ∧ v = w + 1) : am_MU l yX0_rewrite cX0_rewrite 8 (some .boolean) 1 [.ref (ad 0), .int (nI a), .int (nI b), .int z] D (am_Xu ad dB) [(dB, .byte)] (n, F, T, K, mk, NF, NT, NK) (fun r (u : am_SX) => am_bp (am_runs (am_fl g a b v) ≤ 20) r ∧ am_Rel u.1 u.2.1 u.2.2.1 u.2.2.2.1 (if am_runs (am_fl g a b v) ≤ 20 then am_fl g a b v else g)) := by
  have hn := hR.1
  refine am_MU.intro RX0 rfl (by decide) (Nat.le_of_ble_eq_true rfl) ?_
  intro p e s m args below meth c A X hA hK hP hD ls hl
  have hP : va_P D am_cl (am_X ad dB n F T K mk NF NT NK) s.heap := hP
  have hD : va_D A (am_X ad dB n F T K mk NF NT NK) := hD
  have hx := X.1
  have hb := X.2.1
  have hS : va_S A s.heap s.heap [] := va_S.rf
  have hl : lv_has ls 8 [(0, .ref (ad 0)), (1, .int (nI a)), (2, .int (nI b)), (3, .int z)] := hl
  have loop : ∀ (N : Nat) (i : Nat) (pt : Nat) (m1 : Nat) (NF1 : Nat → Nat) (NT1 : Nat → Nat) (NK1 : Nat → Nat), (i ≤ n) → (n < i + N) → ((pt = 1 ∧ (v = 0 ∨ a < am_hi T i)) ∨ (pt = 0 ∧ v ≠ 0 ∧ am_hi T i ≤ a)) → (m1 ≤ 2 * i + 1 ∧ (am_hi T i ≤ a → m1 ≤ 2 * i)) → (am_bd m1 NF1 NT1 NK1) → (am_Seg m1 NF1 NT1 NK1 (am_fl g a b v) (am_rwE T a b i)) → ∀ (H : Heap) (locs : List Loc), va_P D am_cl (am_X ad dB n F T K m1 NF1 NT1 NK1) H → va_D A (am_X ad dB n F T K m1 NF1 NT1 NK1) → va_S A s.heap H locs → ∀ ls : Array Slot, lv_has ls 8 [(0, .ref (ad 0)), (1, .int (nI a)), (2, .int (nI b)), (3, .int z), (4, .int (nI pt)), (5, .int (nI i))] → W p l e (am_rm 1) s m args below meth c H locs 0 0 (am_QM below D (am_Xu ad dB) [(dB, .byte)] (fun r (u : am_SX) => am_bp (am_runs (am_fl g a b v) ≤ 20) r ∧ am_Rel u.1 u.2.1 u.2.2.1 u.2.2.2.1 (if am_runs (am_fl g a b v) ≤ 20 then am_fl g a b v else g)) args s A) (F0 m 20 ls []) := by
    intro N
    induction N with
    | zero =>
      intro i pt m1 NF1 NT1 NK1 hi hN hpt hm hq1 hS1
      exfalso
      omega
    | succ N ih =>
      intro i pt m1 NF1 NT1 NK1 hi hN hpt hm hq1 hS1 H locs hP hD hS ls hl
      refine lv_iload hx hb dX0_rewrite_20 (lv_at hl 5 rfl) ?_
      refine lv_aload_n hx hb dX0_rewrite_22 rfl (lv_at hl 0 rfl) ?_
      refine am_gX_32 X hK hP dX0_rewrite_23 ?_
      refine am_icmp_ge (tgt := 127) hx hb (by omega) (by omega) dX0_rewrite_26 (by decide) (fun c26 => ?_) (fun c26 => ?_)
      · have e9 : n = i := by omega
        subst e9
        have hh := hR.2.2.1
        refine lv_iload hx hb dX0_rewrite_127 (lv_at hl 4 rfl) ?_
        refine am_if_ne (tgt := 139) hx hb (by omega) dX0_rewrite_129 (by decide) (fun c129 => ?_) (fun c129 => ?_)
        · have hS5 := am_rw_e0 hR.2 hab hb64 (by omega) hS1
          refine lv_aload_n hx hb dX0_rewrite_139 rfl (lv_at hl 0 rfl) ?_
          refine am_mcallV0 (mt_X0_commit l D ad dB n F T K m1 NF1 NT1 NK1 (by omega) hq1) lk_X0_46 X hl.1 hK rfl rfl rfl hP hD hS hA ⟨by decide, by decide⟩ ⟨Nat.zero_le _, Nat.zero_le _⟩ (by decide) dX0_rewrite_140 rfl (fun r u H locs hp hP hD hS => ?_)
          have hp := am_cm_rel hp hR hS5
          exact am_mzret u X hK hP hD hS dX0_rewrite_143 (hp.1.z) hp
        · obtain ⟨w, hw, rfl, rfl⟩ : ∃ w, w ≤ 127 ∧ z = nI w ∧ v = w + 1 := by
            rcases hz with hz | hz
            · omega
            · exact hz
          clear hz
          refine lv_aload_n hx hb dX0_rewrite_132 rfl (lv_at hl 0 rfl) ?_
          refine lv_iload_n hx hb dX0_rewrite_133 rfl (lv_at hl 1 rfl) ?_
          refine lv_iload_n hx hb dX0_rewrite_134 rfl (lv_at hl 2 rfl) ?_
          refine lv_iload_n hx hb dX0_rewrite_135 rfl (lv_at hl 3 rfl) ?_
          refine am_mcallVv0 (mt_X0_emit l D ad dB n F T K m1 NF1 NT1 NK1 a b w (by omega) (by omega) (by omega) (by omega) hq1) lk_X0_39 X hl.1 hK rfl rfl rfl hP hD hS hA ⟨by decide, by decide⟩ ⟨Nat.zero_le _, Nat.zero_le _⟩ (by decide) dX0_rewrite_136 rfl (fun u H locs hp hP hD hS => ?_)
          subst hp
          generalize hu5 : am_em m1 NF1 NT1 NK1 a b w = u at hP hD
          obtain ⟨m5, NF5, NT5, NK5⟩ := u
          have hu5 := hu5.symm
          have hP : va_P D am_cl (am_X ad dB n F T K m5 NF5 NT5 NK5) H := hP
          have hD : va_D A (am_X ad dB n F T K m5 NF5 NT5 NK5) := hD
          have hq5 := am_em_bd hu5 hq1 (by omega) (by omega) (by omega)
          have hc5 := am_em_ct hu5
          have hS5 := am_rw_e1 hR.2 hab hb64 hw (by omega) hS1 hu5
          refine lv_aload_n hx hb dX0_rewrite_139 rfl (lv_at hl 0 rfl) ?_
          refine am_mcallV0 (mt_X0_commit l D ad dB n F T K m5 NF5 NT5 NK5 (by omega) hq5) lk_X0_46 X hl.1 hK rfl rfl rfl hP hD hS hA ⟨by decide, by decide⟩ ⟨Nat.zero_le _, Nat.zero_le _⟩ (by decide) dX0_rewrite_140 rfl (fun r u H locs hp hP hD hS => ?_)
          have hp := am_cm_rel hp hR hS5
          exact am_mzret u X hK hP hD hS dX0_rewrite_143 (hp.1.z) hp
      · obtain ⟨h1, h2, h3, h4, h5, h6, h7⟩ := hR.2.1 i c26
        refine lv_aload_n hx hb dX0_rewrite_29 rfl (lv_at hl 0 rfl) ?_
        refine am_gX_13 X hK hP dX0_rewrite_30 ?_
        refine lv_iload hx hb dX0_rewrite_33 (lv_at hl 5 rfl) ?_
        refine am_lX_2 X hK hP (by omega) dX0_rewrite_35 ?_
        refine lv_iload_n hx hb dX0_rewrite_36 rfl (lv_at hl 1 rfl) ?_
        refine am_callS (mt_X0_least l (nI (T i)) (nI a)) lk_X0_35 X hl.1 hP hS ⟨by decide, by decide⟩ ⟨Nat.zero_le _, Nat.zero_le _⟩ (by decide) dX0_rewrite_37 rfl (fun r H locs hp hP hS => ?_)
        subst hp
        refine am_top (y := nI (min (T i) a)) (am_min (by omega) (by omega)) ?_
        refine lv_istore (lv' := [(6, .int (nI (min (T i) a))), (0, .ref (ad 0)), (1, .int (nI a)), (2, .int (nI b)), (3, .int z), (4, .int (nI pt)), (5, .int (nI i))]) hx hb dX0_rewrite_40 hl (by decide) rfl (fun ls hl => ?_)
        refine lv_aload_n hx hb dX0_rewrite_42 rfl (lv_at hl 1 rfl) ?_
        refine lv_aload_n hx hb dX0_rewrite_43 rfl (lv_at hl 1 rfl) ?_
        refine am_gX_7 X hK hP dX0_rewrite_44 ?_
        refine lv_iload hx hb dX0_rewrite_47 (lv_at hl 6 rfl) ?_
        refine am_lX_1 X hK hP (by omega) dX0_rewrite_49 ?_
        refine lv_iload hx hb dX0_rewrite_50 (lv_at hl 0 rfl) ?_
        refine lv_aload_n hx hb dX0_rewrite_52 rfl (lv_at hl 1 rfl) ?_
        refine am_gX_16 X hK hP dX0_rewrite_53 ?_
        refine lv_iload hx hb dX0_rewrite_56 (lv_at hl 6 rfl) ?_
        refine am_lX_3 X hK hP (by omega) dX0_rewrite_58 ?_
        refine am_mcallVv0 (mt_X0_emit l D ad dB n F T K m1 NF1 NT1 NK1 (F i) (min (T i) a) (K i) (by omega) (by omega) (by omega) (by omega) hq1) lk_X0_39 X hl.1 hK rfl rfl rfl hP hD hS hA ⟨by decide, by decide⟩ ⟨Nat.zero_le _, Nat.zero_le _⟩ (by decide) dX0_rewrite_59 rfl (fun u H locs hp hP hD hS => ?_)
        subst hp
        generalize hu2 : am_em m1 NF1 NT1 NK1 (F i) (min (T i) a) (K i) = u at hP hD
        obtain ⟨m2, NF2, NT2, NK2⟩ := u
        have hu2 := hu2.symm
        have hP : va_P D am_cl (am_X ad dB n F T K m2 NF2 NT2 NK2) H := hP
        have hD : va_D A (am_X ad dB n F T K m2 NF2 NT2 NK2) := hD
        have hq2 := am_em_bd hu2 hq1 (by omega) (by omega) (by omega)
        have hc2 := am_em_ct hu2
        have hS2 := am_rw_a hR.2 c26 hab hS1 hu2
        refine lv_iload hx hb dX0_rewrite_62 (lv_at hl 5 rfl) ?_
        refine am_if_ne (tgt := 88) hx hb (by omega) dX0_rewrite_64 (by decide) (fun c64 => ?_) (fun c64 => ?_)
        · have hS3 := am_rw_b0 hR.2 c26 hab (by omega) hS2
          refine lv_aload_n hx hb dX0_rewrite_88 rfl (lv_at hl 1 rfl) ?_
          refine am_gX_7 X hK hP dX0_rewrite_89 ?_
          refine lv_iload hx hb dX0_rewrite_92 (lv_at hl 6 rfl) ?_
          refine am_lX_1 X hK hP (by omega) dX0_rewrite_94 ?_
          refine lv_iload_n hx hb dX0_rewrite_95 rfl (lv_at hl 3 rfl) ?_
          refine am_callS (mt_X0_greatest l (nI (F i)) (nI b)) lk_X0_43 X hl.1 hP hS ⟨by decide, by decide⟩ ⟨Nat.zero_le _, Nat.zero_le _⟩ (by decide) dX0_rewrite_96 rfl (fun r H locs hp hP hS => ?_)
          subst hp
          refine am_top (y := nI (max (F i) b)) (am_max (by omega) (by omega)) ?_
          refine lv_istore (lv' := [(7, .int (nI (max (F i) b))), (6, .int (nI (min (T i) a))), (0, .ref (ad 0)), (1, .int (nI a)), (2, .int (nI b)), (3, .int z), (4, .int (nI pt)), (5, .int (nI i))]) hx hb dX0_rewrite_99 hl (by decide) rfl (fun ls hl => ?_)
          refine lv_aload_n hx hb dX0_rewrite_101 rfl (lv_at hl 2 rfl) ?_
          refine lv_iload hx hb dX0_rewrite_102 (lv_at hl 0 rfl) ?_
          refine lv_aload_n hx hb dX0_rewrite_104 rfl (lv_at hl 2 rfl) ?_
          refine am_gX_13 X hK hP dX0_rewrite_105 ?_
          refine lv_iload hx hb dX0_rewrite_108 (lv_at hl 7 rfl) ?_
          refine am_lX_2 X hK hP (by omega) dX0_rewrite_110 ?_
          refine lv_aload_n hx hb dX0_rewrite_111 rfl (lv_at hl 2 rfl) ?_
          refine am_gX_16 X hK hP dX0_rewrite_112 ?_
          refine lv_iload hx hb dX0_rewrite_115 (lv_at hl 7 rfl) ?_
          refine am_lX_3 X hK hP (by omega) dX0_rewrite_117 ?_
          refine am_mcallVv0 (mt_X0_emit l D ad dB n F T K m2 NF2 NT2 NK2 (max (F i) b) (T i) (K i) (by omega) (by omega) (by omega) (by omega) hq2) lk_X0_39 X hl.1 hK rfl rfl rfl hP hD hS hA ⟨by decide, by decide⟩ ⟨Nat.zero_le _, Nat.zero_le _⟩ (by decide) dX0_rewrite_118 rfl (fun u H locs hp hP hD hS => ?_)
          subst hp
          generalize hu4 : am_em m2 NF2 NT2 NK2 (max (F i) b) (T i) (K i) = u at hP hD
          obtain ⟨m4, NF4, NT4, NK4⟩ := u
          have hu4 := hu4.symm
          have hP : va_P D am_cl (am_X ad dB n F T K m4 NF4 NT4 NK4) H := hP
          have hD : va_D A (am_X ad dB n F T K m4 NF4 NT4 NK4) := hD
          have hq4 := am_em_bd hu4 hq2 (by omega) (by omega) (by omega)
          have hc4 := am_em_ct hu4
          refine lv_iinc (v := nI (i + 1)) (lv' := [(5, .int (nI (i + 1))), (7, .int (nI (max (F i) b))), (6, .int (nI (min (T i) a))), (0, .ref (ad 0)), (1, .int (nI a)), (2, .int (nI b)), (3, .int z), (4, .int (nI pt))]) hx hb dX0_rewrite_121 hl (k := 7) rfl (nI_1 _) (by decide) rfl (fun ls hl => ?_)
          refine lv_goto (tgt := 20) hx hb dX0_rewrite_124 (by decide) ?_
          exact ih (i + 1) pt m4 NF4 NT4 NK4 (by omega) (by omega) (by have e1 : am_hi T (i + 1) = T i := rfl; rw [e1]; omega) (by have e1 : am_hi T (i + 1) = T i := rfl; rw [e1]; omega) hq4 (am_rw_c hR.2 c26 hab hS3 hu4) _ _ hP hD hS ls (lv_sub hl [3, 4, 5, 6, 7, 0] rfl)
        · obtain ⟨w, hw, rfl, rfl⟩ : ∃ w, w ≤ 127 ∧ z = nI w ∧ v = w + 1 := by
            rcases hz with hz | hz
            · omega
            · exact hz
          clear hz
          refine lv_aload_n hx hb dX0_rewrite_67 rfl (lv_at hl 1 rfl) ?_
          refine am_gX_13 X hK hP dX0_rewrite_68 ?_
          refine lv_iload hx hb dX0_rewrite_71 (lv_at hl 6 rfl) ?_
          refine am_lX_2 X hK hP (by omega) dX0_rewrite_73 ?_
          refine lv_iload_n hx hb dX0_rewrite_74 rfl (lv_at hl 2 rfl) ?_
          refine am_icmp_le (tgt := 88) hx hb (by omega) (by omega) dX0_rewrite_75 (by decide) (fun c75 => ?_) (fun c75 => ?_)
          · have hS3 := am_rw_b0 hR.2 c26 hab (by omega) hS2
            refine lv_aload_n hx hb dX0_rewrite_88 rfl (lv_at hl 1 rfl) ?_
            refine am_gX_7 X hK hP dX0_rewrite_89 ?_
            refine lv_iload hx hb dX0_rewrite_92 (lv_at hl 6 rfl) ?_
            refine am_lX_1 X hK hP (by omega) dX0_rewrite_94 ?_
            refine lv_iload_n hx hb dX0_rewrite_95 rfl (lv_at hl 3 rfl) ?_
            refine am_callS (mt_X0_greatest l (nI (F i)) (nI b)) lk_X0_43 X hl.1 hP hS ⟨by decide, by decide⟩ ⟨Nat.zero_le _, Nat.zero_le _⟩ (by decide) dX0_rewrite_96 rfl (fun r H locs hp hP hS => ?_)
            subst hp
            refine am_top (y := nI (max (F i) b)) (am_max (by omega) (by omega)) ?_
            refine lv_istore (lv' := [(7, .int (nI (max (F i) b))), (6, .int (nI (min (T i) a))), (0, .ref (ad 0)), (1, .int (nI a)), (2, .int (nI b)), (3, .int (nI w)), (4, .int (nI pt)), (5, .int (nI i))]) hx hb dX0_rewrite_99 hl (by decide) rfl (fun ls hl => ?_)
            refine lv_aload_n hx hb dX0_rewrite_101 rfl (lv_at hl 2 rfl) ?_
            refine lv_iload hx hb dX0_rewrite_102 (lv_at hl 0 rfl) ?_
            refine lv_aload_n hx hb dX0_rewrite_104 rfl (lv_at hl 2 rfl) ?_
            refine am_gX_13 X hK hP dX0_rewrite_105 ?_
            refine lv_iload hx hb dX0_rewrite_108 (lv_at hl 7 rfl) ?_
            refine am_lX_2 X hK hP (by omega) dX0_rewrite_110 ?_
            refine lv_aload_n hx hb dX0_rewrite_111 rfl (lv_at hl 2 rfl) ?_
            refine am_gX_16 X hK hP dX0_rewrite_112 ?_
            refine lv_iload hx hb dX0_rewrite_115 (lv_at hl 7 rfl) ?_
            refine am_lX_3 X hK hP (by omega) dX0_rewrite_117 ?_
            refine am_mcallVv0 (mt_X0_emit l D ad dB n F T K m2 NF2 NT2 NK2 (max (F i) b) (T i) (K i) (by omega) (by omega) (by omega) (by omega) hq2) lk_X0_39 X hl.1 hK rfl rfl rfl hP hD hS hA ⟨by decide, by decide⟩ ⟨Nat.zero_le _, Nat.zero_le _⟩ (by decide) dX0_rewrite_118 rfl (fun u H locs hp hP hD hS => ?_)
            subst hp
            generalize hu4 : am_em m2 NF2 NT2 NK2 (max (F i) b) (T i) (K i) = u at hP hD
            obtain ⟨m4, NF4, NT4, NK4⟩ := u
            have hu4 := hu4.symm
            have hP : va_P D am_cl (am_X ad dB n F T K m4 NF4 NT4 NK4) H := hP
            have hD : va_D A (am_X ad dB n F T K m4 NF4 NT4 NK4) := hD
            have hq4 := am_em_bd hu4 hq2 (by omega) (by omega) (by omega)
            have hc4 := am_em_ct hu4
            refine lv_iinc (v := nI (i + 1)) (lv' := [(5, .int (nI (i + 1))), (7, .int (nI (max (F i) b))), (6, .int (nI (min (T i) a))), (0, .ref (ad 0)), (1, .int (nI a)), (2, .int (nI b)), (3, .int (nI w)), (4, .int (nI pt))]) hx hb dX0_rewrite_121 hl (k := 7) rfl (nI_1 _) (by decide) rfl (fun ls hl => ?_)
            refine lv_goto (tgt := 20) hx hb dX0_rewrite_124 (by decide) ?_
            exact ih (i + 1) pt m4 NF4 NT4 NK4 (by omega) (by omega) (by have e1 : am_hi T (i + 1) = T i := rfl; rw [e1]; omega) (by have e1 : am_hi T (i + 1) = T i := rfl; rw [e1]; omega) hq4 (am_rw_c hR.2 c26 hab hS3 hu4) _ _ hP hD hS ls (lv_sub hl [3, 4, 5, 6, 7, 0] rfl)
          · refine lv_aload_n hx hb dX0_rewrite_78 rfl (lv_at hl 1 rfl) ?_
            refine lv_iload_n hx hb dX0_rewrite_79 rfl (lv_at hl 2 rfl) ?_
            refine lv_iload_n hx hb dX0_rewrite_80 rfl (lv_at hl 3 rfl) ?_
            refine lv_iload_n hx hb dX0_rewrite_81 rfl (lv_at hl 4 rfl) ?_
            refine am_mcallVv0 (mt_X0_emit l D ad dB n F T K m2 NF2 NT2 NK2 a b w (by omega) (by omega) (by omega) (by omega) hq2) lk_X0_39 X hl.1 hK rfl rfl rfl hP hD hS hA ⟨by decide, by decide⟩ ⟨Nat.zero_le _, Nat.zero_le _⟩ (by decide) dX0_rewrite_82 rfl (fun u H locs hp hP hD hS => ?_)
            subst hp
            generalize hu3 : am_em m2 NF2 NT2 NK2 a b w = u at hP hD
            obtain ⟨m3, NF3, NT3, NK3⟩ := u
            have hu3 := hu3.symm
            have hP : va_P D am_cl (am_X ad dB n F T K m3 NF3 NT3 NK3) H := hP
            have hD : va_D A (am_X ad dB n F T K m3 NF3 NT3 NK3) := hD
            have hq3 := am_em_bd hu3 hq2 (by omega) (by omega) (by omega)
            have hc3 := am_em_ct hu3
            have hS3 := am_rw_b1 (c := n) (F := F) (K := K) (b := b) (by omega) c75 (am_rw_b hR.2 c26 hab hw (by omega) c75 hS2 hu3)
            refine lv_iconst (v := nI 1) hx hb dX0_rewrite_85 (by decide +kernel) ?_
            refine lv_istore (lv' := [(4, .int (nI 1)), (6, .int (nI (min (T i) a))), (0, .ref (ad 0)), (1, .int (nI a)), (2, .int (nI b)), (3, .int (nI w)), (5, .int (nI i))]) hx hb dX0_rewrite_86 hl (by decide) rfl (fun ls hl => ?_)
            refine lv_aload_n hx hb dX0_rewrite_88 rfl (lv_at hl 2 rfl) ?_
            refine am_gX_7 X hK hP dX0_rewrite_89 ?_
            refine lv_iload hx hb dX0_rewrite_92 (lv_at hl 6 rfl) ?_
            refine am_lX_1 X hK hP (by omega) dX0_rewrite_94 ?_
            refine lv_iload_n hx hb dX0_rewrite_95 rfl (lv_at hl 4 rfl) ?_
            refine am_callS (mt_X0_greatest l (nI (F i)) (nI b)) lk_X0_43 X hl.1 hP hS ⟨by decide, by decide⟩ ⟨Nat.zero_le _, Nat.zero_le _⟩ (by decide) dX0_rewrite_96 rfl (fun r H locs hp hP hS => ?_)
            subst hp
            refine am_top (y := nI (max (F i) b)) (am_max (by omega) (by omega)) ?_
            refine lv_istore (lv' := [(7, .int (nI (max (F i) b))), (4, .int (nI 1)), (6, .int (nI (min (T i) a))), (0, .ref (ad 0)), (1, .int (nI a)), (2, .int (nI b)), (3, .int (nI w)), (5, .int (nI i))]) hx hb dX0_rewrite_99 hl (by decide) rfl (fun ls hl => ?_)
            refine lv_aload_n hx hb dX0_rewrite_101 rfl (lv_at hl 3 rfl) ?_
            refine lv_iload hx hb dX0_rewrite_102 (lv_at hl 0 rfl) ?_
            refine lv_aload_n hx hb dX0_rewrite_104 rfl (lv_at hl 3 rfl) ?_
            refine am_gX_13 X hK hP dX0_rewrite_105 ?_
            refine lv_iload hx hb dX0_rewrite_108 (lv_at hl 7 rfl) ?_
            refine am_lX_2 X hK hP (by omega) dX0_rewrite_110 ?_
            refine lv_aload_n hx hb dX0_rewrite_111 rfl (lv_at hl 3 rfl) ?_
            refine am_gX_16 X hK hP dX0_rewrite_112 ?_
            refine lv_iload hx hb dX0_rewrite_115 (lv_at hl 7 rfl) ?_
            refine am_lX_3 X hK hP (by omega) dX0_rewrite_117 ?_
            refine am_mcallVv0 (mt_X0_emit l D ad dB n F T K m3 NF3 NT3 NK3 (max (F i) b) (T i) (K i) (by omega) (by omega) (by omega) (by omega) hq3) lk_X0_39 X hl.1 hK rfl rfl rfl hP hD hS hA ⟨by decide, by decide⟩ ⟨Nat.zero_le _, Nat.zero_le _⟩ (by decide) dX0_rewrite_118 rfl (fun u H locs hp hP hD hS => ?_)
            subst hp
            generalize hu4 : am_em m3 NF3 NT3 NK3 (max (F i) b) (T i) (K i) = u at hP hD
            obtain ⟨m4, NF4, NT4, NK4⟩ := u
            have hu4 := hu4.symm
            have hP : va_P D am_cl (am_X ad dB n F T K m4 NF4 NT4 NK4) H := hP
            have hD : va_D A (am_X ad dB n F T K m4 NF4 NT4 NK4) := hD
            have hq4 := am_em_bd hu4 hq3 (by omega) (by omega) (by omega)
            have hc4 := am_em_ct hu4
            refine lv_iinc (v := nI (i + 1)) (lv' := [(5, .int (nI (i + 1))), (7, .int (nI (max (F i) b))), (4, .int (nI 1)), (6, .int (nI (min (T i) a))), (0, .ref (ad 0)), (1, .int (nI a)), (2, .int (nI b)), (3, .int (nI w))]) hx hb dX0_rewrite_121 hl (k := 7) rfl (nI_1 _) (by decide) rfl (fun ls hl => ?_)
            refine lv_goto (tgt := 20) hx hb dX0_rewrite_124 (by decide) ?_
            exact ih (i + 1) 1 m4 NF4 NT4 NK4 (by omega) (by omega) (by have e1 : am_hi T (i + 1) = T i := rfl; rw [e1]; omega) (by have e1 : am_hi T (i + 1) = T i := rfl; rw [e1]; omega) hq4 (am_rw_c hR.2 c26 hab hS3 hu4) _ _ hP hD hS ls (lv_sub hl [4, 5, 6, 7, 2, 0] rfl)
  refine lv_aload_n hx hb dX0_rewrite_0 rfl (lv_at hl 0 rfl) ?_
  refine lv_iconst (v := nI 0) hx hb dX0_rewrite_1 (by decide +kernel) ?_
  refine am_pX_28 X hK hP hD hS dX0_rewrite_2 (fun H locs hP hD hS => ?_)
  refine lv_iload_n hx hb dX0_rewrite_5 rfl (lv_at hl 3 rfl) ?_
  refine lv_iconst (v := (-1)) hx hb dX0_rewrite_6 (by decide +kernel) ?_
  refine lv_icmp_ne (tgt := 14) hx hb dX0_rewrite_7 (by decide) (fun c7 => ?_) (fun c7 => ?_)
  · refine lv_iconst (v := nI 0) hx hb dX0_rewrite_14 (by decide +kernel) ?_
    refine lv_istore (lv' := [(4, .int (nI 0)), (0, .ref (ad 0)), (1, .int (nI a)), (2, .int (nI b)), (3, .int z)]) hx hb dX0_rewrite_15 hl (by decide) rfl (fun ls hl => ?_)
    refine lv_iconst (v := nI 0) hx hb dX0_rewrite_17 (by decide +kernel) ?_
    refine lv_istore (lv' := [(5, .int (nI 0)), (4, .int (nI 0)), (0, .ref (ad 0)), (1, .int (nI a)), (2, .int (nI b)), (3, .int z)]) hx hb dX0_rewrite_18 hl (by decide) rfl (fun ls hl => ?_)
    exact loop (n + 1) 0 0 0 NF NT NK (Nat.zero_le _) (by omega) (by have h9 : am_hi T 0 = 0 := rfl; rcases hz with hz | ⟨w, h1, h2, h3⟩ <;> first | exact absurd hz.1 c7 | omega) ⟨by omega, fun _ => by omega⟩ (fun j hj => absurd hj (Nat.not_lt_zero j)) (by rw [am_rwE_0]; exact am_Seg.nil NF NT NK _) _ _ hP hD hS ls (lv_sub hl [2, 3, 4, 5, 1, 0] rfl)
  · refine lv_iconst (v := nI 1) hx hb dX0_rewrite_10 (by decide +kernel) ?_
    refine lv_goto (tgt := 15) hx hb dX0_rewrite_11 (by decide) ?_
    refine lv_istore (lv' := [(4, .int (nI 1)), (0, .ref (ad 0)), (1, .int (nI a)), (2, .int (nI b)), (3, .int z)]) hx hb dX0_rewrite_15 hl (by decide) rfl (fun ls hl => ?_)
    refine lv_iconst (v := nI 0) hx hb dX0_rewrite_17 (by decide +kernel) ?_
    refine lv_istore (lv' := [(5, .int (nI 0)), (4, .int (nI 1)), (0, .ref (ad 0)), (1, .int (nI a)), (2, .int (nI b)), (3, .int z)]) hx hb dX0_rewrite_18 hl (by decide) rfl (fun ls hl => ?_)
    exact loop (n + 1) 0 1 0 NF NT NK (Nat.zero_le _) (by omega) (by have h9 : am_hi T 0 = 0 := rfl; rcases hz with hz | ⟨w, h1, h2, h3⟩ <;> first | omega | exact absurd (h2.symm.trans c7) (am_nm1 h1)) ⟨by omega, fun _ => by omega⟩ (fun j hj => absurd hj (Nat.not_lt_zero j)) (by rw [am_rwE_0]; exact am_Seg.nil NF NT NK _) _ _ hP hD hS ls (lv_sub hl [2, 3, 4, 5, 1, 0] rfl)
set_option maxHeartbeats 4000000 in
set_option maxRecDepth 100000 in
theorem mt_X0_map (l : Launch) (D : va_G) (ad : Nat → Nat) (dB : ClassId) (n : Nat) (F T K : Nat → Nat) (mk : Nat) (NF NT NK : Nat → Nat) {g : Nat → Nat} (hR : am_Rel n F T K g) (x y z : Int32) : am_MU l yX0_map cX0_map 5 (some .int) 2 [.ref (ad 0), .int x, .int y, .int z] D (am_Xu ad dB) [(dB, .byte)] (n, F, T, K, mk, NF, NT, NK) (fun r (u : am_SX) => r = (am_sMap g x y z).1 ∧ am_Rel u.1 u.2.1 u.2.2.1 u.2.2.2.1 (am_sMap g x y z).2) := by
  have hn := hR.1
  refine am_MU.intro RX0 rfl (by decide) (Nat.le_of_ble_eq_true rfl) ?_
  intro p e s m args below meth c A X hA hK hP hD ls hl
  have hP : va_P D am_cl (am_X ad dB n F T K mk NF NT NK) s.heap := hP
  have hD : va_D A (am_X ad dB n F T K mk NF NT NK) := hD
  have hx := X.1
  have hb := X.2.1
  have hS : va_S A s.heap s.heap [] := va_S.rf
  have hl : lv_has ls 5 [(0, .ref (ad 0)), (1, .int x), (2, .int y), (3, .int z)] := hl
  refine lv_iload_n hx hb dX0_map_0 rfl (lv_at hl 1 rfl) ?_
  refine lv_iload_n hx hb dX0_map_1 rfl (lv_at hl 2 rfl) ?_
  refine am_callS (mt_X0_isProper l (x) (y)) lk_X0_50 X hl.1 hP hS ⟨by decide, by decide⟩ ⟨Nat.zero_le _, Nat.zero_le _⟩ (by decide) dX0_map_2 rfl (fun rp H locs hq hP hS => ?_)
  refine lv_if_eq (tgt := 15) hx hb dX0_map_5 (by decide) (fun c5 => ?_) (fun c5 => ?_)
  · refine lv_iconst (v := (-1)) hx hb dX0_map_15 (by decide +kernel) ?_
    exact am_miret (n, F, T, K, mk, NF, NT, NK) X hK hP hD hS dX0_map_16 (by rw [am_sMap_bad (fun h => hq.f c5 h.1)]; exact ⟨rfl, hR⟩)
  · have hq := hq.t c5
    obtain ⟨a, q, rfl, rfl, hq1, haq⟩ := am_okp_n hq
    refine lv_iload_n hx hb dX0_map_8 rfl (lv_at hl 3 rfl) ?_
    refine am_callS (mt_X0_isKind l (z)) lk_X0_54 X hl.1 hP hS ⟨by decide, by decide⟩ ⟨Nat.zero_le _, Nat.zero_le _⟩ (by decide) dX0_map_9 rfl (fun rk H locs hk hP hS => ?_)
    refine lv_if_ne (tgt := 17) hx hb dX0_map_12 (by decide) (fun c12 => ?_) (fun c12 => ?_)
    · have hk := hk.t c12
      obtain ⟨w, rfl, hw⟩ := am_okk_n hk
      refine lv_aload_n hx hb dX0_map_17 rfl (lv_at hl 0 rfl) ?_
      refine lv_iload_n hx hb dX0_map_18 rfl (lv_at hl 1 rfl) ?_
      refine lv_iload_n hx hb dX0_map_19 rfl (lv_at hl 1 rfl) ?_
      refine lv_iload_n hx hb dX0_map_20 rfl (lv_at hl 2 rfl) ?_
      refine am_iadd hx hb dX0_map_21 ?_
      refine am_callV (mt_X0_mappedIn l D ad dB n F T K mk NF NT NK hR a (a + q) (by omega) (by omega)) lk_X0_58 X hl.1 hP hK rfl rfl rfl hP hS ⟨by decide, by decide⟩ ⟨Nat.zero_le _, Nat.zero_le _⟩ (by decide) dX0_map_22 rfl (fun r H locs hp hP hS => ?_)
      subst hp
      refine lv_istore (lv' := [(4, .int (nI (am_us g a (a + q)))), (0, .ref (ad 0)), (1, .int (nI a)), (2, .int (nI q)), (3, .int (nI w))]) hx hb dX0_map_25 hl (by decide) rfl (fun ls hl => ?_)
      refine lv_aload_n hx hb dX0_map_27 rfl (lv_at hl 1 rfl) ?_
      refine lv_iload_n hx hb dX0_map_28 rfl (lv_at hl 2 rfl) ?_
      refine lv_iload_n hx hb dX0_map_29 rfl (lv_at hl 2 rfl) ?_
      refine lv_iload_n hx hb dX0_map_30 rfl (lv_at hl 3 rfl) ?_
      refine am_iadd hx hb dX0_map_31 ?_
      refine lv_iload_n hx hb dX0_map_32 rfl (lv_at hl 4 rfl) ?_
      refine am_mcallV0 (mt_X0_rewrite l D ad dB n F T K mk NF NT NK hR a (a + q) (w + 1) (by omega) (by omega) (nI w) (Or.inr ⟨w, hw, rfl, rfl⟩)) lk_X0_61 X hl.1 hK rfl rfl rfl hP hD hS hA ⟨by decide, by decide⟩ ⟨Nat.zero_le _, Nat.zero_le _⟩ (by decide) dX0_map_33 rfl (fun r u H locs hp hP hD hS => ?_)
      obtain ⟨hp1, hp2⟩ := hp
      obtain ⟨n2, F2, T2, K2, m2, NF2, NT2, NK2⟩ := u
      have hP : va_P D am_cl (am_X ad dB n2 F2 T2 K2 m2 NF2 NT2 NK2) H := hP
      have hD : va_D A (am_X ad dB n2 F2 T2 K2 m2 NF2 NT2 NK2) := hD
      refine lv_if_eq (tgt := 44) hx hb dX0_map_36 (by decide) (fun c36 => ?_) (fun c36 => ?_)
      · refine lv_bipush (v := (-2)) hx hb dX0_map_44 (by decide +kernel) ?_
        exact am_miret (n2, F2, T2, K2, m2, NF2, NT2, NK2) X hK hP hD hS dX0_map_46 (by rw [am_sMap_ok hq1 haq hw, am_put_f (hp1.f c36)]; exact ⟨rfl, am_rel_f hp2 (hp1.f c36)⟩)
      · refine lv_iload hx hb dX0_map_39 (lv_at hl 0 rfl) ?_
        refine lv_goto (tgt := 46) hx hb dX0_map_41 (by decide) ?_
        exact am_miret (n2, F2, T2, K2, m2, NF2, NT2, NK2) X hK hP hD hS dX0_map_46 (by rw [am_sMap_ok hq1 haq hw, am_put_t (hp1.t c36)]; exact ⟨rfl, am_rel_t hp2 (hp1.t c36)⟩)
    · refine lv_iconst (v := (-1)) hx hb dX0_map_15 (by decide +kernel) ?_
      exact am_miret (n, F, T, K, mk, NF, NT, NK) X hK hP hD hS dX0_map_16 (by rw [am_sMap_bad (fun h => hk.f c12 h.2)]; exact ⟨rfl, hR⟩)
set_option maxHeartbeats 4000000 in
set_option maxRecDepth 100000 in
theorem mt_X0_free (l : Launch) (D : va_G) (ad : Nat → Nat) (dB : ClassId) (n : Nat) (F T K : Nat → Nat) (mk : Nat) (NF NT NK : Nat → Nat) {g : Nat → Nat} (hR : am_Rel n F T K g) (x y : Int32) : am_MU l yX0_free cX0_free 4 (some .int) 2 [.ref (ad 0), .int x, .int y] D (am_Xu ad dB) [(dB, .byte)] (n, F, T, K, mk, NF, NT, NK) (fun r (u : am_SX) => r = (am_sFree g x y).1 ∧ am_Rel u.1 u.2.1 u.2.2.1 u.2.2.2.1 (am_sFree g x y).2) := by
  have hn := hR.1
  refine am_MU.intro RX0 rfl (by decide) (Nat.le_of_ble_eq_true rfl) ?_
  intro p e s m args below meth c A X hA hK hP hD ls hl
  have hP : va_P D am_cl (am_X ad dB n F T K mk NF NT NK) s.heap := hP
  have hD : va_D A (am_X ad dB n F T K mk NF NT NK) := hD
  have hx := X.1
  have hb := X.2.1
  have hS : va_S A s.heap s.heap [] := va_S.rf
  have hl : lv_has ls 4 [(0, .ref (ad 0)), (1, .int x), (2, .int y)] := hl
  refine lv_iload_n hx hb dX0_free_0 rfl (lv_at hl 1 rfl) ?_
  refine lv_iload_n hx hb dX0_free_1 rfl (lv_at hl 2 rfl) ?_
  refine am_callS (mt_X0_isProper l (x) (y)) lk_X0_50 X hl.1 hP hS ⟨by decide, by decide⟩ ⟨Nat.zero_le _, Nat.zero_le _⟩ (by decide) dX0_free_2 rfl (fun rp H locs hq hP hS => ?_)
  refine lv_if_ne (tgt := 10) hx hb dX0_free_5 (by decide) (fun c5 => ?_) (fun c5 => ?_)
  · have hq := hq.t c5
    obtain ⟨a, q, rfl, rfl, hq1, haq⟩ := am_okp_n hq
    refine lv_aload_n hx hb dX0_free_10 rfl (lv_at hl 0 rfl) ?_
    refine lv_iload_n hx hb dX0_free_11 rfl (lv_at hl 1 rfl) ?_
    refine lv_iload_n hx hb dX0_free_12 rfl (lv_at hl 1 rfl) ?_
    refine lv_iload_n hx hb dX0_free_13 rfl (lv_at hl 2 rfl) ?_
    refine am_iadd hx hb dX0_free_14 ?_
    refine am_callV (mt_X0_mappedIn l D ad dB n F T K mk NF NT NK hR a (a + q) (by omega) (by omega)) lk_X0_58 X hl.1 hP hK rfl rfl rfl hP hS ⟨by decide, by decide⟩ ⟨Nat.zero_le _, Nat.zero_le _⟩ (by decide) dX0_free_15 rfl (fun r H locs hp hP hS => ?_)
    subst hp
    refine lv_istore_n (lv' := [(3, .int (nI (am_us g a (a + q)))), (0, .ref (ad 0)), (1, .int (nI a)), (2, .int (nI q))]) hx hb dX0_free_18 rfl hl (by decide) rfl (fun ls hl => ?_)
    refine lv_aload_n hx hb dX0_free_19 rfl (lv_at hl 1 rfl) ?_
    refine lv_iload_n hx hb dX0_free_20 rfl (lv_at hl 2 rfl) ?_
    refine lv_iload_n hx hb dX0_free_21 rfl (lv_at hl 2 rfl) ?_
    refine lv_iload_n hx hb dX0_free_22 rfl (lv_at hl 3 rfl) ?_
    refine am_iadd hx hb dX0_free_23 ?_
    refine lv_iconst (v := (-1)) hx hb dX0_free_24 (by decide +kernel) ?_
    refine am_mcallV0 (mt_X0_rewrite l D ad dB n F T K mk NF NT NK hR a (a + q) (0) (by omega) (by omega) (-1) (Or.inl ⟨rfl, rfl⟩)) lk_X0_61 X hl.1 hK rfl rfl rfl hP hD hS hA ⟨by decide, by decide⟩ ⟨Nat.zero_le _, Nat.zero_le _⟩ (by decide) dX0_free_25 rfl (fun r u H locs hp hP hD hS => ?_)
    obtain ⟨hp1, hp2⟩ := hp
    obtain ⟨n2, F2, T2, K2, m2, NF2, NT2, NK2⟩ := u
    have hP : va_P D am_cl (am_X ad dB n2 F2 T2 K2 m2 NF2 NT2 NK2) H := hP
    have hD : va_D A (am_X ad dB n2 F2 T2 K2 m2 NF2 NT2 NK2) := hD
    refine lv_if_eq (tgt := 35) hx hb dX0_free_28 (by decide) (fun c28 => ?_) (fun c28 => ?_)
    · refine lv_bipush (v := (-2)) hx hb dX0_free_35 (by decide +kernel) ?_
      exact am_miret (n2, F2, T2, K2, m2, NF2, NT2, NK2) X hK hP hD hS dX0_free_37 (by rw [am_sFree_ok hq1 haq, am_put_f (hp1.f c28)]; exact ⟨rfl, am_rel_f hp2 (hp1.f c28)⟩)
    · refine lv_iload_n hx hb dX0_free_31 rfl (lv_at hl 0 rfl) ?_
      refine lv_goto (tgt := 37) hx hb dX0_free_32 (by decide) ?_
      exact am_miret (n2, F2, T2, K2, m2, NF2, NT2, NK2) X hK hP hD hS dX0_free_37 (by rw [am_sFree_ok hq1 haq, am_put_t (hp1.t c28)]; exact ⟨rfl, am_rel_t hp2 (hp1.t c28)⟩)
  · refine lv_iconst (v := (-1)) hx hb dX0_free_8 (by decide +kernel) ?_
    exact am_miret (n, F, T, K, mk, NF, NT, NK) X hK hP hD hS dX0_free_9 (by rw [am_sFree_bad (hq.f c5)]; exact ⟨rfl, hR⟩)
set_option maxHeartbeats 4000000 in
set_option maxRecDepth 100000 in
theorem mt_X0_place (l : Launch) (D : va_G) (ad : Nat → Nat) (dB : ClassId) (n : Nat) (F T K : Nat → Nat) (mk : Nat) (NF NT NK : Nat → Nat) {g : Nat → Nat} (hR : am_Rel n F T K g) (x y z : Int32) : am_MU l yX0_place cX0_place 5 (some .int) 2 [.ref (ad 0), .int x, .int y, .int z] D (am_Xu ad dB) [(dB, .byte)] (n, F, T, K, mk, NF, NT, NK) (fun r (u : am_SX) => r = (am_sPlace g x y z).1 ∧ am_Rel u.1 u.2.1 u.2.2.1 u.2.2.2.1 (am_sPlace g x y z).2) := by
  have hn := hR.1
  refine am_MU.intro RX0 rfl (by decide) (Nat.le_of_ble_eq_true rfl) ?_
  intro p e s m args below meth c A X hA hK hP hD ls hl
  have hP : va_P D am_cl (am_X ad dB n F T K mk NF NT NK) s.heap := hP
  have hD : va_D A (am_X ad dB n F T K mk NF NT NK) := hD
  have hx := X.1
  have hb := X.2.1
  have hS : va_S A s.heap s.heap [] := va_S.rf
  have hl : lv_has ls 5 [(0, .ref (ad 0)), (1, .int x), (2, .int y), (3, .int z)] := hl
  refine lv_iload_n hx hb dX0_place_0 rfl (lv_at hl 2 rfl) ?_
  refine lv_iconst (v := nI 1) hx hb dX0_place_1 (by decide +kernel) ?_
  refine lv_icmp_lt (tgt := 22) hx hb dX0_place_2 (by decide) (fun c2 => ?_) (fun c2 => ?_)
  · refine lv_iconst (v := (-1)) hx hb dX0_place_22 (by decide +kernel) ?_
    exact am_miret (n, F, T, K, mk, NF, NT, NK) X hK hP hD hS dX0_place_23 (by rw [am_sPlace_bad (fun h => by have := (am_ltn (n := 1) (by decide)).mp c2; have := h.1; omega)]; exact ⟨rfl, hR⟩)
  · have c2 := mt (am_ltn (n := 1) (by decide)).mpr c2
    obtain ⟨q, hq31, rfl, hqq⟩ := am_nat (x := y) (by omega)
    have hq1 : 1 ≤ q := by omega
    refine lv_iload_n hx hb dX0_place_5 rfl (lv_at hl 1 rfl) ?_
    refine lv_if_lt (tgt := 22) hx hb dX0_place_6 (by decide) (fun c6 => ?_) (fun c6 => ?_)
    · refine lv_iconst (v := (-1)) hx hb dX0_place_22 (by decide +kernel) ?_
      exact am_miret (n, F, T, K, mk, NF, NT, NK) X hK hP hD hS dX0_place_23 (by rw [am_sPlace_bad (fun h => by have := am_lt0.mp c6; have := h.2.1.1; omega)]; exact ⟨rfl, hR⟩)
    · obtain ⟨a, ha, rfl⟩ := nI_of c6
      refine lv_iload_n hx hb dX0_place_9 rfl (lv_at hl 1 rfl) ?_
      refine lv_bipush (v := nI 64) hx hb dX0_place_10 (by decide +kernel) ?_
      refine am_icmp_ge (tgt := 22) hx hb (by omega) (by omega) dX0_place_12 (by decide) (fun c12 => ?_) (fun c12 => ?_)
      · refine lv_iconst (v := (-1)) hx hb dX0_place_22 (by decide +kernel) ?_
        exact am_miret (n, F, T, K, mk, NF, NT, NK) X hK hP hD hS dX0_place_23 (by rw [am_sPlace_bad (fun h => by have h2 := h.2.1.2; rw [nI_toInt ha] at h2; omega)]; exact ⟨rfl, hR⟩)
      · refine lv_iload_n hx hb dX0_place_15 rfl (lv_at hl 3 rfl) ?_
        refine am_callS (mt_X0_isKind l (z)) lk_X0_54 X hl.1 hP hS ⟨by decide, by decide⟩ ⟨Nat.zero_le _, Nat.zero_le _⟩ (by decide) dX0_place_16 rfl (fun rk H locs hk hP hS => ?_)
        refine lv_if_ne (tgt := 24) hx hb dX0_place_19 (by decide) (fun c19 => ?_) (fun c19 => ?_)
        · have hk := hk.t c19
          obtain ⟨w, rfl, hw⟩ := am_okk_n hk
          refine lv_iload_n hx hb dX0_place_24 rfl (lv_at hl 2 rfl) ?_
          refine lv_bipush (v := nI 64) hx hb dX0_place_25 (by decide +kernel) ?_
          refine am_icmp_le (tgt := 34) hx hb (by omega) (by omega) dX0_place_27 (by decide) (fun c27 => ?_) (fun c27 => ?_)
          · refine lv_aload_n hx hb dX0_place_34 rfl (lv_at hl 0 rfl) ?_
            refine lv_iload_n hx hb dX0_place_35 rfl (lv_at hl 1 rfl) ?_
            refine lv_iload_n hx hb dX0_place_36 rfl (lv_at hl 2 rfl) ?_
            refine am_callV (mt_X0_room l D ad dB n F T K mk NF NT NK hR a q (by omega) hq1 (by omega)) lk_X0_65 X hl.1 hP hK rfl rfl rfl hP hS ⟨by decide, by decide⟩ ⟨Nat.zero_le _, Nat.zero_le _⟩ (by decide) dX0_place_37 rfl (fun r H locs hp hP hS => ?_)
            cases hro1 : am_room g a q with
            | none =>
              have hp : r = -1 := by rw [hp, hro1]; rfl
              subst hp
              refine lv_istore (lv' := [(4, .int (-1)), (0, .ref (ad 0)), (1, .int (nI a)), (2, .int (nI q)), (3, .int (nI w))]) hx hb dX0_place_40 hl (by decide) rfl (fun ls hl => ?_)
              refine lv_iload hx hb dX0_place_42 (lv_at hl 0 rfl) ?_
              refine lv_if_ge (tgt := 61) hx hb dX0_place_44 (by decide) (fun c44 => ?_) (fun c44 => ?_)
              · exact absurd c44 (by decide)
              · refine lv_iload_n hx hb dX0_place_47 rfl (lv_at hl 3 rfl) ?_
                refine lv_bipush (v := nI 64) hx hb dX0_place_48 (by decide +kernel) ?_
                refine am_icmp_gt (tgt := 61) hx hb (by omega) (by omega) dX0_place_50 (by decide) (fun c50 => ?_) (fun c50 => ?_)
                · exact absurd c50 (by omega)
                · refine lv_aload_n hx hb dX0_place_53 rfl (lv_at hl 1 rfl) ?_
                  refine lv_iconst (v := nI 0) hx hb dX0_place_54 (by decide +kernel) ?_
                  refine lv_iload_n hx hb dX0_place_55 rfl (lv_at hl 3 rfl) ?_
                  refine am_callV (mt_X0_room l D ad dB n F T K mk NF NT NK hR 0 q (by omega) hq1 (by omega)) lk_X0_65 X hl.1 hP hK rfl rfl rfl hP hS ⟨by decide, by decide⟩ ⟨Nat.zero_le _, Nat.zero_le _⟩ (by decide) dX0_place_56 rfl (fun r H locs hp hP hS => ?_)
                  cases hro2 : am_room g 0 q with
                  | none =>
                    have hp : r = -1 := by rw [hp, hro2]; rfl
                    subst hp
                    refine lv_istore (lv' := [(4, .int (-1)), (0, .ref (ad 0)), (1, .int (nI a)), (2, .int (nI q)), (3, .int (nI w))]) hx hb dX0_place_59 hl (by decide) rfl (fun ls hl => ?_)
                    refine lv_iload hx hb dX0_place_61 (lv_at hl 0 rfl) ?_
                    refine lv_if_ge (tgt := 69) hx hb dX0_place_63 (by decide) (fun c63 => ?_) (fun c63 => ?_)
                    · exact absurd c63 (by decide)
                    · refine lv_bipush (v := (-3)) hx hb dX0_place_66 (by decide +kernel) ?_
                      exact am_miret (n, F, T, K, mk, NF, NT, NK) X hK hP hD hS dX0_place_68 (by rw [am_sPlace_n hq1 hq31 (by omega) hw ((am_room2_n hro1).trans hro2)]; exact ⟨rfl, hR⟩)
                  | some p2 =>
                    have hp : r = nI p2 := by rw [hp, hro2]; rfl
                    subst hp
                    have hpq := am_room_le hro2
                    refine lv_istore (lv' := [(4, .int (nI p2)), (0, .ref (ad 0)), (1, .int (nI a)), (2, .int (nI q)), (3, .int (nI w))]) hx hb dX0_place_59 hl (by decide) rfl (fun ls hl => ?_)
                    refine lv_iload hx hb dX0_place_61 (lv_at hl 0 rfl) ?_
                    refine am_if_ge (tgt := 69) hx hb (by omega) dX0_place_63 (by decide) ?_
                    refine lv_aload_n hx hb dX0_place_69 rfl (lv_at hl 1 rfl) ?_
                    refine lv_iload hx hb dX0_place_70 (lv_at hl 0 rfl) ?_
                    refine lv_iload hx hb dX0_place_72 (lv_at hl 0 rfl) ?_
                    refine lv_iload_n hx hb dX0_place_74 rfl (lv_at hl 3 rfl) ?_
                    refine am_iadd hx hb dX0_place_75 ?_
                    refine lv_iload_n hx hb dX0_place_76 rfl (lv_at hl 4 rfl) ?_
                    refine am_mcallV0 (mt_X0_rewrite l D ad dB n F T K mk NF NT NK hR p2 (p2 + q) (w + 1) (by omega) (by omega) (nI w) (Or.inr ⟨w, hw, rfl, rfl⟩)) lk_X0_61 X hl.1 hK rfl rfl rfl hP hD hS hA ⟨by decide, by decide⟩ ⟨Nat.zero_le _, Nat.zero_le _⟩ (by decide) dX0_place_77 rfl (fun r u H locs hp hP hD hS => ?_)
                    obtain ⟨hp1, hp2⟩ := hp
                    obtain ⟨n2, F2, T2, K2, m2, NF2, NT2, NK2⟩ := u
                    have hP : va_P D am_cl (am_X ad dB n2 F2 T2 K2 m2 NF2 NT2 NK2) H := hP
                    have hD : va_D A (am_X ad dB n2 F2 T2 K2 m2 NF2 NT2 NK2) := hD
                    refine lv_if_eq (tgt := 88) hx hb dX0_place_80 (by decide) (fun c80 => ?_) (fun c80 => ?_)
                    · refine lv_bipush (v := (-2)) hx hb dX0_place_88 (by decide +kernel) ?_
                      exact am_miret (n2, F2, T2, K2, m2, NF2, NT2, NK2) X hK hP hD hS dX0_place_90 (by rw [am_sPlace_s hq1 hq31 (by omega) hw ((am_room2_n hro1).trans hro2), am_put_f (hp1.f c80)]; exact ⟨rfl, am_rel_f hp2 (hp1.f c80)⟩)
                    · refine lv_iload hx hb dX0_place_83 (lv_at hl 0 rfl) ?_
                      refine lv_goto (tgt := 90) hx hb dX0_place_85 (by decide) ?_
                      exact am_miret (n2, F2, T2, K2, m2, NF2, NT2, NK2) X hK hP hD hS dX0_place_90 (by rw [am_sPlace_s hq1 hq31 (by omega) hw ((am_room2_n hro1).trans hro2), am_put_t (hp1.t c80)]; exact ⟨rfl, am_rel_t hp2 (hp1.t c80)⟩)
            | some p1 =>
              have hp : r = nI p1 := by rw [hp, hro1]; rfl
              subst hp
              have hpq := am_room_le hro1
              refine lv_istore (lv' := [(4, .int (nI p1)), (0, .ref (ad 0)), (1, .int (nI a)), (2, .int (nI q)), (3, .int (nI w))]) hx hb dX0_place_40 hl (by decide) rfl (fun ls hl => ?_)
              refine lv_iload hx hb dX0_place_42 (lv_at hl 0 rfl) ?_
              refine am_if_ge (tgt := 61) hx hb (by omega) dX0_place_44 (by decide) ?_
              refine lv_iload hx hb dX0_place_61 (lv_at hl 0 rfl) ?_
              refine am_if_ge (tgt := 69) hx hb (by omega) dX0_place_63 (by decide) ?_
              refine lv_aload_n hx hb dX0_place_69 rfl (lv_at hl 1 rfl) ?_
              refine lv_iload hx hb dX0_place_70 (lv_at hl 0 rfl) ?_
              refine lv_iload hx hb dX0_place_72 (lv_at hl 0 rfl) ?_
              refine lv_iload_n hx hb dX0_place_74 rfl (lv_at hl 3 rfl) ?_
              refine am_iadd hx hb dX0_place_75 ?_
              refine lv_iload_n hx hb dX0_place_76 rfl (lv_at hl 4 rfl) ?_
              refine am_mcallV0 (mt_X0_rewrite l D ad dB n F T K mk NF NT NK hR p1 (p1 + q) (w + 1) (by omega) (by omega) (nI w) (Or.inr ⟨w, hw, rfl, rfl⟩)) lk_X0_61 X hl.1 hK rfl rfl rfl hP hD hS hA ⟨by decide, by decide⟩ ⟨Nat.zero_le _, Nat.zero_le _⟩ (by decide) dX0_place_77 rfl (fun r u H locs hp hP hD hS => ?_)
              obtain ⟨hp1, hp2⟩ := hp
              obtain ⟨n2, F2, T2, K2, m2, NF2, NT2, NK2⟩ := u
              have hP : va_P D am_cl (am_X ad dB n2 F2 T2 K2 m2 NF2 NT2 NK2) H := hP
              have hD : va_D A (am_X ad dB n2 F2 T2 K2 m2 NF2 NT2 NK2) := hD
              refine lv_if_eq (tgt := 88) hx hb dX0_place_80 (by decide) (fun c80 => ?_) (fun c80 => ?_)
              · refine lv_bipush (v := (-2)) hx hb dX0_place_88 (by decide +kernel) ?_
                exact am_miret (n2, F2, T2, K2, m2, NF2, NT2, NK2) X hK hP hD hS dX0_place_90 (by rw [am_sPlace_s hq1 hq31 (by omega) hw (am_room2_s hro1), am_put_f (hp1.f c80)]; exact ⟨rfl, am_rel_f hp2 (hp1.f c80)⟩)
              · refine lv_iload hx hb dX0_place_83 (lv_at hl 0 rfl) ?_
                refine lv_goto (tgt := 90) hx hb dX0_place_85 (by decide) ?_
                exact am_miret (n2, F2, T2, K2, m2, NF2, NT2, NK2) X hK hP hD hS dX0_place_90 (by rw [am_sPlace_s hq1 hq31 (by omega) hw (am_room2_s hro1), am_put_t (hp1.t c80)]; exact ⟨rfl, am_rel_t hp2 (hp1.t c80)⟩)
          · refine lv_iconst (v := (-1)) hx hb dX0_place_30 (by decide +kernel) ?_
            refine lv_goto (tgt := 40) hx hb dX0_place_31 (by decide) ?_
            refine lv_istore (lv' := [(4, .int ((-1))), (0, .ref (ad 0)), (1, .int (nI a)), (2, .int (nI q)), (3, .int (nI w))]) hx hb dX0_place_40 hl (by decide) rfl (fun ls hl => ?_)
            refine lv_iload hx hb dX0_place_42 (lv_at hl 0 rfl) ?_
            refine lv_if_ge (tgt := 61) hx hb dX0_place_44 (by decide) (fun c44 => ?_) (fun c44 => ?_)
            · exact absurd c44 (by decide)
            · refine lv_iload_n hx hb dX0_place_47 rfl (lv_at hl 3 rfl) ?_
              refine lv_bipush (v := nI 64) hx hb dX0_place_48 (by decide +kernel) ?_
              refine am_icmp_gt (tgt := 61) hx hb (by omega) (by omega) dX0_place_50 (by decide) (fun c50 => ?_) (fun c50 => ?_)
              · refine lv_iload hx hb dX0_place_61 (lv_at hl 0 rfl) ?_
                refine lv_if_ge (tgt := 69) hx hb dX0_place_63 (by decide) (fun c63 => ?_) (fun c63 => ?_)
                · exact absurd c63 (by decide)
                · refine lv_bipush (v := (-3)) hx hb dX0_place_66 (by decide +kernel) ?_
                  exact am_miret (n, F, T, K, mk, NF, NT, NK) X hK hP hD hS dX0_place_68 (by rw [am_sPlace_n hq1 hq31 (by omega) hw ((am_room2_n (am_room_big c27)).trans (am_room_big c27))]; exact ⟨rfl, hR⟩)
              · exact absurd c50 (by omega)
        · refine lv_iconst (v := (-1)) hx hb dX0_place_22 (by decide +kernel) ?_
          exact am_miret (n, F, T, K, mk, NF, NT, NK) X hK hP hD hS dX0_place_23 (by rw [am_sPlace_bad (fun h => hk.f c19 h.2.2)]; exact ⟨rfl, hR⟩)
set_option maxHeartbeats 4000000 in
set_option maxRecDepth 100000 in
theorem mt_X0_protect (l : Launch) (D : va_G) (ad : Nat → Nat) (dB : ClassId) (n : Nat) (F T K : Nat → Nat) (mk : Nat) (NF NT NK : Nat → Nat) {g : Nat → Nat} (hR : am_Rel n F T K g) (x y z : Int32) : am_MU l yX0_protect cX0_protect 12 (some .int) 2 [.ref (ad 0), .int x, .int y, .int z] D (am_Xu ad dB) [(dB, .byte)] (n, F, T, K, mk, NF, NT, NK) (fun r (u : am_SX) => r = (am_sProt g x y z).1 ∧ am_Rel u.1 u.2.1 u.2.2.1 u.2.2.2.1 (am_sProt g x y z).2) := by
  have hn := hR.1
  refine am_MU.intro RX0 rfl (by decide) (Nat.le_of_ble_eq_true rfl) ?_
  intro p e s m args below meth c A X hA hK hP hD ls hl
  have hP : va_P D am_cl (am_X ad dB n F T K mk NF NT NK) s.heap := hP
  have hD : va_D A (am_X ad dB n F T K mk NF NT NK) := hD
  have hx := X.1
  have hb := X.2.1
  have hS : va_S A s.heap s.heap [] := va_S.rf
  have hl : lv_has ls 12 [(0, .ref (ad 0)), (1, .int x), (2, .int y), (3, .int z)] := hl
  refine lv_iload_n hx hb dX0_protect_0 rfl (lv_at hl 1 rfl) ?_
  refine lv_iload_n hx hb dX0_protect_1 rfl (lv_at hl 2 rfl) ?_
  refine am_callS (mt_X0_isProper l (x) (y)) lk_X0_50 X hl.1 hP hS ⟨by decide, by decide⟩ ⟨Nat.zero_le _, Nat.zero_le _⟩ (by decide) dX0_protect_2 rfl (fun rp H locs hq hP hS => ?_)
  refine lv_if_eq (tgt := 18) hx hb dX0_protect_5 (by decide) (fun c5 => ?_) (fun c5 => ?_)
  · refine lv_iconst (v := (-1)) hx hb dX0_protect_18 (by decide +kernel) ?_
    exact am_miret (n, F, T, K, mk, NF, NT, NK) X hK hP hD hS dX0_protect_19 (by rw [am_sProt_bad (fun h => hq.f c5 h.1)]; exact ⟨rfl, hR⟩)
  · have hq := hq.t c5
    obtain ⟨a, q, rfl, rfl, hqq1, haq⟩ := am_okp_n hq
    refine lv_iload_n hx hb dX0_protect_8 rfl (lv_at hl 3 rfl) ?_
    refine lv_if_lt (tgt := 18) hx hb dX0_protect_9 (by decide) (fun c9 => ?_) (fun c9 => ?_)
    · refine lv_iconst (v := (-1)) hx hb dX0_protect_18 (by decide +kernel) ?_
      exact am_miret (n, F, T, K, mk, NF, NT, NK) X hK hP hD hS dX0_protect_19 (by rw [am_sProt_bad (fun h => by have := am_lt0.mp c9; have := h.2.1; omega)]; exact ⟨rfl, hR⟩)
    · obtain ⟨w, hw, rfl⟩ := nI_of c9
      refine lv_iload_n hx hb dX0_protect_12 rfl (lv_at hl 3 rfl) ?_
      refine lv_bipush (v := nI 7) hx hb dX0_protect_13 (by decide +kernel) ?_
      refine am_icmp_le (tgt := 20) hx hb (by omega) (by omega) dX0_protect_15 (by decide) (fun c15 => ?_) (fun c15 => ?_)
      · have hw7 : w ≤ 7 := c15
        refine lv_iload_n hx hb dX0_protect_20 rfl (lv_at hl 1 rfl) ?_
        refine lv_iload_n hx hb dX0_protect_21 rfl (lv_at hl 2 rfl) ?_
        refine am_iadd hx hb dX0_protect_22 ?_
        refine lv_istore (lv' := [(4, .int (nI (a + q))), (0, .ref (ad 0)), (1, .int (nI a)), (2, .int (nI q)), (3, .int (nI w))]) hx hb dX0_protect_23 hl (by decide) rfl (fun ls hl => ?_)
        refine lv_aload_n hx hb dX0_protect_25 rfl (lv_at hl 1 rfl) ?_
        refine lv_iload_n hx hb dX0_protect_26 rfl (lv_at hl 2 rfl) ?_
        refine lv_iload hx hb dX0_protect_27 (lv_at hl 0 rfl) ?_
        refine am_callV (mt_X0_mappedIn l D ad dB n F T K mk NF NT NK hR a (a + q) (by omega) (by omega)) lk_X0_58 X hl.1 hP hK rfl rfl rfl hP hS ⟨by decide, by decide⟩ ⟨Nat.zero_le _, Nat.zero_le _⟩ (by decide) dX0_protect_29 rfl (fun r H locs hp hP hS => ?_)
        subst hp
        have hus : am_us g a (a + q) ≤ 64 := Nat.le_trans (am_cw_le 64) (by omega)
        refine lv_iload_n hx hb dX0_protect_32 rfl (lv_at hl 3 rfl) ?_
        refine am_icmp_ge (tgt := 39) hx hb (by omega) (by omega) dX0_protect_33 (by decide) (fun c33 => ?_) (fun c33 => ?_)
        · have hg := am_us_all c33 haq
          refine lv_aload_n hx hb dX0_protect_39 rfl (lv_at hl 1 rfl) ?_
          refine lv_iconst (v := nI 0) hx hb dX0_protect_40 (by decide +kernel) ?_
          refine am_pX_28 X hK hP hD hS dX0_protect_41 (fun H locs hP hD hS => ?_)
          refine lv_iconst (v := nI 0) hx hb dX0_protect_44 (by decide +kernel) ?_
          refine lv_istore (lv' := [(5, .int (nI 0)), (4, .int (nI (a + q))), (0, .ref (ad 0)), (1, .int (nI a)), (2, .int (nI q)), (3, .int (nI w))]) hx hb dX0_protect_45 hl (by decide) rfl (fun ls hl => ?_)
          refine lv_iconst (v := nI 0) hx hb dX0_protect_47 (by decide +kernel) ?_
          refine lv_istore (lv' := [(6, .int (nI 0)), (5, .int (nI 0)), (4, .int (nI (a + q))), (0, .ref (ad 0)), (1, .int (nI a)), (2, .int (nI q)), (3, .int (nI w))]) hx hb dX0_protect_48 hl (by decide) rfl (fun ls hl => ?_)
          have loop : ∀ (N : Nat) (i : Nat) (ch : Nat) (m1 : Nat) (NF1 : Nat → Nat) (NT1 : Nat → Nat) (NK1 : Nat → Nat), (i ≤ n) → (n < i + N) → (ch = am_cw (fun v => decide (0 < v) && decide ((v - 1) % 8 ≠ w)) g a (a + q) (am_hi T i)) → (m1 ≤ i + 2 ∧ (am_hi T i ≤ a + q → m1 ≤ i + 1) ∧ (am_hi T i ≤ a → m1 ≤ i)) → (am_bd m1 NF1 NT1 NK1) → (am_Seg m1 NF1 NT1 NK1 (am_pr g a (a + q) w) (am_hi T i)) → ∀ (H : Heap) (locs : List Loc), va_P D am_cl (am_X ad dB n F T K m1 NF1 NT1 NK1) H → va_D A (am_X ad dB n F T K m1 NF1 NT1 NK1) → va_S A s.heap H locs → ∀ ls : Array Slot, lv_has ls 12 [(0, .ref (ad 0)), (1, .int (nI a)), (2, .int (nI q)), (3, .int (nI w)), (4, .int (nI (a + q))), (5, .int (nI ch)), (6, .int (nI i))] → W p l e (am_rm 2) s m args below meth c H locs 0 0 (am_QM below D (am_Xu ad dB) [(dB, .byte)] (fun r (u : am_SX) => r = (am_sProt g (nI a) (nI q) (nI w)).1 ∧ am_Rel u.1 u.2.1 u.2.2.1 u.2.2.2.1 (am_sProt g (nI a) (nI q) (nI w)).2) args s A) (F0 m 50 ls []) := by
            intro N
            induction N with
            | zero =>
              intro i ch m1 NF1 NT1 NK1 hi hN hch hm hq1 hS1
              exfalso
              omega
            | succ N ih =>
              intro i ch m1 NF1 NT1 NK1 hi hN hch hm hq1 hS1 H locs hP hD hS ls hl
              refine lv_iload hx hb dX0_protect_50 (lv_at hl 6 rfl) ?_
              refine lv_aload_n hx hb dX0_protect_52 rfl (lv_at hl 0 rfl) ?_
              refine am_gX_32 X hK hP dX0_protect_53 ?_
              refine am_icmp_ge (tgt := 203) hx hb (by omega) (by omega) dX0_protect_56 (by decide) (fun c56 => ?_) (fun c56 => ?_)
              · have e9 : n = i := by omega
                subst e9
                refine lv_aload_n hx hb dX0_protect_203 rfl (lv_at hl 0 rfl) ?_
                refine am_mcallV0 (mt_X0_commit l D ad dB n F T K m1 NF1 NT1 NK1 (by omega) hq1) lk_X0_46 X hl.1 hK rfl rfl rfl hP hD hS hA ⟨by decide, by decide⟩ ⟨Nat.zero_le _, Nat.zero_le _⟩ (by decide) dX0_protect_204 rfl (fun r u H locs hp hP hD hS => ?_)
                obtain ⟨hp1, hp2⟩ := am_cm_rel hp hR (am_pr_e hR.2 hS1 hg)
                obtain ⟨n2, F2, T2, K2, m2, NF2, NT2, NK2⟩ := u
                have hP : va_P D am_cl (am_X ad dB n2 F2 T2 K2 m2 NF2 NT2 NK2) H := hP
                have hD : va_D A (am_X ad dB n2 F2 T2 K2 m2 NF2 NT2 NK2) := hD
                refine lv_if_eq (tgt := 215) hx hb dX0_protect_207 (by decide) (fun c207 => ?_) (fun c207 => ?_)
                · refine lv_bipush (v := (-2)) hx hb dX0_protect_215 (by decide +kernel) ?_
                  exact am_miret (n2, F2, T2, K2, m2, NF2, NT2, NK2) X hK hP hD hS dX0_protect_217 (by rw [am_sProt_ok hqq1 haq hw7 c33, am_put_f (hp1.f c207)]; exact ⟨rfl, am_rel_f hp2 (hp1.f c207)⟩)
                · refine lv_iload hx hb dX0_protect_210 (lv_at hl 5 rfl) ?_
                  refine lv_goto (tgt := 217) hx hb dX0_protect_212 (by decide) ?_
                  exact am_miret (n2, F2, T2, K2, m2, NF2, NT2, NK2) X hK hP hD hS dX0_protect_217 (by rw [am_sProt_ok hqq1 haq hw7 c33, am_put_t (hp1.t c207)]; exact ⟨by rw [hch, hR.2.chE], am_rel_t hp2 (hp1.t c207)⟩)
              · obtain ⟨h1, h2, h3, h4, h5, h6, h7⟩ := hR.2.1 i c56
                refine lv_aload_n hx hb dX0_protect_59 rfl (lv_at hl 0 rfl) ?_
                refine am_gX_7 X hK hP dX0_protect_60 ?_
                refine lv_iload hx hb dX0_protect_63 (lv_at hl 6 rfl) ?_
                refine am_lX_1 X hK hP (by omega) dX0_protect_65 ?_
                refine lv_iload_n hx hb dX0_protect_66 rfl (lv_at hl 1 rfl) ?_
                refine am_callS (mt_X0_greatest l (nI (F i)) (nI a)) lk_X0_43 X hl.1 hP hS ⟨by decide, by decide⟩ ⟨Nat.zero_le _, Nat.zero_le _⟩ (by decide) dX0_protect_67 rfl (fun r H locs hp hP hS => ?_)
                subst hp
                refine am_top (y := nI (max (F i) a)) (am_max (by omega) (by omega)) ?_
                refine lv_istore (lv' := [(7, .int (nI (max (F i) a))), (0, .ref (ad 0)), (1, .int (nI a)), (2, .int (nI q)), (3, .int (nI w)), (4, .int (nI (a + q))), (5, .int (nI ch)), (6, .int (nI i))]) hx hb dX0_protect_70 hl (by decide) rfl (fun ls hl => ?_)
                refine lv_aload_n hx hb dX0_protect_72 rfl (lv_at hl 1 rfl) ?_
                refine am_gX_13 X hK hP dX0_protect_73 ?_
                refine lv_iload hx hb dX0_protect_76 (lv_at hl 7 rfl) ?_
                refine am_lX_2 X hK hP (by omega) dX0_protect_78 ?_
                refine lv_iload hx hb dX0_protect_79 (lv_at hl 5 rfl) ?_
                refine am_callS (mt_X0_least l (nI (T i)) (nI (a + q))) lk_X0_35 X hl.1 hP hS ⟨by decide, by decide⟩ ⟨Nat.zero_le _, Nat.zero_le _⟩ (by decide) dX0_protect_81 rfl (fun r H locs hp hP hS => ?_)
                subst hp
                refine am_top (y := nI (min (T i) (a + q))) (am_min (by omega) (by omega)) ?_
                refine lv_istore (lv' := [(8, .int (nI (min (T i) (a + q)))), (7, .int (nI (max (F i) a))), (0, .ref (ad 0)), (1, .int (nI a)), (2, .int (nI q)), (3, .int (nI w)), (4, .int (nI (a + q))), (5, .int (nI ch)), (6, .int (nI i))]) hx hb dX0_protect_84 hl (by decide) rfl (fun ls hl => ?_)
                refine lv_aload_n hx hb dX0_protect_86 rfl (lv_at hl 2 rfl) ?_
                refine am_gX_16 X hK hP dX0_protect_87 ?_
                refine lv_iload hx hb dX0_protect_90 (lv_at hl 8 rfl) ?_
                refine am_lX_3 X hK hP (by omega) dX0_protect_92 ?_
                refine lv_istore (lv' := [(9, .int (nI (K i))), (8, .int (nI (min (T i) (a + q)))), (7, .int (nI (max (F i) a))), (0, .ref (ad 0)), (1, .int (nI a)), (2, .int (nI q)), (3, .int (nI w)), (4, .int (nI (a + q))), (5, .int (nI ch)), (6, .int (nI i))]) hx hb dX0_protect_93 hl (by decide) rfl (fun ls hl => ?_)
                refine lv_aload_n hx hb dX0_protect_95 rfl (lv_at hl 3 rfl) ?_
                refine am_gX_13 X hK hP dX0_protect_96 ?_
                refine lv_iload hx hb dX0_protect_99 (lv_at hl 9 rfl) ?_
                refine am_lX_2 X hK hP (by omega) dX0_protect_101 ?_
                refine lv_iload_n hx hb dX0_protect_102 rfl (lv_at hl 4 rfl) ?_
                refine am_callS (mt_X0_least l (nI (T i)) (nI a)) lk_X0_35 X hl.1 hP hS ⟨by decide, by decide⟩ ⟨Nat.zero_le _, Nat.zero_le _⟩ (by decide) dX0_protect_103 rfl (fun r H locs hp hP hS => ?_)
                subst hp
                refine am_top (y := nI (min (T i) a)) (am_min (by omega) (by omega)) ?_
                refine lv_istore (lv' := [(10, .int (nI (min (T i) a))), (9, .int (nI (K i))), (8, .int (nI (min (T i) (a + q)))), (7, .int (nI (max (F i) a))), (0, .ref (ad 0)), (1, .int (nI a)), (2, .int (nI q)), (3, .int (nI w)), (4, .int (nI (a + q))), (5, .int (nI ch)), (6, .int (nI i))]) hx hb dX0_protect_106 hl (by decide) rfl (fun ls hl => ?_)
                refine lv_aload_n hx hb dX0_protect_108 rfl (lv_at hl 4 rfl) ?_
                refine lv_aload_n hx hb dX0_protect_109 rfl (lv_at hl 4 rfl) ?_
                refine am_gX_7 X hK hP dX0_protect_110 ?_
                refine lv_iload hx hb dX0_protect_113 (lv_at hl 10 rfl) ?_
                refine am_lX_1 X hK hP (by omega) dX0_protect_115 ?_
                refine lv_iload hx hb dX0_protect_116 (lv_at hl 0 rfl) ?_
                refine lv_iload hx hb dX0_protect_118 (lv_at hl 1 rfl) ?_
                refine am_mcallVv0 (mt_X0_emit l D ad dB n F T K m1 NF1 NT1 NK1 (F i) (min (T i) a) (K i) (by omega) (by omega) (by omega) (by omega) hq1) lk_X0_39 X hl.1 hK rfl rfl rfl hP hD hS hA ⟨by decide, by decide⟩ ⟨Nat.zero_le _, Nat.zero_le _⟩ (by decide) dX0_protect_120 rfl (fun u H locs hp hP hD hS => ?_)
                subst hp
                generalize hu2 : am_em m1 NF1 NT1 NK1 (F i) (min (T i) a) (K i) = u at hP hD
                obtain ⟨m2, NF2, NT2, NK2⟩ := u
                have hu2 := hu2.symm
                have hP : va_P D am_cl (am_X ad dB n F T K m2 NF2 NT2 NK2) H := hP
                have hD : va_D A (am_X ad dB n F T K m2 NF2 NT2 NK2) := hD
                have hq2 := am_em_bd hu2 hq1 (by omega) (by omega) (by omega)
                have hc2 := am_em_ct hu2
                have hS2 := am_pr_a hR.2 c56 (by omega) hS1 hu2 hg
                refine lv_iload hx hb dX0_protect_123 (lv_at hl 2 rfl) ?_
                refine lv_iload hx hb dX0_protect_125 (lv_at hl 3 rfl) ?_
                refine am_icmp_le (tgt := 168) hx hb (by omega) (by omega) dX0_protect_127 (by decide) (fun c127 => ?_) (fun c127 => ?_)
                · have hS3 := am_pr_b0 (c := n) (K := K) (Nat.not_lt.mpr c127) hS2
                  have hmid : min (T i) (a + q) - max (F i) a = 0 := by omega
                  refine lv_aload_n hx hb dX0_protect_168 rfl (lv_at hl 4 rfl) ?_
                  refine am_gX_7 X hK hP dX0_protect_169 ?_
                  refine lv_iload hx hb dX0_protect_172 (lv_at hl 10 rfl) ?_
                  refine am_lX_1 X hK hP (by omega) dX0_protect_174 ?_
                  refine lv_iload hx hb dX0_protect_175 (lv_at hl 8 rfl) ?_
                  refine am_callS (mt_X0_greatest l (nI (F i)) (nI (a + q))) lk_X0_43 X hl.1 hP hS ⟨by decide, by decide⟩ ⟨Nat.zero_le _, Nat.zero_le _⟩ (by decide) dX0_protect_177 rfl (fun r H locs hp hP hS => ?_)
                  subst hp
                  refine am_top (y := nI (max (F i) (a + q))) (am_max (by omega) (by omega)) ?_
                  refine lv_istore (lv' := [(11, .int (nI (max (F i) (a + q)))), (10, .int (nI (min (T i) a))), (9, .int (nI (K i))), (8, .int (nI (min (T i) (a + q)))), (7, .int (nI (max (F i) a))), (0, .ref (ad 0)), (1, .int (nI a)), (2, .int (nI q)), (3, .int (nI w)), (4, .int (nI (a + q))), (5, .int (nI ch)), (6, .int (nI i))]) hx hb dX0_protect_180 hl (by decide) rfl (fun ls hl => ?_)
                  refine lv_aload_n hx hb dX0_protect_182 rfl (lv_at hl 5 rfl) ?_
                  refine lv_iload hx hb dX0_protect_183 (lv_at hl 0 rfl) ?_
                  refine lv_aload_n hx hb dX0_protect_185 rfl (lv_at hl 5 rfl) ?_
                  refine am_gX_13 X hK hP dX0_protect_186 ?_
                  refine lv_iload hx hb dX0_protect_189 (lv_at hl 11 rfl) ?_
                  refine am_lX_2 X hK hP (by omega) dX0_protect_191 ?_
                  refine lv_iload hx hb dX0_protect_192 (lv_at hl 2 rfl) ?_
                  refine am_mcallVv0 (mt_X0_emit l D ad dB n F T K m2 NF2 NT2 NK2 (max (F i) (a + q)) (T i) (K i) (by omega) (by omega) (by omega) (by omega) hq2) lk_X0_39 X hl.1 hK rfl rfl rfl hP hD hS hA ⟨by decide, by decide⟩ ⟨Nat.zero_le _, Nat.zero_le _⟩ (by decide) dX0_protect_194 rfl (fun u H locs hp hP hD hS => ?_)
                  subst hp
                  generalize hu4 : am_em m2 NF2 NT2 NK2 (max (F i) (a + q)) (T i) (K i) = u at hP hD
                  obtain ⟨m4, NF4, NT4, NK4⟩ := u
                  have hu4 := hu4.symm
                  have hP : va_P D am_cl (am_X ad dB n F T K m4 NF4 NT4 NK4) H := hP
                  have hD : va_D A (am_X ad dB n F T K m4 NF4 NT4 NK4) := hD
                  have hq4 := am_em_bd hu4 hq2 (by omega) (by omega) (by omega)
                  have hc4 := am_em_ct hu4
                  refine lv_iinc (v := nI (i + 1)) (lv' := [(6, .int (nI (i + 1))), (11, .int (nI (max (F i) (a + q)))), (10, .int (nI (min (T i) a))), (9, .int (nI (K i))), (8, .int (nI (min (T i) (a + q)))), (7, .int (nI (max (F i) a))), (0, .ref (ad 0)), (1, .int (nI a)), (2, .int (nI q)), (3, .int (nI w)), (4, .int (nI (a + q))), (5, .int (nI ch))]) hx hb dX0_protect_197 hl (k := 11) rfl (nI_1 _) (by decide) rfl (fun ls hl => ?_)
                  refine lv_goto (tgt := 50) hx hb dX0_protect_200 (by decide) ?_
                  have hS9 := am_pr_c hR.2 c56 (by omega) hS3 hu4 hg
                  exact ih (i + 1) (ch) m4 NF4 NT4 NK4 (by omega) (by omega) (by rw [hch, hR.2.ch c56, hmid, ite_self] <;> omega) (by have e1 : am_hi T (i + 1) = T i := rfl; rw [e1]; omega) hq4 hS9 _ _ hP hD hS ls (lv_sub hl [6, 7, 8, 9, 10, 11, 0] rfl)
                · refine lv_iload hx hb dX0_protect_130 (lv_at hl 9 rfl) ?_
                  refine lv_iload hx hb dX0_protect_132 (lv_at hl 1 rfl) ?_
                  refine lv_bipush (v := nI 7) hx hb dX0_protect_134 (by decide +kernel) ?_
                  refine lv_iand hx hb dX0_protect_136 ?_
                  refine am_top (y := nI (K i % 8)) (am_k7 (by omega)) ?_
                  refine lv_iload_n hx hb dX0_protect_137 rfl (lv_at hl 7 rfl) ?_
                  refine am_icmp_eq (tgt := 149) hx hb (by omega) (by omega) dX0_protect_138 (by decide) (fun c138 => ?_) (fun c138 => ?_)
                  · refine lv_iconst (v := nI 0) hx hb dX0_protect_149 (by decide +kernel) ?_
                    refine am_iadd hx hb dX0_protect_150 ?_
                    refine lv_istore (lv' := [(5, .int (nI (ch + 0))), (10, .int (nI (min (T i) a))), (9, .int (nI (K i))), (8, .int (nI (min (T i) (a + q)))), (7, .int (nI (max (F i) a))), (0, .ref (ad 0)), (1, .int (nI a)), (2, .int (nI q)), (3, .int (nI w)), (4, .int (nI (a + q))), (6, .int (nI i))]) hx hb dX0_protect_151 hl (by decide) rfl (fun ls hl => ?_)
                    refine lv_aload_n hx hb dX0_protect_153 rfl (lv_at hl 5 rfl) ?_
                    refine lv_iload hx hb dX0_protect_154 (lv_at hl 4 rfl) ?_
                    refine lv_iload hx hb dX0_protect_156 (lv_at hl 3 rfl) ?_
                    refine lv_iload hx hb dX0_protect_158 (lv_at hl 2 rfl) ?_
                    refine lv_bipush (v := (-8)) hx hb dX0_protect_160 (by decide +kernel) ?_
                    refine lv_iand hx hb dX0_protect_162 ?_
                    refine lv_iload_n hx hb dX0_protect_163 rfl (lv_at hl 8 rfl) ?_
                    refine lv_ior hx hb dX0_protect_164 ?_
                    refine am_top (y := nI (K i / 8 * 8 + w)) (am_kp (K i) (by omega) w (by omega)) ?_
                    refine am_mcallVv0 (mt_X0_emit l D ad dB n F T K m2 NF2 NT2 NK2 (max (F i) a) (min (T i) (a + q)) (K i / 8 * 8 + w) (by omega) (by omega) (by omega) (by omega) hq2) lk_X0_39 X hl.1 hK rfl rfl rfl hP hD hS hA ⟨by decide, by decide⟩ ⟨Nat.zero_le _, Nat.zero_le _⟩ (by decide) dX0_protect_165 rfl (fun u H locs hp hP hD hS => ?_)
                    subst hp
                    generalize hu3 : am_em m2 NF2 NT2 NK2 (max (F i) a) (min (T i) (a + q)) (K i / 8 * 8 + w) = u at hP hD
                    obtain ⟨m3, NF3, NT3, NK3⟩ := u
                    have hu3 := hu3.symm
                    have hP : va_P D am_cl (am_X ad dB n F T K m3 NF3 NT3 NK3) H := hP
                    have hD : va_D A (am_X ad dB n F T K m3 NF3 NT3 NK3) := hD
                    have hq3 := am_em_bd hu3 hq2 (by omega) (by omega) (by omega)
                    have hc3 := am_em_ct hu3
                    have hS3 := am_pr_b1 (c := n) (K := K) c127 (am_pr_b hR.2 c56 (by omega) hw7 c127 hS2 hu3 hg)
                    refine lv_aload_n hx hb dX0_protect_168 rfl (lv_at hl 5 rfl) ?_
                    refine am_gX_7 X hK hP dX0_protect_169 ?_
                    refine lv_iload hx hb dX0_protect_172 (lv_at hl 10 rfl) ?_
                    refine am_lX_1 X hK hP (by omega) dX0_protect_174 ?_
                    refine lv_iload hx hb dX0_protect_175 (lv_at hl 9 rfl) ?_
                    refine am_callS (mt_X0_greatest l (nI (F i)) (nI (a + q))) lk_X0_43 X hl.1 hP hS ⟨by decide, by decide⟩ ⟨Nat.zero_le _, Nat.zero_le _⟩ (by decide) dX0_protect_177 rfl (fun r H locs hp hP hS => ?_)
                    subst hp
                    refine am_top (y := nI (max (F i) (a + q))) (am_max (by omega) (by omega)) ?_
                    refine lv_istore (lv' := [(11, .int (nI (max (F i) (a + q)))), (5, .int (nI (ch + 0))), (10, .int (nI (min (T i) a))), (9, .int (nI (K i))), (8, .int (nI (min (T i) (a + q)))), (7, .int (nI (max (F i) a))), (0, .ref (ad 0)), (1, .int (nI a)), (2, .int (nI q)), (3, .int (nI w)), (4, .int (nI (a + q))), (6, .int (nI i))]) hx hb dX0_protect_180 hl (by decide) rfl (fun ls hl => ?_)
                    refine lv_aload_n hx hb dX0_protect_182 rfl (lv_at hl 6 rfl) ?_
                    refine lv_iload hx hb dX0_protect_183 (lv_at hl 0 rfl) ?_
                    refine lv_aload_n hx hb dX0_protect_185 rfl (lv_at hl 6 rfl) ?_
                    refine am_gX_13 X hK hP dX0_protect_186 ?_
                    refine lv_iload hx hb dX0_protect_189 (lv_at hl 11 rfl) ?_
                    refine am_lX_2 X hK hP (by omega) dX0_protect_191 ?_
                    refine lv_iload hx hb dX0_protect_192 (lv_at hl 3 rfl) ?_
                    refine am_mcallVv0 (mt_X0_emit l D ad dB n F T K m3 NF3 NT3 NK3 (max (F i) (a + q)) (T i) (K i) (by omega) (by omega) (by omega) (by omega) hq3) lk_X0_39 X hl.1 hK rfl rfl rfl hP hD hS hA ⟨by decide, by decide⟩ ⟨Nat.zero_le _, Nat.zero_le _⟩ (by decide) dX0_protect_194 rfl (fun u H locs hp hP hD hS => ?_)
                    subst hp
                    generalize hu4 : am_em m3 NF3 NT3 NK3 (max (F i) (a + q)) (T i) (K i) = u at hP hD
                    obtain ⟨m4, NF4, NT4, NK4⟩ := u
                    have hu4 := hu4.symm
                    have hP : va_P D am_cl (am_X ad dB n F T K m4 NF4 NT4 NK4) H := hP
                    have hD : va_D A (am_X ad dB n F T K m4 NF4 NT4 NK4) := hD
                    have hq4 := am_em_bd hu4 hq3 (by omega) (by omega) (by omega)
                    have hc4 := am_em_ct hu4
                    refine lv_iinc (v := nI (i + 1)) (lv' := [(6, .int (nI (i + 1))), (11, .int (nI (max (F i) (a + q)))), (5, .int (nI (ch + 0))), (10, .int (nI (min (T i) a))), (9, .int (nI (K i))), (8, .int (nI (min (T i) (a + q)))), (7, .int (nI (max (F i) a))), (0, .ref (ad 0)), (1, .int (nI a)), (2, .int (nI q)), (3, .int (nI w)), (4, .int (nI (a + q)))]) hx hb dX0_protect_197 hl (k := 11) rfl (nI_1 _) (by decide) rfl (fun ls hl => ?_)
                    refine lv_goto (tgt := 50) hx hb dX0_protect_200 (by decide) ?_
                    have hS9 := am_pr_c hR.2 c56 (by omega) hS3 hu4 hg
                    exact ih (i + 1) (ch + 0) m4 NF4 NT4 NK4 (by omega) (by omega) (by rw [hch, hR.2.ch c56, if_neg (by omega)] <;> omega) (by have e1 : am_hi T (i + 1) = T i := rfl; rw [e1]; omega) hq4 hS9 _ _ hP hD hS ls (lv_sub hl [7, 8, 9, 10, 11, 2, 0] rfl)
                  · refine lv_iload hx hb dX0_protect_141 (lv_at hl 2 rfl) ?_
                    refine lv_iload hx hb dX0_protect_143 (lv_at hl 3 rfl) ?_
                    refine am_isub hx hb (by omega) dX0_protect_145 ?_
                    refine lv_goto (tgt := 150) hx hb dX0_protect_146 (by decide) ?_
                    refine am_iadd hx hb dX0_protect_150 ?_
                    refine lv_istore (lv' := [(5, .int (nI (ch + ((min (T i) (a + q)) - (max (F i) a))))), (10, .int (nI (min (T i) a))), (9, .int (nI (K i))), (8, .int (nI (min (T i) (a + q)))), (7, .int (nI (max (F i) a))), (0, .ref (ad 0)), (1, .int (nI a)), (2, .int (nI q)), (3, .int (nI w)), (4, .int (nI (a + q))), (6, .int (nI i))]) hx hb dX0_protect_151 hl (by decide) rfl (fun ls hl => ?_)
                    refine lv_aload_n hx hb dX0_protect_153 rfl (lv_at hl 5 rfl) ?_
                    refine lv_iload hx hb dX0_protect_154 (lv_at hl 4 rfl) ?_
                    refine lv_iload hx hb dX0_protect_156 (lv_at hl 3 rfl) ?_
                    refine lv_iload hx hb dX0_protect_158 (lv_at hl 2 rfl) ?_
                    refine lv_bipush (v := (-8)) hx hb dX0_protect_160 (by decide +kernel) ?_
                    refine lv_iand hx hb dX0_protect_162 ?_
                    refine lv_iload_n hx hb dX0_protect_163 rfl (lv_at hl 8 rfl) ?_
                    refine lv_ior hx hb dX0_protect_164 ?_
                    refine am_top (y := nI (K i / 8 * 8 + w)) (am_kp (K i) (by omega) w (by omega)) ?_
                    refine am_mcallVv0 (mt_X0_emit l D ad dB n F T K m2 NF2 NT2 NK2 (max (F i) a) (min (T i) (a + q)) (K i / 8 * 8 + w) (by omega) (by omega) (by omega) (by omega) hq2) lk_X0_39 X hl.1 hK rfl rfl rfl hP hD hS hA ⟨by decide, by decide⟩ ⟨Nat.zero_le _, Nat.zero_le _⟩ (by decide) dX0_protect_165 rfl (fun u H locs hp hP hD hS => ?_)
                    subst hp
                    generalize hu3 : am_em m2 NF2 NT2 NK2 (max (F i) a) (min (T i) (a + q)) (K i / 8 * 8 + w) = u at hP hD
                    obtain ⟨m3, NF3, NT3, NK3⟩ := u
                    have hu3 := hu3.symm
                    have hP : va_P D am_cl (am_X ad dB n F T K m3 NF3 NT3 NK3) H := hP
                    have hD : va_D A (am_X ad dB n F T K m3 NF3 NT3 NK3) := hD
                    have hq3 := am_em_bd hu3 hq2 (by omega) (by omega) (by omega)
                    have hc3 := am_em_ct hu3
                    have hS3 := am_pr_b1 (c := n) (K := K) c127 (am_pr_b hR.2 c56 (by omega) hw7 c127 hS2 hu3 hg)
                    refine lv_aload_n hx hb dX0_protect_168 rfl (lv_at hl 5 rfl) ?_
                    refine am_gX_7 X hK hP dX0_protect_169 ?_
                    refine lv_iload hx hb dX0_protect_172 (lv_at hl 10 rfl) ?_
                    refine am_lX_1 X hK hP (by omega) dX0_protect_174 ?_
                    refine lv_iload hx hb dX0_protect_175 (lv_at hl 9 rfl) ?_
                    refine am_callS (mt_X0_greatest l (nI (F i)) (nI (a + q))) lk_X0_43 X hl.1 hP hS ⟨by decide, by decide⟩ ⟨Nat.zero_le _, Nat.zero_le _⟩ (by decide) dX0_protect_177 rfl (fun r H locs hp hP hS => ?_)
                    subst hp
                    refine am_top (y := nI (max (F i) (a + q))) (am_max (by omega) (by omega)) ?_
                    refine lv_istore (lv' := [(11, .int (nI (max (F i) (a + q)))), (5, .int (nI (ch + ((min (T i) (a + q)) - (max (F i) a))))), (10, .int (nI (min (T i) a))), (9, .int (nI (K i))), (8, .int (nI (min (T i) (a + q)))), (7, .int (nI (max (F i) a))), (0, .ref (ad 0)), (1, .int (nI a)), (2, .int (nI q)), (3, .int (nI w)), (4, .int (nI (a + q))), (6, .int (nI i))]) hx hb dX0_protect_180 hl (by decide) rfl (fun ls hl => ?_)
                    refine lv_aload_n hx hb dX0_protect_182 rfl (lv_at hl 6 rfl) ?_
                    refine lv_iload hx hb dX0_protect_183 (lv_at hl 0 rfl) ?_
                    refine lv_aload_n hx hb dX0_protect_185 rfl (lv_at hl 6 rfl) ?_
                    refine am_gX_13 X hK hP dX0_protect_186 ?_
                    refine lv_iload hx hb dX0_protect_189 (lv_at hl 11 rfl) ?_
                    refine am_lX_2 X hK hP (by omega) dX0_protect_191 ?_
                    refine lv_iload hx hb dX0_protect_192 (lv_at hl 3 rfl) ?_
                    refine am_mcallVv0 (mt_X0_emit l D ad dB n F T K m3 NF3 NT3 NK3 (max (F i) (a + q)) (T i) (K i) (by omega) (by omega) (by omega) (by omega) hq3) lk_X0_39 X hl.1 hK rfl rfl rfl hP hD hS hA ⟨by decide, by decide⟩ ⟨Nat.zero_le _, Nat.zero_le _⟩ (by decide) dX0_protect_194 rfl (fun u H locs hp hP hD hS => ?_)
                    subst hp
                    generalize hu4 : am_em m3 NF3 NT3 NK3 (max (F i) (a + q)) (T i) (K i) = u at hP hD
                    obtain ⟨m4, NF4, NT4, NK4⟩ := u
                    have hu4 := hu4.symm
                    have hP : va_P D am_cl (am_X ad dB n F T K m4 NF4 NT4 NK4) H := hP
                    have hD : va_D A (am_X ad dB n F T K m4 NF4 NT4 NK4) := hD
                    have hq4 := am_em_bd hu4 hq3 (by omega) (by omega) (by omega)
                    have hc4 := am_em_ct hu4
                    refine lv_iinc (v := nI (i + 1)) (lv' := [(6, .int (nI (i + 1))), (11, .int (nI (max (F i) (a + q)))), (5, .int (nI (ch + ((min (T i) (a + q)) - (max (F i) a))))), (10, .int (nI (min (T i) a))), (9, .int (nI (K i))), (8, .int (nI (min (T i) (a + q)))), (7, .int (nI (max (F i) a))), (0, .ref (ad 0)), (1, .int (nI a)), (2, .int (nI q)), (3, .int (nI w)), (4, .int (nI (a + q)))]) hx hb dX0_protect_197 hl (k := 11) rfl (nI_1 _) (by decide) rfl (fun ls hl => ?_)
                    refine lv_goto (tgt := 50) hx hb dX0_protect_200 (by decide) ?_
                    have hS9 := am_pr_c hR.2 c56 (by omega) hS3 hu4 hg
                    exact ih (i + 1) (ch + ((min (T i) (a + q)) - (max (F i) a))) m4 NF4 NT4 NK4 (by omega) (by omega) (by rw [hch, hR.2.ch c56, if_pos c138] <;> omega) (by have e1 : am_hi T (i + 1) = T i := rfl; rw [e1]; omega) hq4 hS9 _ _ hP hD hS ls (lv_sub hl [7, 8, 9, 10, 11, 2, 0] rfl)
          exact loop (n + 1) 0 0 0 NF NT NK (Nat.zero_le _) (by omega) (am_cw_lo (Nat.zero_le _)).symm ⟨by omega, fun _ => by omega, fun _ => by omega⟩ (fun j hj => absurd hj (Nat.not_lt_zero j)) (am_Seg.nil NF NT NK _) _ _ hP hD hS ls (lv_sub hl [3, 4, 5, 6, 2, 1, 0] rfl)
        · refine lv_bipush (v := (-3)) hx hb dX0_protect_36 (by decide +kernel) ?_
          exact am_miret (n, F, T, K, mk, NF, NT, NK) X hK hP hD hS dX0_protect_38 (by rw [am_sProt_no hqq1 haq hw7 c33]; exact ⟨rfl, hR⟩)
      · refine lv_iconst (v := (-1)) hx hb dX0_protect_18 (by decide +kernel) ?_
        exact am_miret (n, F, T, K, mk, NF, NT, NK) X hK hP hD hS dX0_protect_19 (by rw [am_sProt_bad (fun h => by have h2 := h.2.2; rw [nI_toInt hw] at h2; omega)]; exact ⟨rfl, hR⟩)
end
section
/-! the plain law, fifth part: for the model's loops -/
theorem am_cnt_le (q : Nat → Bool) : ∀ n, am_cnt q n ≤ n := by
  intro n
  induction n with
  | zero => exact Nat.le_refl _
  | succ n ih =>
    rw [am_cnt_s]
    split <;> omega
theorem am_fst_step {q : Nat → Bool} {i : Nat} (h : i < 64) : am_fst q (64 - i) i = if q i = true then some i else am_fst q (64 - (i + 1)) (i + 1) := by
  rw [show 64 - i = (64 - (i + 1)) + 1 by omega]
  rfl
theorem am_fst_go {q : Nat → Bool} {i : Nat} {o : Option Nat} (h : i < 64) (h0 : q i = false) (ho : o = am_fst q (64 - i) i) : o = am_fst q (64 - (i + 1)) (i + 1) := by
  rw [ho, am_fst_step h, if_neg (by rw [h0]; decide)]
theorem am_fst_hit {q : Nat → Bool} {i : Nat} {o : Option Nat} (h : i < 64) (h0 : q i = true) (ho : o = am_fst q (64 - i) i) : o = some i := by
  rw [ho, am_fst_step h, if_pos h0]
theorem am_fst_end {q : Nat → Bool} {i : Nat} {o : Option Nat} (h : 64 ≤ i) (ho : o = am_fst q (64 - i) i) : o = none := by
  rw [ho, show 64 - i = 0 by omega]
  rfl
theorem am_fst_lt {q : Nat → Bool} {p : Nat} : ∀ k h, am_fst q k h = some p → h ≤ p ∧ p < h + k := by
  intro k
  induction k with
  | zero => intro h h1; cases h1
  | succ k ih =>
    intro h h1
    have h1 : (if q h = true then some h else am_fst q k (h + 1)) = some p := h1
    split at h1
    · cases h1
      omega
    · have := ih _ h1
      omega
theorem am_beg_pos {g : Nat → Nat} : ∀ a, 0 < g a → 1 ≤ am_cnt (am_beg g) (a + 1) := by
  intro a
  induction a with
  | zero =>
    intro h
    rw [am_cnt_s, if_pos (am_beg_iff.mpr ⟨h, Or.inl rfl⟩)]
    omega
  | succ a ih =>
    intro h
    rw [am_cnt_s]
    by_cases q : g a = g (a + 1)
    · have := ih (by omega)
      omega
    · rw [if_pos (am_beg_iff.mpr ⟨h, Or.inr (by show g a ≠ g (a + 1); exact q)⟩)]
      omega
theorem am_inc1 (c : Nat) : (nI c - nI 1) + nI 1 = nI (c + 1) - nI 1 := by
  rw [← nI_add c 1, Int32.sub_add_cancel, Int32.add_sub_cancel]
theorem am_m1 : (-1 : Int32) = nI 0 - nI 1 := by decide +kernel
theorem am_cnt_t {q : Nat → Bool} {i c : Nat} (h : c = am_cnt q i) (h1 : q i = true) : c + 1 = am_cnt q (i + 1) := by
  rw [h, am_cnt_s, if_pos h1]
theorem am_cnt_f {q : Nat → Bool} {i c : Nat} (h : c = am_cnt q i) (h1 : ¬ q i = true) : c = am_cnt q (i + 1) := by
  rw [h, am_cnt_s, if_neg h1]
  rfl
theorem am_cw_t {w : Nat → Bool} {g : Nat → Nat} {a b i c : Nat} (h : c = am_cw w g a b i) (h1 : a ≤ i) (h2 : i < b) (h3 : w (g i) = true) : c + 1 = am_cw w g a b (i + 1) := by
  rw [h, am_cw_s, if_pos ⟨⟨h1, h2⟩, h3⟩]
theorem am_cw_f {w : Nat → Bool} {g : Nat → Nat} {a b i c : Nat} (h : c = am_cw w g a b i) (h3 : w (g i) = false) : c = am_cw w g a b (i + 1) := by
  rw [h, am_cw_s, if_neg (fun z => by rw [h3] at z; cases z.2)]
  rfl
theorem am_lf_t {g : Nat → Nat} {i mo rn : Nat} (h : am_lf g i = (mo, rn)) (h0 : g i = 0) : am_lf g (i + 1) = (max mo (rn + 1), rn + 1) := by
  show (max (am_lf g i).1 (if g i = 0 then (am_lf g i).2 + 1 else 0), if g i = 0 then (am_lf g i).2 + 1 else 0) = _
  rw [if_pos h0, h]
theorem am_lf_f {g : Nat → Nat} {i mo rn : Nat} (h : am_lf g i = (mo, rn)) (h0 : 0 < g i) : am_lf g (i + 1) = (mo, 0) := by
  show (max (am_lf g i).1 (if g i = 0 then (am_lf g i).2 + 1 else 0), if g i = 0 then (am_lf g i).2 + 1 else 0) = _
  rw [if_neg (by omega), h]
  show (max mo 0, 0) = (mo, 0)
  rw [Nat.max_eq_left (Nat.zero_le _)]
theorem am_nth_t {g : Nat → Nat} {x : Int32} {p c : Nat} (hc : c = am_cnt (am_beg g) p) (h : am_beg g p = true) (h2 : nI c = x) : am_nth g x p = true := by
  unfold am_nth
  rw [h, ← hc, decide_eq_true h2]
  rfl
theorem am_nth_f {g : Nat → Nat} {x : Int32} {p c : Nat} (hc : c = am_cnt (am_beg g) p) (h2 : ¬ nI c = x) : am_nth g x p = false := by
  unfold am_nth
  rw [← hc, decide_eq_false h2, Bool.and_false]
theorem am_nth_b {g : Nat → Nat} {x : Int32} {p : Nat} (h : ¬ am_beg g p = true) : am_nth g x p = false := by
  unfold am_nth
  cases q : am_beg g p with
  | false => rfl
  | true => exact absurd q h
theorem am_rmq_t {g : Nat → Nat} {q p : Nat} (h1 : p + q ≤ 64) (h2 : am_us g p (p + q) = 0) : am_rmq g q p = true := by
  unfold am_rmq
  rw [decide_eq_true h1, decide_eq_true h2]
  rfl
theorem am_rmq_f {g : Nat → Nat} {q p : Nat} (h2 : 0 < am_us g p (p + q)) : am_rmq g q p = false := by
  unfold am_rmq
  rw [decide_eq_false (p := am_us g p (p + q) = 0) (by omega), Bool.and_false]
theorem am_okp_le {a q : Nat} (h : am_okp (nI a) (nI q)) (ha : a < 2 ^ 31) (hq : q < 2 ^ 31) : a + q ≤ 64 := by
  obtain ⟨h1, h2, h3⟩ := h
  rw [nI_toInt ha, nI_toInt hq] at h3
  omega
theorem am_end_s {g : Nat → Nat} {p j : Nat} (h : some j = am_fst (fun j => decide (g j ≠ g p)) (64 - p) p) : am_end g p = j := by
  unfold am_end
  rw [← h]
  rfl
theorem am_end_n {g : Nat → Nat} {p : Nat} (h : none = am_fst (fun j => decide (g j ≠ g p)) (64 - p) p) : am_end g p = 64 := by
  unfold am_end
  rw [← h]
  rfl
theorem am_of_ret {g : Nat → Nat} {a i cn : Nat} (h : cn = am_cnt (am_beg g) i) (hi : i = a + 1) (ha : a ≤ 63) (h0 : 0 < g a) : nI cn - nI 1 = am_sOf g (nI a) := by
  subst hi
  have h1 := am_beg_pos a h0
  rw [pk_sub (by omega), h]
  exact am_sOf_k ha h0
end
section
/-! AreaMapModel: the links of its calls, and its methods that write nothing -/
set_option maxRecDepth 100000
theorem lk_X1_16 : am_LV RX1 16 RX1 yX1_areas cX1_areas 3 (some .int) 0 := ⟨lw_V q189 q190 q191 q17 q192, by decide +kernel⟩
theorem lk_X1_20 : am_LV RX1 20 RX1 yX1_proper cX1_proper 3 (some .boolean) 2 := ⟨lw_V q169 q171 qs7 q17 q172, by decide +kernel⟩
theorem lk_X1_24 : am_LV RX1 24 RX1 yX1_used cX1_used 5 (some .int) 2 := ⟨lw_V q173 q175 qs8 q17 q176, by decide +kernel⟩
theorem lk_X1_28 : am_LV RX1 28 RX1 yX1_keep cX1_keep 2 none 0 := ⟨lw_V q177 q179 qs9 q17 q180, by decide +kernel⟩
theorem lk_X1_31 : am_LV RX1 31 RX1 yX1_fill cX1_fill 5 none 3 := ⟨lw_V q181 q183 qs10 q17 q184, by decide +kernel⟩
theorem lk_X1_35 : am_LV RX1 35 RX1 yX1_tooMany cX1_tooMany 3 (some .boolean) 0 := ⟨lw_V q185 q187 qs11 q17 q188, by decide +kernel⟩
theorem lk_X1_39 : am_LV RX1 39 RX1 yX1_room cX1_room 4 (some .int) 2 := ⟨lw_V q201 q203 qs13 q17 q204, by decide +kernel⟩
theorem lk_X1_42 : am_LV RX1 42 RX1 yX1_page cX1_page 2 (some .boolean) 1 := ⟨lw_V q217 q219 qs14 q17 q220, by decide +kernel⟩
theorem lk_X1_46 : am_LV RX1 46 RX1 yX1_begins cX1_begins 2 (some .boolean) 1 := ⟨lw_V q193 q195 qs12 q17 q196, by decide +kernel⟩
theorem lk_X1_49 : am_LV RX1 49 RX1 yX1_areaFirst cX1_areaFirst 4 (some .int) 1 := ⟨lw_V q234 q227 q228 q17 q229, by decide +kernel⟩
set_option maxHeartbeats 4000000 in
set_option maxRecDepth 100000 in
theorem mt_X1_proper (l : Launch) (D : va_G) (bd : Nat → Nat) (dN : ClassId) (P O : Nat → Nat) (x y : Int32) : am_RO l yX1_proper cX1_proper 3 (some .boolean) 0 [.ref (bd 0), .int x, .int y] (am_pre D (am_M bd dN P O) [(dN, .int)]) (fun r => am_bp (am_okp x y) r) := by
  refine am_RO.intro RX1 rfl (by decide) (Nat.le_of_ble_eq_true rfl) ?_
  intro p e s m args below meth c X hpre ls hl
  obtain ⟨hP, hK⟩ := hpre
  have hx := X.1
  have hb := X.2.1
  have hS : va_S (fun _ => False) s.heap s.heap [] := va_S.rf
  have hl : lv_has ls 3 [(0, .ref (bd 0)), (1, .int x), (2, .int y)] := hl
  refine lv_iload_n hx hb dX1_proper_0 rfl (lv_at hl 1 rfl) ?_
  refine lv_if_lt (tgt := 27) hx hb dX1_proper_1 (by decide) (fun c1 => ?_) (fun c1 => ?_)
  · refine lv_iconst (v := nI 0) hx hb dX1_proper_27 (by decide +kernel) ?_
    exact am_zret X hS dX1_proper_28 (Or.inl nI_0) (Or.inr ⟨rfl, fun h => by have := am_lt0.mp c1; have := h.1; omega⟩)
  · obtain ⟨a, ha, rfl⟩ := nI_of c1
    refine lv_iload_n hx hb dX1_proper_4 rfl (lv_at hl 1 rfl) ?_
    refine lv_bipush (v := nI 63) hx hb dX1_proper_5 (by decide +kernel) ?_
    refine am_icmp_gt (tgt := 27) hx hb (by omega) (by omega) dX1_proper_7 (by decide) (fun c7 => ?_) (fun c7 => ?_)
    · refine lv_iconst (v := nI 0) hx hb dX1_proper_27 (by decide +kernel) ?_
      exact am_zret X hS dX1_proper_28 (Or.inl nI_0) (Or.inr ⟨rfl, fun h => by have h2 := h.2; rw [nI_toInt ha] at h2; omega⟩)
    · refine lv_iload_n hx hb dX1_proper_10 rfl (lv_at hl 2 rfl) ?_
      refine lv_iconst (v := nI 1) hx hb dX1_proper_11 (by decide +kernel) ?_
      refine lv_icmp_lt (tgt := 27) hx hb dX1_proper_12 (by decide) (fun c12 => ?_) (fun c12 => ?_)
      · refine lv_iconst (v := nI 0) hx hb dX1_proper_27 (by decide +kernel) ?_
        exact am_zret X hS dX1_proper_28 (Or.inl nI_0) (Or.inr ⟨rfl, fun h => by have := (am_ltn (n := 1) (by decide)).mp c12; have := h.2.1; omega⟩)
      · have c12 := mt (am_ltn (n := 1) (by decide)).mpr c12
        obtain ⟨q, hq, rfl, hq1⟩ := am_nat (x := y) (by omega)
        refine lv_iload_n hx hb dX1_proper_15 rfl (lv_at hl 2 rfl) ?_
        refine lv_bipush (v := nI 64) hx hb dX1_proper_16 (by decide +kernel) ?_
        refine lv_iload_n hx hb dX1_proper_18 rfl (lv_at hl 1 rfl) ?_
        refine am_isub hx hb (by omega) dX1_proper_19 ?_
        refine am_icmp_gt (tgt := 27) hx hb (by omega) (by omega) dX1_proper_20 (by decide) (fun c20 => ?_) (fun c20 => ?_)
        · refine lv_iconst (v := nI 0) hx hb dX1_proper_27 (by decide +kernel) ?_
          exact am_zret X hS dX1_proper_28 (Or.inl nI_0) (Or.inr ⟨rfl, fun h => by have h2 := h.2; rw [nI_toInt ha, nI_toInt hq] at h2; omega⟩)
        · refine lv_iconst (v := nI 1) hx hb dX1_proper_23 (by decide +kernel) ?_
          refine lv_goto (tgt := 28) hx hb dX1_proper_24 (by decide) ?_
          exact am_zret X hS dX1_proper_28 (Or.inr (by decide +kernel)) (Or.inl ⟨rfl, am_okp_i (by omega) (by omega)⟩)
set_option maxHeartbeats 4000000 in
set_option maxRecDepth 100000 in
theorem mt_X1_page (l : Launch) (D : va_G) (bd : Nat → Nat) (dN : ClassId) (P O : Nat → Nat) (x : Int32) : am_RO l yX1_page cX1_page 2 (some .boolean) 0 [.ref (bd 0), .int x] (am_pre D (am_M bd dN P O) [(dN, .int)]) (fun r => am_bp (am_okg x) r) := by
  refine am_RO.intro RX1 rfl (by decide) (Nat.le_of_ble_eq_true rfl) ?_
  intro p e s m args below meth c X hpre ls hl
  obtain ⟨hP, hK⟩ := hpre
  have hx := X.1
  have hb := X.2.1
  have hS : va_S (fun _ => False) s.heap s.heap [] := va_S.rf
  have hl : lv_has ls 2 [(0, .ref (bd 0)), (1, .int x)] := hl
  refine lv_iload_n hx hb dX1_page_0 rfl (lv_at hl 1 rfl) ?_
  refine lv_if_lt (tgt := 14) hx hb dX1_page_1 (by decide) (fun c1 => ?_) (fun c1 => ?_)
  · refine lv_iconst (v := nI 0) hx hb dX1_page_14 (by decide +kernel) ?_
    exact am_zret X hS dX1_page_15 (Or.inl nI_0) (Or.inr ⟨rfl, fun h => by have := am_lt0.mp c1; have := h.1; omega⟩)
  · obtain ⟨a, ha, rfl⟩ := nI_of c1
    refine lv_iload_n hx hb dX1_page_4 rfl (lv_at hl 1 rfl) ?_
    refine lv_bipush (v := nI 63) hx hb dX1_page_5 (by decide +kernel) ?_
    refine am_icmp_gt (tgt := 14) hx hb (by omega) (by omega) dX1_page_7 (by decide) (fun c7 => ?_) (fun c7 => ?_)
    · refine lv_iconst (v := nI 0) hx hb dX1_page_14 (by decide +kernel) ?_
      exact am_zret X hS dX1_page_15 (Or.inl nI_0) (Or.inr ⟨rfl, fun h => by have h2 := h.2; rw [nI_toInt ha] at h2; omega⟩)
    · refine lv_iconst (v := nI 1) hx hb dX1_page_10 (by decide +kernel) ?_
      refine lv_goto (tgt := 15) hx hb dX1_page_11 (by decide) ?_
      exact am_zret X hS dX1_page_15 (Or.inr (by decide +kernel)) (Or.inl ⟨rfl, am_okg_i (by omega)⟩)
set_option maxHeartbeats 4000000 in
set_option maxRecDepth 100000 in
theorem mt_X1_begins (l : Launch) (D : va_G) (bd : Nat → Nat) (dN : ClassId) (P O : Nat → Nat) (hB : ∀ j, j < 64 → P j ≤ 128) (a : Nat) (ha : a < 64) : am_RO l yX1_begins cX1_begins 2 (some .boolean) 0 [.ref (bd 0), .int (nI a)] (am_pre D (am_M bd dN P O) [(dN, .int)]) (fun r => am_bp (am_beg P a = true) r) := by
  have hBa := hB a ha
  have hBb := hB (a - 1) (by omega)
  refine am_RO.intro RX1 rfl (by decide) (Nat.le_of_ble_eq_true rfl) ?_
  intro p e s m args below meth c X hpre ls hl
  obtain ⟨hP, hK⟩ := hpre
  have hx := X.1
  have hb := X.2.1
  have hS : va_S (fun _ => False) s.heap s.heap [] := va_S.rf
  have hl : lv_has ls 2 [(0, .ref (bd 0)), (1, .int (nI a))] := hl
  refine lv_aload_n hx hb dX1_begins_0 rfl (lv_at hl 0 rfl) ?_
  refine am_gM_7 X hK hP dX1_begins_1 ?_
  refine lv_iload_n hx hb dX1_begins_4 rfl (lv_at hl 1 rfl) ?_
  refine am_lM_1 X hK hP (by omega) dX1_begins_5 ?_
  refine am_if_le (tgt := 34) hx hb (by omega) dX1_begins_6 (by decide) (fun c6 => ?_) (fun c6 => ?_)
  · refine lv_iconst (v := nI 0) hx hb dX1_begins_34 (by decide +kernel) ?_
    exact am_zret X hS dX1_begins_35 (Or.inl nI_0) (Or.inr ⟨rfl, fun h => by have := (am_beg_iff.mp h).1; omega⟩)
  · refine lv_iload_n hx hb dX1_begins_9 rfl (lv_at hl 1 rfl) ?_
    refine am_if_eq (tgt := 30) hx hb (by omega) dX1_begins_10 (by decide) (fun c10 => ?_) (fun c10 => ?_)
    · refine lv_iconst (v := nI 1) hx hb dX1_begins_30 (by decide +kernel) ?_
      refine lv_goto (tgt := 35) hx hb dX1_begins_31 (by decide) ?_
      exact am_zret X hS dX1_begins_35 (Or.inr (by decide +kernel)) (Or.inl ⟨rfl, am_beg_iff.mpr ⟨c6, Or.inl c10⟩⟩)
    · refine lv_aload_n hx hb dX1_begins_13 rfl (lv_at hl 0 rfl) ?_
      refine am_gM_7 X hK hP dX1_begins_14 ?_
      refine lv_iload_n hx hb dX1_begins_17 rfl (lv_at hl 1 rfl) ?_
      refine lv_iconst (v := nI 1) hx hb dX1_begins_18 (by decide +kernel) ?_
      refine am_isub hx hb (by omega) dX1_begins_19 ?_
      refine am_lM_1 X hK hP (by omega) dX1_begins_20 ?_
      refine lv_aload_n hx hb dX1_begins_21 rfl (lv_at hl 0 rfl) ?_
      refine am_gM_7 X hK hP dX1_begins_22 ?_
      refine lv_iload_n hx hb dX1_begins_25 rfl (lv_at hl 1 rfl) ?_
      refine am_lM_1 X hK hP (by omega) dX1_begins_26 ?_
      refine am_icmp_eq (tgt := 34) hx hb (by omega) (by omega) dX1_begins_27 (by decide) (fun c27 => ?_) (fun c27 => ?_)
      · refine lv_iconst (v := nI 0) hx hb dX1_begins_34 (by decide +kernel) ?_
        exact am_zret X hS dX1_begins_35 (Or.inl nI_0) (Or.inr ⟨rfl, fun h => (am_beg_iff.mp h).2.elim (fun z => by omega) (fun z => z c27)⟩)
      · refine lv_iconst (v := nI 1) hx hb dX1_begins_30 (by decide +kernel) ?_
        refine lv_goto (tgt := 35) hx hb dX1_begins_31 (by decide) ?_
        exact am_zret X hS dX1_begins_35 (Or.inr (by decide +kernel)) (Or.inl ⟨rfl, am_beg_iff.mpr ⟨c6, Or.inr c27⟩⟩)
set_option maxHeartbeats 4000000 in
set_option maxRecDepth 100000 in
theorem mt_X1_areas (l : Launch) (D : va_G) (bd : Nat → Nat) (dN : ClassId) (P O : Nat → Nat) (hB : ∀ j, j < 64 → P j ≤ 128) : am_RO l yX1_areas cX1_areas 3 (some .int) 1 [.ref (bd 0)] (am_pre D (am_M bd dN P O) [(dN, .int)]) (fun r => r = nI (am_runs P)) := by
  refine am_RO.intro RX1 rfl (by decide) (Nat.le_of_ble_eq_true rfl) ?_
  intro p e s m args below meth c X hpre ls hl
  obtain ⟨hP, hK⟩ := hpre
  have hx := X.1
  have hb := X.2.1
  have hS : va_S (fun _ => False) s.heap s.heap [] := va_S.rf
  have hl : lv_has ls 3 [(0, .ref (bd 0))] := hl
  refine lv_iconst (v := nI 0) hx hb dX1_areas_0 (by decide +kernel) ?_
  refine lv_istore_n (lv' := [(1, .int (nI 0)), (0, .ref (bd 0))]) hx hb dX1_areas_1 rfl hl (by decide) rfl (fun ls hl => ?_)
  refine lv_iconst (v := nI 0) hx hb dX1_areas_2 (by decide +kernel) ?_
  refine lv_istore_n (lv' := [(2, .int (nI 0)), (1, .int (nI 0)), (0, .ref (bd 0))]) hx hb dX1_areas_3 rfl hl (by decide) rfl (fun ls hl => ?_)
  have loop : ∀ (N : Nat) (i : Nat) (acc : Nat), (i ≤ 64) → (64 < i + N) → (acc = am_cnt (am_beg P) i) → ∀ (H : Heap) (locs : List Loc), va_P D am_cl (am_M bd dN P O) H → va_S (fun _ => False) s.heap H locs → ∀ ls : Array Slot, lv_has ls 3 [(0, .ref (bd 0)), (1, .int (nI acc)), (2, .int (nI i))] → W p l e (am_rm 1) s m args below meth c H locs 0 0 (am_QR below (fun r => r = nI (am_runs P)) args s) (F0 m 4 ls []) := by
    intro N
    induction N with
    | zero =>
      intro i acc hi hN hacc
      exfalso
      omega
    | succ N ih =>
      intro i acc hi hN hacc H locs hP hS ls hl
      refine lv_iload_n hx hb dX1_areas_4 rfl (lv_at hl 2 rfl) ?_
      refine lv_bipush (v := nI 64) hx hb dX1_areas_5 (by decide +kernel) ?_
      refine am_icmp_ge (tgt := 32) hx hb (by omega) (by omega) dX1_areas_7 (by decide) (fun c7 => ?_) (fun c7 => ?_)
      · refine lv_iload_n hx hb dX1_areas_32 rfl (lv_at hl 1 rfl) ?_
        exact am_iret X hS dX1_areas_33 (by rw [hacc, show i = 64 by omega]; rfl)
      · refine lv_aload_n hx hb dX1_areas_10 rfl (lv_at hl 0 rfl) ?_
        refine lv_iload_n hx hb dX1_areas_11 rfl (lv_at hl 2 rfl) ?_
        refine am_callV (mt_X1_begins l D bd dN P O hB i (by omega)) lk_X1_46 X hl.1 hP hK rfl rfl rfl hP hS ⟨by decide, by decide⟩ ⟨Nat.zero_le _, Nat.zero_le _⟩ (by decide) dX1_areas_12 rfl (fun rb H locs hbg hP hS => ?_)
        refine lv_if_eq (tgt := 24) hx hb dX1_areas_15 (by decide) (fun c15 => ?_) (fun c15 => ?_)
        · refine lv_iload_n hx hb dX1_areas_24 rfl (lv_at hl 1 rfl) ?_
          refine lv_istore_n (lv' := [(1, .int (nI acc)), (0, .ref (bd 0)), (2, .int (nI i))]) hx hb dX1_areas_25 rfl hl (by decide) rfl (fun ls hl => ?_)
          refine lv_iinc (v := nI (i + 1)) (lv' := [(2, .int (nI (i + 1))), (1, .int (nI acc)), (0, .ref (bd 0))]) hx hb dX1_areas_26 hl (k := 2) rfl (nI_1 _) (by decide) rfl (fun ls hl => ?_)
          refine lv_goto (tgt := 4) hx hb dX1_areas_29 (by decide) ?_
          exact ih (i + 1) (acc) (by omega) (by omega) (am_cnt_f hacc (hbg.f c15)) _ _ hP hS ls (lv_sub hl [2, 1, 0] rfl)
        · refine lv_iload_n hx hb dX1_areas_18 rfl (lv_at hl 1 rfl) ?_
          refine lv_iconst (v := nI 1) hx hb dX1_areas_19 (by decide +kernel) ?_
          refine am_iadd hx hb dX1_areas_20 ?_
          refine lv_goto (tgt := 25) hx hb dX1_areas_21 (by decide) ?_
          refine lv_istore_n (lv' := [(1, .int (nI (acc + 1))), (0, .ref (bd 0)), (2, .int (nI i))]) hx hb dX1_areas_25 rfl hl (by decide) rfl (fun ls hl => ?_)
          refine lv_iinc (v := nI (i + 1)) (lv' := [(2, .int (nI (i + 1))), (1, .int (nI (acc + 1))), (0, .ref (bd 0))]) hx hb dX1_areas_26 hl (k := 2) rfl (nI_1 _) (by decide) rfl (fun ls hl => ?_)
          refine lv_goto (tgt := 4) hx hb dX1_areas_29 (by decide) ?_
          exact ih (i + 1) (acc + 1) (by omega) (by omega) (am_cnt_t hacc (hbg.t c15)) _ _ hP hS ls (lv_sub hl [2, 1, 0] rfl)
  exact loop 65 0 0 (by omega) (by omega) rfl _ _ hP hS ls (lv_sub hl [2, 1, 0] rfl)
set_option maxHeartbeats 4000000 in
set_option maxRecDepth 100000 in
theorem mt_X1_areaFirst (l : Launch) (D : va_G) (bd : Nat → Nat) (dN : ClassId) (P O : Nat → Nat) (hB : ∀ j, j < 64 → P j ≤ 128) (x : Int32) : am_RO l yX1_areaFirst cX1_areaFirst 4 (some .int) 1 [.ref (bd 0), .int x] (am_pre D (am_M bd dN P O) [(dN, .int)]) (fun r => r = am_sFirst P x) := by
  refine am_RO.intro RX1 rfl (by decide) (Nat.le_of_ble_eq_true rfl) ?_
  intro p e s m args below meth c X hpre ls hl
  obtain ⟨hP, hK⟩ := hpre
  have hx := X.1
  have hb := X.2.1
  have hS : va_S (fun _ => False) s.heap s.heap [] := va_S.rf
  have hl : lv_has ls 4 [(0, .ref (bd 0)), (1, .int x)] := hl
  refine lv_iconst (v := nI 0) hx hb dX1_areaFirst_0 (by decide +kernel) ?_
  refine lv_istore_n (lv' := [(2, .int (nI 0)), (0, .ref (bd 0)), (1, .int x)]) hx hb dX1_areaFirst_1 rfl hl (by decide) rfl (fun ls hl => ?_)
  refine lv_iconst (v := nI 0) hx hb dX1_areaFirst_2 (by decide +kernel) ?_
  refine lv_istore_n (lv' := [(3, .int (nI 0)), (2, .int (nI 0)), (0, .ref (bd 0)), (1, .int x)]) hx hb dX1_areaFirst_3 rfl hl (by decide) rfl (fun ls hl => ?_)
  have loop : ∀ (N : Nat) (i : Nat) (acc : Nat), (i ≤ 64) → (64 < i + N) → (acc = am_cnt (am_beg P) i) → (am_fst (am_nth P x) 64 0 = am_fst (am_nth P x) (64 - i) i) → ∀ (H : Heap) (locs : List Loc), va_P D am_cl (am_M bd dN P O) H → va_S (fun _ => False) s.heap H locs → ∀ ls : Array Slot, lv_has ls 4 [(0, .ref (bd 0)), (1, .int x), (2, .int (nI acc)), (3, .int (nI i))] → W p l e (am_rm 1) s m args below meth c H locs 0 0 (am_QR below (fun r => r = am_sFirst P x) args s) (F0 m 4 ls []) := by
    intro N
    induction N with
    | zero =>
      intro i acc hi hN hacc hf
      exfalso
      omega
    | succ N ih =>
      intro i acc hi hN hacc hf H locs hP hS ls hl
      refine lv_iload_n hx hb dX1_areaFirst_4 rfl (lv_at hl 3 rfl) ?_
      refine lv_bipush (v := nI 64) hx hb dX1_areaFirst_5 (by decide +kernel) ?_
      refine am_icmp_ge (tgt := 34) hx hb (by omega) (by omega) dX1_areaFirst_7 (by decide) (fun c7 => ?_) (fun c7 => ?_)
      · refine lv_bipush (v := (-3)) hx hb dX1_areaFirst_34 (by decide +kernel) ?_
        exact am_iret X hS dX1_areaFirst_36 (am_sFirst_n (am_fst_end c7 hf))
      · refine lv_aload_n hx hb dX1_areaFirst_10 rfl (lv_at hl 0 rfl) ?_
        refine lv_iload_n hx hb dX1_areaFirst_11 rfl (lv_at hl 3 rfl) ?_
        refine am_callV (mt_X1_begins l D bd dN P O hB i (by omega)) lk_X1_46 X hl.1 hP hK rfl rfl rfl hP hS ⟨by decide, by decide⟩ ⟨Nat.zero_le _, Nat.zero_le _⟩ (by decide) dX1_areaFirst_12 rfl (fun rb H locs hbg hP hS => ?_)
        refine lv_if_eq (tgt := 28) hx hb dX1_areaFirst_15 (by decide) (fun c15 => ?_) (fun c15 => ?_)
        · refine lv_iinc (v := nI (i + 1)) (lv' := [(3, .int (nI (i + 1))), (0, .ref (bd 0)), (1, .int x), (2, .int (nI acc))]) hx hb dX1_areaFirst_28 hl (k := 3) rfl (nI_1 _) (by decide) rfl (fun ls hl => ?_)
          refine lv_goto (tgt := 4) hx hb dX1_areaFirst_31 (by decide) ?_
          exact ih (i + 1) (acc) (by omega) (by omega) (am_cnt_f hacc (hbg.f c15)) (am_fst_go (by omega) (am_nth_b (hbg.f c15)) hf) _ _ hP hS ls (lv_sub hl [1, 2, 3, 0] rfl)
        · refine lv_iload_n hx hb dX1_areaFirst_18 rfl (lv_at hl 2 rfl) ?_
          refine lv_iload_n hx hb dX1_areaFirst_19 rfl (lv_at hl 1 rfl) ?_
          refine lv_icmp_ne (tgt := 25) hx hb dX1_areaFirst_20 (by decide) (fun c20 => ?_) (fun c20 => ?_)
          · refine lv_iinc (v := nI (acc + 1)) (lv' := [(2, .int (nI (acc + 1))), (0, .ref (bd 0)), (1, .int x), (3, .int (nI i))]) hx hb dX1_areaFirst_25 hl (k := 2) rfl (nI_1 _) (by decide) rfl (fun ls hl => ?_)
            refine lv_iinc (v := nI (i + 1)) (lv' := [(3, .int (nI (i + 1))), (2, .int (nI (acc + 1))), (0, .ref (bd 0)), (1, .int x)]) hx hb dX1_areaFirst_28 hl (k := 3) rfl (nI_1 _) (by decide) rfl (fun ls hl => ?_)
            refine lv_goto (tgt := 4) hx hb dX1_areaFirst_31 (by decide) ?_
            exact ih (i + 1) (acc + 1) (by omega) (by omega) (am_cnt_t hacc (hbg.t c15)) (am_fst_go (by omega) (am_nth_f hacc c20) hf) _ _ hP hS ls (lv_sub hl [2, 3, 1, 0] rfl)
          · refine lv_iload_n hx hb dX1_areaFirst_23 rfl (lv_at hl 3 rfl) ?_
            exact am_iret X hS dX1_areaFirst_24 (am_sFirst_k (am_fst_hit (by omega) (am_nth_t hacc (hbg.t c15) c20) hf))
  exact loop 65 0 0 (by omega) (by omega) rfl rfl _ _ hP hS ls (lv_sub hl [2, 3, 1, 0] rfl)
set_option maxHeartbeats 4000000 in
set_option maxRecDepth 100000 in
theorem mt_X1_used (l : Launch) (D : va_G) (bd : Nat → Nat) (dN : ClassId) (P O : Nat → Nat) (hB : ∀ j, j < 64 → P j ≤ 128) (a q : Nat) (haq : a + q ≤ 64) : am_RO l yX1_used cX1_used 5 (some .int) 0 [.ref (bd 0), .int (nI a), .int (nI q)] (am_pre D (am_M bd dN P O) [(dN, .int)]) (fun r => r = nI (am_us P a (a + q))) := by
  refine am_RO.intro RX1 rfl (by decide) (Nat.le_of_ble_eq_true rfl) ?_
  intro p e s m args below meth c X hpre ls hl
  obtain ⟨hP, hK⟩ := hpre
  have hx := X.1
  have hb := X.2.1
  have hS : va_S (fun _ => False) s.heap s.heap [] := va_S.rf
  have hl : lv_has ls 5 [(0, .ref (bd 0)), (1, .int (nI a)), (2, .int (nI q))] := hl
  refine lv_iconst (v := nI 0) hx hb dX1_used_0 (by decide +kernel) ?_
  refine lv_istore_n (lv' := [(3, .int (nI 0)), (0, .ref (bd 0)), (1, .int (nI a)), (2, .int (nI q))]) hx hb dX1_used_1 rfl hl (by decide) rfl (fun ls hl => ?_)
  refine lv_iload_n hx hb dX1_used_2 rfl (lv_at hl 2 rfl) ?_
  refine lv_istore (lv' := [(4, .int (nI a)), (3, .int (nI 0)), (0, .ref (bd 0)), (1, .int (nI a)), (2, .int (nI q))]) hx hb dX1_used_3 hl (by decide) rfl (fun ls hl => ?_)
  have loop : ∀ (N : Nat) (i : Nat) (acc : Nat), (a ≤ i) → (i ≤ a + q) → (a + q < i + N) → (acc = am_cw (fun v => decide (0 < v)) P a (a + q) i) → ∀ (H : Heap) (locs : List Loc), va_P D am_cl (am_M bd dN P O) H → va_S (fun _ => False) s.heap H locs → ∀ ls : Array Slot, lv_has ls 5 [(0, .ref (bd 0)), (1, .int (nI a)), (2, .int (nI q)), (3, .int (nI acc)), (4, .int (nI i))] → W p l e (am_rm 0) s m args below meth c H locs 0 0 (am_QR below (fun r => r = nI (am_us P a (a + q))) args s) (F0 m 5 ls []) := by
    intro N
    induction N with
    | zero =>
      intro i acc hai hi hN hacc
      exfalso
      omega
    | succ N ih =>
      intro i acc hai hi hN hacc H locs hP hS ls hl
      refine lv_iload hx hb dX1_used_5 (lv_at hl 4 rfl) ?_
      refine lv_iload_n hx hb dX1_used_7 rfl (lv_at hl 1 rfl) ?_
      refine lv_iload_n hx hb dX1_used_8 rfl (lv_at hl 2 rfl) ?_
      refine am_iadd hx hb dX1_used_9 ?_
      refine am_icmp_ge (tgt := 37) hx hb (by omega) (by omega) dX1_used_10 (by decide) (fun c10 => ?_) (fun c10 => ?_)
      · refine lv_iload_n hx hb dX1_used_37 rfl (lv_at hl 3 rfl) ?_
        exact am_iret X hS dX1_used_38 (by rw [hacc, show i = a + q by omega]; exact congrArg nI (am_cw_hi haq).symm)
      · have hBi := hB i (by omega)
        refine lv_aload_n hx hb dX1_used_13 rfl (lv_at hl 0 rfl) ?_
        refine am_gM_7 X hK hP dX1_used_14 ?_
        refine lv_iload hx hb dX1_used_17 (lv_at hl 4 rfl) ?_
        refine am_lM_1 X hK hP (by omega) dX1_used_19 ?_
        refine am_if_le (tgt := 29) hx hb (by omega) dX1_used_20 (by decide) (fun c20 => ?_) (fun c20 => ?_)
        · refine lv_iload_n hx hb dX1_used_29 rfl (lv_at hl 3 rfl) ?_
          refine lv_istore_n (lv' := [(3, .int (nI acc)), (0, .ref (bd 0)), (1, .int (nI a)), (2, .int (nI q)), (4, .int (nI i))]) hx hb dX1_used_30 rfl hl (by decide) rfl (fun ls hl => ?_)
          refine lv_iinc (v := nI (i + 1)) (lv' := [(4, .int (nI (i + 1))), (3, .int (nI acc)), (0, .ref (bd 0)), (1, .int (nI a)), (2, .int (nI q))]) hx hb dX1_used_31 hl (k := 4) rfl (nI_1 _) (by decide) rfl (fun ls hl => ?_)
          refine lv_goto (tgt := 5) hx hb dX1_used_34 (by decide) ?_
          exact ih (i + 1) (acc) (by omega) (by omega) (by omega) (am_cw_f hacc (by rw [c20]; rfl)) _ _ hP hS ls (lv_sub hl [2, 3, 4, 1, 0] rfl)
        · refine lv_iload_n hx hb dX1_used_23 rfl (lv_at hl 3 rfl) ?_
          refine lv_iconst (v := nI 1) hx hb dX1_used_24 (by decide +kernel) ?_
          refine am_iadd hx hb dX1_used_25 ?_
          refine lv_goto (tgt := 30) hx hb dX1_used_26 (by decide) ?_
          refine lv_istore_n (lv' := [(3, .int (nI (acc + 1))), (0, .ref (bd 0)), (1, .int (nI a)), (2, .int (nI q)), (4, .int (nI i))]) hx hb dX1_used_30 rfl hl (by decide) rfl (fun ls hl => ?_)
          refine lv_iinc (v := nI (i + 1)) (lv' := [(4, .int (nI (i + 1))), (3, .int (nI (acc + 1))), (0, .ref (bd 0)), (1, .int (nI a)), (2, .int (nI q))]) hx hb dX1_used_31 hl (k := 4) rfl (nI_1 _) (by decide) rfl (fun ls hl => ?_)
          refine lv_goto (tgt := 5) hx hb dX1_used_34 (by decide) ?_
          exact ih (i + 1) (acc + 1) (by omega) (by omega) (by omega) (am_cw_t hacc hai (by omega) (decide_eq_true c20)) _ _ hP hS ls (lv_sub hl [2, 3, 4, 1, 0] rfl)
  exact loop (a + q + 1) a 0 (by omega) (by omega) (by omega) (am_cw_lo (Nat.le_refl _)).symm _ _ hP hS ls (lv_sub hl [2, 3, 4, 1, 0] rfl)
set_option maxHeartbeats 4000000 in
set_option maxRecDepth 100000 in
theorem mt_X1_room (l : Launch) (D : va_G) (bd : Nat → Nat) (dN : ClassId) (P O : Nat → Nat) (hB : ∀ j, j < 64 → P j ≤ 128) (a q : Nat) (ha : a ≤ 64) (hq1 : 1 ≤ q) (hq31 : q < 2 ^ 31) : am_RO l yX1_room cX1_room 4 (some .int) 1 [.ref (bd 0), .int (nI a), .int (nI q)] (am_pre D (am_M bd dN P O) [(dN, .int)]) (fun r => r = am_op (am_room P a q) (-1)) := by
  refine am_RO.intro RX1 rfl (by decide) (Nat.le_of_ble_eq_true rfl) ?_
  intro p e s m args below meth c X hpre ls hl
  obtain ⟨hP, hK⟩ := hpre
  have hx := X.1
  have hb := X.2.1
  have hS : va_S (fun _ => False) s.heap s.heap [] := va_S.rf
  have hl : lv_has ls 4 [(0, .ref (bd 0)), (1, .int (nI a)), (2, .int (nI q))] := hl
  refine lv_iload_n hx hb dX1_room_0 rfl (lv_at hl 1 rfl) ?_
  refine lv_istore_n (lv' := [(3, .int (nI a)), (0, .ref (bd 0)), (1, .int (nI a)), (2, .int (nI q))]) hx hb dX1_room_1 rfl hl (by decide) rfl (fun ls hl => ?_)
  have loop : ∀ (N : Nat) (i : Nat), (i ≤ 64) → (64 < i + N) → (am_room P a q = am_fst (am_rmq P q) (64 - i) i) → ∀ (H : Heap) (locs : List Loc), va_P D am_cl (am_M bd dN P O) H → va_S (fun _ => False) s.heap H locs → ∀ ls : Array Slot, lv_has ls 4 [(0, .ref (bd 0)), (1, .int (nI a)), (2, .int (nI q)), (3, .int (nI i))] → W p l e (am_rm 1) s m args below meth c H locs 0 0 (am_QR below (fun r => r = am_op (am_room P a q) (-1)) args s) (F0 m 2 ls []) := by
    intro N
    induction N with
    | zero =>
      intro i hi hN hf
      exfalso
      omega
    | succ N ih =>
      intro i hi hN hf H locs hP hS ls hl
      refine lv_iload_n hx hb dX1_room_2 rfl (lv_at hl 3 rfl) ?_
      refine lv_bipush (v := nI 64) hx hb dX1_room_3 (by decide +kernel) ?_
      refine am_icmp_ge (tgt := 34) hx hb (by omega) (by omega) dX1_room_5 (by decide) (fun c5 => ?_) (fun c5 => ?_)
      · refine lv_iconst (v := (-1)) hx hb dX1_room_34 (by decide +kernel) ?_
        exact am_iret X hS dX1_room_35 (by rw [am_fst_end c5 hf]; rfl)
      · refine lv_aload_n hx hb dX1_room_8 rfl (lv_at hl 0 rfl) ?_
        refine lv_iload_n hx hb dX1_room_9 rfl (lv_at hl 3 rfl) ?_
        refine lv_iload_n hx hb dX1_room_10 rfl (lv_at hl 2 rfl) ?_
        refine am_callV (mt_X1_proper l D bd dN P O (nI i) (nI q)) lk_X1_20 X hl.1 hP hK rfl rfl rfl hP hS ⟨by decide, by decide⟩ ⟨Nat.zero_le _, Nat.zero_le _⟩ (by decide) dX1_room_11 rfl (fun rp H locs hq hP hS => ?_)
        refine lv_if_eq (tgt := 28) hx hb dX1_room_14 (by decide) (fun c14 => ?_) (fun c14 => ?_)
        · refine lv_iinc (v := nI (i + 1)) (lv' := [(3, .int (nI (i + 1))), (0, .ref (bd 0)), (1, .int (nI a)), (2, .int (nI q))]) hx hb dX1_room_28 hl (k := 3) rfl (nI_1 _) (by decide) rfl (fun ls hl => ?_)
          refine lv_goto (tgt := 2) hx hb dX1_room_31 (by decide) ?_
          exact ih (i + 1) (by omega) (by omega) (am_fst_go (by omega) (am_rmq_far (fun z => hq.f c14 (am_okp_i hq1 z))) hf) _ _ hP hS ls (lv_sub hl [1, 2, 3, 0] rfl)
        · have hle := am_okp_le (hq.t c14) (by omega) hq31
          have hus : am_us P i (i + q) ≤ 64 := Nat.le_trans (am_cw_le 64) (by omega)
          refine lv_aload_n hx hb dX1_room_17 rfl (lv_at hl 0 rfl) ?_
          refine lv_iload_n hx hb dX1_room_18 rfl (lv_at hl 3 rfl) ?_
          refine lv_iload_n hx hb dX1_room_19 rfl (lv_at hl 2 rfl) ?_
          refine am_callV (mt_X1_used l D bd dN P O hB i q (by omega)) lk_X1_24 X hl.1 hP hK rfl rfl rfl hP hS ⟨by decide, by decide⟩ ⟨Nat.zero_le _, Nat.zero_le _⟩ (by decide) dX1_room_20 rfl (fun r H locs hp hP hS => ?_)
          subst hp
          refine am_if_ne (tgt := 28) hx hb (by omega) dX1_room_23 (by decide) (fun c23 => ?_) (fun c23 => ?_)
          · refine lv_iinc (v := nI (i + 1)) (lv' := [(3, .int (nI (i + 1))), (0, .ref (bd 0)), (1, .int (nI a)), (2, .int (nI q))]) hx hb dX1_room_28 hl (k := 3) rfl (nI_1 _) (by decide) rfl (fun ls hl => ?_)
            refine lv_goto (tgt := 2) hx hb dX1_room_31 (by decide) ?_
            exact ih (i + 1) (by omega) (by omega) (am_fst_go (by omega) (am_rmq_f c23) hf) _ _ hP hS ls (lv_sub hl [1, 2, 3, 0] rfl)
          · refine lv_iload_n hx hb dX1_room_26 rfl (lv_at hl 3 rfl) ?_
            exact am_iret X hS dX1_room_27 (by rw [am_fst_hit (by omega) (am_rmq_t hle c23) hf]; rfl)
  exact loop 65 a ha (by omega) rfl _ _ hP hS ls (lv_sub hl [1, 2, 3, 0] rfl)
set_option maxHeartbeats 4000000 in
set_option maxRecDepth 100000 in
theorem mt_X1_rights (l : Launch) (D : va_G) (bd : Nat → Nat) (dN : ClassId) (P O : Nat → Nat) (hB : ∀ j, j < 64 → P j ≤ 128) (x : Int32) : am_RO l yX1_rights cX1_rights 2 (some .int) 1 [.ref (bd 0), .int x] (am_pre D (am_M bd dN P O) [(dN, .int)]) (fun r => r = am_sRights P x) := by
  refine am_RO.intro RX1 rfl (by decide) (Nat.le_of_ble_eq_true rfl) ?_
  intro p e s m args below meth c X hpre ls hl
  obtain ⟨hP, hK⟩ := hpre
  have hx := X.1
  have hb := X.2.1
  have hS : va_S (fun _ => False) s.heap s.heap [] := va_S.rf
  have hl : lv_has ls 2 [(0, .ref (bd 0)), (1, .int x)] := hl
  refine lv_aload_n hx hb dX1_rights_0 rfl (lv_at hl 0 rfl) ?_
  refine lv_iload_n hx hb dX1_rights_1 rfl (lv_at hl 1 rfl) ?_
  refine am_callV (mt_X1_page l D bd dN P O (x)) lk_X1_42 X hl.1 hP hK rfl rfl rfl hP hS ⟨by decide, by decide⟩ ⟨Nat.zero_le _, Nat.zero_le _⟩ (by decide) dX1_rights_2 rfl (fun rp H locs hq hP hS => ?_)
  refine lv_if_ne (tgt := 12) hx hb dX1_rights_5 (by decide) (fun c5 => ?_) (fun c5 => ?_)
  · have hq := hq.t c5
    obtain ⟨a, rfl, ha⟩ := am_okg_n hq
    have hBa := hB a (by omega)
    refine lv_aload_n hx hb dX1_rights_12 rfl (lv_at hl 0 rfl) ?_
    refine am_gM_7 X hK hP dX1_rights_13 ?_
    refine lv_iload_n hx hb dX1_rights_16 rfl (lv_at hl 1 rfl) ?_
    refine am_lM_1 X hK hP (by omega) dX1_rights_17 ?_
    refine am_if_ne (tgt := 26) hx hb (by omega) dX1_rights_18 (by decide) (fun c18 => ?_) (fun c18 => ?_)
    · refine lv_aload_n hx hb dX1_rights_26 rfl (lv_at hl 0 rfl) ?_
      refine am_gM_7 X hK hP dX1_rights_27 ?_
      refine lv_iload_n hx hb dX1_rights_30 rfl (lv_at hl 1 rfl) ?_
      refine am_lM_1 X hK hP (by omega) dX1_rights_31 ?_
      refine lv_iconst (v := nI 1) hx hb dX1_rights_32 (by decide +kernel) ?_
      refine am_isub hx hb (by omega) dX1_rights_33 ?_
      refine lv_bipush (v := nI 7) hx hb dX1_rights_34 (by decide +kernel) ?_
      refine lv_iand hx hb dX1_rights_36 ?_
      refine am_top (y := nI ((P a - 1) % 8)) (am_k7 (by omega)) ?_
      exact am_iret X hS dX1_rights_37 (am_sRights_k ha (by omega))
    · refine lv_bipush (v := (-3)) hx hb dX1_rights_21 (by decide +kernel) ?_
      refine lv_goto (tgt := 37) hx hb dX1_rights_23 (by decide) ?_
      exact am_iret X hS dX1_rights_37 (am_sRights_n ha c18)
  · refine lv_iconst (v := (-1)) hx hb dX1_rights_8 (by decide +kernel) ?_
    refine lv_goto (tgt := 37) hx hb dX1_rights_9 (by decide) ?_
    exact am_iret X hS dX1_rights_37 (am_sRights_bad (hq.f c5))
set_option maxHeartbeats 4000000 in
set_option maxRecDepth 100000 in
theorem mt_X1_tag (l : Launch) (D : va_G) (bd : Nat → Nat) (dN : ClassId) (P O : Nat → Nat) (hB : ∀ j, j < 64 → P j ≤ 128) (x : Int32) : am_RO l yX1_tag cX1_tag 2 (some .int) 1 [.ref (bd 0), .int x] (am_pre D (am_M bd dN P O) [(dN, .int)]) (fun r => r = am_sTag P x) := by
  refine am_RO.intro RX1 rfl (by decide) (Nat.le_of_ble_eq_true rfl) ?_
  intro p e s m args below meth c X hpre ls hl
  obtain ⟨hP, hK⟩ := hpre
  have hx := X.1
  have hb := X.2.1
  have hS : va_S (fun _ => False) s.heap s.heap [] := va_S.rf
  have hl : lv_has ls 2 [(0, .ref (bd 0)), (1, .int x)] := hl
  refine lv_aload_n hx hb dX1_tag_0 rfl (lv_at hl 0 rfl) ?_
  refine lv_iload_n hx hb dX1_tag_1 rfl (lv_at hl 1 rfl) ?_
  refine am_callV (mt_X1_page l D bd dN P O (x)) lk_X1_42 X hl.1 hP hK rfl rfl rfl hP hS ⟨by decide, by decide⟩ ⟨Nat.zero_le _, Nat.zero_le _⟩ (by decide) dX1_tag_2 rfl (fun rp H locs hq hP hS => ?_)
  refine lv_if_ne (tgt := 12) hx hb dX1_tag_5 (by decide) (fun c5 => ?_) (fun c5 => ?_)
  · have hq := hq.t c5
    obtain ⟨a, rfl, ha⟩ := am_okg_n hq
    have hBa := hB a (by omega)
    refine lv_aload_n hx hb dX1_tag_12 rfl (lv_at hl 0 rfl) ?_
    refine am_gM_7 X hK hP dX1_tag_13 ?_
    refine lv_iload_n hx hb dX1_tag_16 rfl (lv_at hl 1 rfl) ?_
    refine am_lM_1 X hK hP (by omega) dX1_tag_17 ?_
    refine am_if_ne (tgt := 26) hx hb (by omega) dX1_tag_18 (by decide) (fun c18 => ?_) (fun c18 => ?_)
    · refine lv_aload_n hx hb dX1_tag_26 rfl (lv_at hl 0 rfl) ?_
      refine am_gM_7 X hK hP dX1_tag_27 ?_
      refine lv_iload_n hx hb dX1_tag_30 rfl (lv_at hl 1 rfl) ?_
      refine am_lM_1 X hK hP (by omega) dX1_tag_31 ?_
      refine lv_iconst (v := nI 1) hx hb dX1_tag_32 (by decide +kernel) ?_
      refine am_isub hx hb (by omega) dX1_tag_33 ?_
      refine lv_iconst (v := nI 3) hx hb dX1_tag_34 (by decide +kernel) ?_
      refine lv_ishr hx hb dX1_tag_35 ?_
      refine am_top (y := nI ((P a - 1) / 8)) (am_k3 (by omega)) ?_
      exact am_iret X hS dX1_tag_36 (am_sTag_k ha (by omega))
    · refine lv_bipush (v := (-3)) hx hb dX1_tag_21 (by decide +kernel) ?_
      refine lv_goto (tgt := 36) hx hb dX1_tag_23 (by decide) ?_
      exact am_iret X hS dX1_tag_36 (am_sTag_n ha c18)
  · refine lv_iconst (v := (-1)) hx hb dX1_tag_8 (by decide +kernel) ?_
    refine lv_goto (tgt := 36) hx hb dX1_tag_9 (by decide) ?_
    exact am_iret X hS dX1_tag_36 (am_sTag_bad (hq.f c5))
set_option maxHeartbeats 4000000 in
set_option maxRecDepth 100000 in
theorem mt_X1_areaLength (l : Launch) (D : va_G) (bd : Nat → Nat) (dN : ClassId) (P O : Nat → Nat) (hB : ∀ j, j < 64 → P j ≤ 128) (x : Int32) : am_RO l yX1_areaLength cX1_areaLength 4 (some .int) 2 [.ref (bd 0), .int x] (am_pre D (am_M bd dN P O) [(dN, .int)]) (fun r => r = am_sLen P x) := by
  refine am_RO.intro RX1 rfl (by decide) (Nat.le_of_ble_eq_true rfl) ?_
  intro p e s m args below meth c X hpre ls hl
  obtain ⟨hP, hK⟩ := hpre
  have hx := X.1
  have hb := X.2.1
  have hS : va_S (fun _ => False) s.heap s.heap [] := va_S.rf
  have hl : lv_has ls 4 [(0, .ref (bd 0)), (1, .int x)] := hl
  refine lv_aload_n hx hb dX1_areaLength_0 rfl (lv_at hl 0 rfl) ?_
  refine lv_iload_n hx hb dX1_areaLength_1 rfl (lv_at hl 1 rfl) ?_
  refine am_callV (mt_X1_areaFirst l D bd dN P O hB (x)) lk_X1_49 X hl.1 hP hK rfl rfl rfl hP hS ⟨by decide, by decide⟩ ⟨Nat.zero_le _, Nat.zero_le _⟩ (by decide) dX1_areaLength_2 rfl (fun r H locs hp hP hS => ?_)
  cases hro : am_fst (am_nth P x) 64 0 with
  | none =>
    have hp : r = -3 := hp.trans (am_sFirst_n hro).symm
    subst hp
    refine lv_istore_n (lv' := [(2, .int (-3)), (0, .ref (bd 0)), (1, .int x)]) hx hb dX1_areaLength_5 rfl hl (by decide) rfl (fun ls hl => ?_)
    refine lv_iload_n hx hb dX1_areaLength_6 rfl (lv_at hl 0 rfl) ?_
    refine lv_if_ge (tgt := 15) hx hb dX1_areaLength_7 (by decide) (fun c7 => ?_) (fun c7 => ?_)
    · exact absurd c7 (by decide)
    · refine lv_bipush (v := nI 64) hx hb dX1_areaLength_10 (by decide +kernel) ?_
      refine lv_goto (tgt := 16) hx hb dX1_areaLength_12 (by decide) ?_
      refine lv_istore_n (lv' := [(3, .int (nI 64)), (2, .int (-3)), (0, .ref (bd 0)), (1, .int x)]) hx hb dX1_areaLength_16 rfl hl (by decide) rfl (fun ls hl => ?_)
      refine lv_iload_n hx hb dX1_areaLength_17 rfl (lv_at hl 0 rfl) ?_
      refine lv_bipush (v := nI 64) hx hb dX1_areaLength_18 (by decide +kernel) ?_
      refine am_icmp_ge (tgt := 44) hx hb (by omega) (by omega) dX1_areaLength_20 (by decide) (fun c20 => ?_) (fun c20 => ?_)
      · refine lv_iload_n hx hb dX1_areaLength_44 rfl (lv_at hl 1 rfl) ?_
        refine lv_if_ge (tgt := 53) hx hb dX1_areaLength_45 (by decide) (fun c45 => ?_) (fun c45 => ?_)
        · exact absurd c45 (by decide)
        · refine lv_bipush (v := (-3)) hx hb dX1_areaLength_48 (by decide +kernel) ?_
          refine lv_goto (tgt := 56) hx hb dX1_areaLength_50 (by decide) ?_
          exact am_iret X hS dX1_areaLength_56 (am_sLen_n hro)
      · exact absurd c20 (by decide)
  | some b =>
    have hp : r = nI b := hp.trans (am_sFirst_k hro).symm
    subst hp
    have hb64 := am_fst_lt _ _ hro
    have hBb := hB b (by omega)
    refine lv_istore_n (lv' := [(2, .int (nI b)), (0, .ref (bd 0)), (1, .int x)]) hx hb dX1_areaLength_5 rfl hl (by decide) rfl (fun ls hl => ?_)
    refine lv_iload_n hx hb dX1_areaLength_6 rfl (lv_at hl 0 rfl) ?_
    refine am_if_ge (tgt := 15) hx hb (by omega) dX1_areaLength_7 (by decide) ?_
    refine lv_iload_n hx hb dX1_areaLength_15 rfl (lv_at hl 0 rfl) ?_
    refine lv_istore_n (lv' := [(3, .int (nI b)), (2, .int (nI b)), (0, .ref (bd 0)), (1, .int x)]) hx hb dX1_areaLength_16 rfl hl (by decide) rfl (fun ls hl => ?_)
    have loop : ∀ (N : Nat) (i : Nat), (b ≤ i) → (i ≤ 64) → (64 < i + N) → (am_fst (fun j => decide (P j ≠ P b)) (64 - b) b = am_fst (fun j => decide (P j ≠ P b)) (64 - i) i) → ∀ (H : Heap) (locs : List Loc), va_P D am_cl (am_M bd dN P O) H → va_S (fun _ => False) s.heap H locs → ∀ ls : Array Slot, lv_has ls 4 [(0, .ref (bd 0)), (1, .int x), (2, .int (nI b)), (3, .int (nI i))] → W p l e (am_rm 2) s m args below meth c H locs 0 0 (am_QR below (fun r => r = am_sLen P x) args s) (F0 m 17 ls []) := by
      intro N
      induction N with
      | zero =>
        intro i hbi hi hN hf
        exfalso
        omega
      | succ N ih =>
        intro i hbi hi hN hf H locs hP hS ls hl
        refine lv_iload_n hx hb dX1_areaLength_17 rfl (lv_at hl 3 rfl) ?_
        refine lv_bipush (v := nI 64) hx hb dX1_areaLength_18 (by decide +kernel) ?_
        refine am_icmp_ge (tgt := 44) hx hb (by omega) (by omega) dX1_areaLength_20 (by decide) (fun c20 => ?_) (fun c20 => ?_)
        · refine lv_iload_n hx hb dX1_areaLength_44 rfl (lv_at hl 2 rfl) ?_
          refine am_if_ge (tgt := 53) hx hb (by omega) dX1_areaLength_45 (by decide) ?_
          refine lv_iload_n hx hb dX1_areaLength_53 rfl (lv_at hl 3 rfl) ?_
          refine lv_iload_n hx hb dX1_areaLength_54 rfl (lv_at hl 2 rfl) ?_
          refine am_isub hx hb (by omega) dX1_areaLength_55 ?_
          exact am_iret X hS dX1_areaLength_56 (by rw [show i = 64 by omega]; exact am_sLen_k hro (am_end_n (am_fst_end c20 hf).symm))
        · have hBi := hB i (by omega)
          refine lv_aload_n hx hb dX1_areaLength_23 rfl (lv_at hl 0 rfl) ?_
          refine am_gM_7 X hK hP dX1_areaLength_24 ?_
          refine lv_iload_n hx hb dX1_areaLength_27 rfl (lv_at hl 3 rfl) ?_
          refine am_lM_1 X hK hP (by omega) dX1_areaLength_28 ?_
          refine lv_aload_n hx hb dX1_areaLength_29 rfl (lv_at hl 0 rfl) ?_
          refine am_gM_7 X hK hP dX1_areaLength_30 ?_
          refine lv_iload_n hx hb dX1_areaLength_33 rfl (lv_at hl 2 rfl) ?_
          refine am_lM_1 X hK hP (by omega) dX1_areaLength_34 ?_
          refine am_icmp_ne (tgt := 44) hx hb (by omega) (by omega) dX1_areaLength_35 (by decide) (fun c35 => ?_) (fun c35 => ?_)
          · refine lv_iload_n hx hb dX1_areaLength_44 rfl (lv_at hl 2 rfl) ?_
            refine am_if_ge (tgt := 53) hx hb (by omega) dX1_areaLength_45 (by decide) ?_
            refine lv_iload_n hx hb dX1_areaLength_53 rfl (lv_at hl 3 rfl) ?_
            refine lv_iload_n hx hb dX1_areaLength_54 rfl (lv_at hl 2 rfl) ?_
            refine am_isub hx hb (by omega) dX1_areaLength_55 ?_
            exact am_iret X hS dX1_areaLength_56 (am_sLen_k hro (am_end_s (am_fst_hit (by omega) (decide_eq_true c35) hf).symm))
          · refine lv_iinc (v := nI (i + 1)) (lv' := [(3, .int (nI (i + 1))), (0, .ref (bd 0)), (1, .int x), (2, .int (nI b))]) hx hb dX1_areaLength_38 hl (k := 3) rfl (nI_1 _) (by decide) rfl (fun ls hl => ?_)
            refine lv_goto (tgt := 17) hx hb dX1_areaLength_41 (by decide) ?_
            exact ih (i + 1) (by omega) (by omega) (by omega) (am_fst_go (by omega) (by rw [c35]; exact decide_eq_false (fun z => z rfl)) hf) _ _ hP hS ls (lv_sub hl [1, 2, 3, 0] rfl)
    exact loop 65 b (Nat.le_refl _) (by omega) (by omega) rfl _ _ hP hS ls (lv_sub hl [2, 3, 1, 0] rfl)
set_option maxHeartbeats 4000000 in
set_option maxRecDepth 100000 in
theorem mt_X1_areaOf (l : Launch) (D : va_G) (bd : Nat → Nat) (dN : ClassId) (P O : Nat → Nat) (hB : ∀ j, j < 64 → P j ≤ 128) (x : Int32) : am_RO l yX1_areaOf cX1_areaOf 4 (some .int) 1 [.ref (bd 0), .int x] (am_pre D (am_M bd dN P O) [(dN, .int)]) (fun r => r = am_sOf P x) := by
  refine am_RO.intro RX1 rfl (by decide) (Nat.le_of_ble_eq_true rfl) ?_
  intro p e s m args below meth c X hpre ls hl
  obtain ⟨hP, hK⟩ := hpre
  have hx := X.1
  have hb := X.2.1
  have hS : va_S (fun _ => False) s.heap s.heap [] := va_S.rf
  have hl : lv_has ls 4 [(0, .ref (bd 0)), (1, .int x)] := hl
  refine lv_aload_n hx hb dX1_areaOf_0 rfl (lv_at hl 0 rfl) ?_
  refine lv_iload_n hx hb dX1_areaOf_1 rfl (lv_at hl 1 rfl) ?_
  refine am_callV (mt_X1_page l D bd dN P O (x)) lk_X1_42 X hl.1 hP hK rfl rfl rfl hP hS ⟨by decide, by decide⟩ ⟨Nat.zero_le _, Nat.zero_le _⟩ (by decide) dX1_areaOf_2 rfl (fun rp H locs hq hP hS => ?_)
  refine lv_if_eq (tgt := 17) hx hb dX1_areaOf_5 (by decide) (fun c5 => ?_) (fun c5 => ?_)
  · refine lv_bipush (v := (-3)) hx hb dX1_areaOf_17 (by decide +kernel) ?_
    exact am_iret X hS dX1_areaOf_19 (am_sOf_bad (hq.f c5))
  · have hq := hq.t c5
    obtain ⟨a, rfl, ha⟩ := am_okg_n hq
    have hBa := hB a (by omega)
    refine lv_aload_n hx hb dX1_areaOf_8 rfl (lv_at hl 0 rfl) ?_
    refine am_gM_7 X hK hP dX1_areaOf_9 ?_
    refine lv_iload_n hx hb dX1_areaOf_12 rfl (lv_at hl 1 rfl) ?_
    refine am_lM_1 X hK hP (by omega) dX1_areaOf_13 ?_
    refine am_if_ne (tgt := 20) hx hb (by omega) dX1_areaOf_14 (by decide) (fun c14 => ?_) (fun c14 => ?_)
    · refine lv_iconst (v := (-1)) hx hb dX1_areaOf_20 (by decide +kernel) ?_
      refine am_top (y := nI 0 - nI 1) (am_m1) ?_
      refine lv_istore_n (lv' := [(2, .int (nI 0 - nI 1)), (0, .ref (bd 0)), (1, .int (nI a))]) hx hb dX1_areaOf_21 rfl hl (by decide) rfl (fun ls hl => ?_)
      refine lv_iconst (v := nI 0) hx hb dX1_areaOf_22 (by decide +kernel) ?_
      refine lv_istore_n (lv' := [(3, .int (nI 0)), (2, .int (nI 0 - nI 1)), (0, .ref (bd 0)), (1, .int (nI a))]) hx hb dX1_areaOf_23 rfl hl (by decide) rfl (fun ls hl => ?_)
      have loop : ∀ (N : Nat) (i : Nat) (cn : Nat), (i ≤ a + 1) → (a + 1 < i + N) → (cn = am_cnt (am_beg P) i) → ∀ (H : Heap) (locs : List Loc), va_P D am_cl (am_M bd dN P O) H → va_S (fun _ => False) s.heap H locs → ∀ ls : Array Slot, lv_has ls 4 [(0, .ref (bd 0)), (1, .int (nI a)), (2, .int (nI cn - nI 1)), (3, .int (nI i))] → W p l e (am_rm 1) s m args below meth c H locs 0 0 (am_QR below (fun r => r = am_sOf P (nI a)) args s) (F0 m 24 ls []) := by
        intro N
        induction N with
        | zero =>
          intro i cn hi hN hcn
          exfalso
          omega
        | succ N ih =>
          intro i cn hi hN hcn H locs hP hS ls hl
          refine lv_iload_n hx hb dX1_areaOf_24 rfl (lv_at hl 3 rfl) ?_
          refine lv_iload_n hx hb dX1_areaOf_25 rfl (lv_at hl 1 rfl) ?_
          refine am_icmp_gt (tgt := 51) hx hb (by omega) (by omega) dX1_areaOf_26 (by decide) (fun c26 => ?_) (fun c26 => ?_)
          · refine lv_iload_n hx hb dX1_areaOf_51 rfl (lv_at hl 2 rfl) ?_
            exact am_iret X hS dX1_areaOf_52 (am_of_ret hcn (by omega) ha c14)
          · refine lv_aload_n hx hb dX1_areaOf_29 rfl (lv_at hl 0 rfl) ?_
            refine lv_iload_n hx hb dX1_areaOf_30 rfl (lv_at hl 3 rfl) ?_
            refine am_callV (mt_X1_begins l D bd dN P O hB i (by omega)) lk_X1_46 X hl.1 hP hK rfl rfl rfl hP hS ⟨by decide, by decide⟩ ⟨Nat.zero_le _, Nat.zero_le _⟩ (by decide) dX1_areaOf_31 rfl (fun rb H locs hbg hP hS => ?_)
            refine lv_if_eq (tgt := 43) hx hb dX1_areaOf_34 (by decide) (fun c34 => ?_) (fun c34 => ?_)
            · refine lv_iload_n hx hb dX1_areaOf_43 rfl (lv_at hl 2 rfl) ?_
              refine lv_istore_n (lv' := [(2, .int (nI cn - nI 1)), (0, .ref (bd 0)), (1, .int (nI a)), (3, .int (nI i))]) hx hb dX1_areaOf_44 rfl hl (by decide) rfl (fun ls hl => ?_)
              refine lv_iinc (v := nI (i + 1)) (lv' := [(3, .int (nI (i + 1))), (2, .int (nI cn - nI 1)), (0, .ref (bd 0)), (1, .int (nI a))]) hx hb dX1_areaOf_45 hl (k := 3) rfl (nI_1 _) (by decide) rfl (fun ls hl => ?_)
              refine lv_goto (tgt := 24) hx hb dX1_areaOf_48 (by decide) ?_
              exact ih (i + 1) (cn) (by omega) (by omega) (am_cnt_f hcn (hbg.f c34)) _ _ hP hS ls (lv_sub hl [2, 3, 1, 0] rfl)
            · refine lv_iload_n hx hb dX1_areaOf_37 rfl (lv_at hl 2 rfl) ?_
              refine lv_iconst (v := nI 1) hx hb dX1_areaOf_38 (by decide +kernel) ?_
              refine lv_iadd hx hb dX1_areaOf_39 ?_
              refine am_top (y := nI (cn + 1) - nI 1) (am_inc1 cn) ?_
              refine lv_goto (tgt := 44) hx hb dX1_areaOf_40 (by decide) ?_
              refine lv_istore_n (lv' := [(2, .int (nI (cn + 1) - nI 1)), (0, .ref (bd 0)), (1, .int (nI a)), (3, .int (nI i))]) hx hb dX1_areaOf_44 rfl hl (by decide) rfl (fun ls hl => ?_)
              refine lv_iinc (v := nI (i + 1)) (lv' := [(3, .int (nI (i + 1))), (2, .int (nI (cn + 1) - nI 1)), (0, .ref (bd 0)), (1, .int (nI a))]) hx hb dX1_areaOf_45 hl (k := 3) rfl (nI_1 _) (by decide) rfl (fun ls hl => ?_)
              refine lv_goto (tgt := 24) hx hb dX1_areaOf_48 (by decide) ?_
              exact ih (i + 1) (cn + 1) (by omega) (by omega) (am_cnt_t hcn (hbg.t c34)) _ _ hP hS ls (lv_sub hl [2, 3, 1, 0] rfl)
      exact loop (a + 2) 0 0 (by omega) (by omega) rfl _ _ hP hS ls (lv_sub hl [2, 3, 1, 0] rfl)
    · refine lv_bipush (v := (-3)) hx hb dX1_areaOf_17 (by decide +kernel) ?_
      exact am_iret X hS dX1_areaOf_19 (am_sOf_n ha c14)
set_option maxHeartbeats 4000000 in
set_option maxRecDepth 100000 in
theorem mt_X1_mapped (l : Launch) (D : va_G) (bd : Nat → Nat) (dN : ClassId) (P O : Nat → Nat) (hB : ∀ j, j < 64 → P j ≤ 128) : am_RO l yX1_mapped cX1_mapped 1 (some .int) 1 [.ref (bd 0)] (am_pre D (am_M bd dN P O) [(dN, .int)]) (fun r => r = nI (am_us P 0 64)) := by
  refine am_RO.intro RX1 rfl (by decide) (Nat.le_of_ble_eq_true rfl) ?_
  intro p e s m args below meth c X hpre ls hl
  obtain ⟨hP, hK⟩ := hpre
  have hx := X.1
  have hb := X.2.1
  have hS : va_S (fun _ => False) s.heap s.heap [] := va_S.rf
  have hl : lv_has ls 1 [(0, .ref (bd 0))] := hl
  refine lv_aload_n hx hb dX1_mapped_0 rfl (lv_at hl 0 rfl) ?_
  refine lv_iconst (v := nI 0) hx hb dX1_mapped_1 (by decide +kernel) ?_
  refine lv_bipush (v := nI 64) hx hb dX1_mapped_2 (by decide +kernel) ?_
  refine am_callV (mt_X1_used l D bd dN P O hB 0 64 (by omega)) lk_X1_24 X hl.1 hP hK rfl rfl rfl hP hS ⟨by decide, by decide⟩ ⟨Nat.zero_le _, Nat.zero_le _⟩ (by decide) dX1_mapped_4 rfl (fun r H locs hp hP hS => ?_)
  subst hp
  exact am_iret X hS dX1_mapped_7 rfl
set_option maxHeartbeats 4000000 in
set_option maxRecDepth 100000 in
theorem mt_X1_longestFree (l : Launch) (D : va_G) (bd : Nat → Nat) (dN : ClassId) (P O : Nat → Nat) (hB : ∀ j, j < 64 → P j ≤ 128) : am_RO l yX1_longestFree cX1_longestFree 4 (some .int) 0 [.ref (bd 0)] (am_pre D (am_M bd dN P O) [(dN, .int)]) (fun r => r = nI (am_lf P 64).1) := by
  refine am_RO.intro RX1 rfl (by decide) (Nat.le_of_ble_eq_true rfl) ?_
  intro p e s m args below meth c X hpre ls hl
  obtain ⟨hP, hK⟩ := hpre
  have hx := X.1
  have hb := X.2.1
  have hS : va_S (fun _ => False) s.heap s.heap [] := va_S.rf
  have hl : lv_has ls 4 [(0, .ref (bd 0))] := hl
  refine lv_iconst (v := nI 0) hx hb dX1_longestFree_0 (by decide +kernel) ?_
  refine lv_istore_n (lv' := [(1, .int (nI 0)), (0, .ref (bd 0))]) hx hb dX1_longestFree_1 rfl hl (by decide) rfl (fun ls hl => ?_)
  refine lv_iconst (v := nI 0) hx hb dX1_longestFree_2 (by decide +kernel) ?_
  refine lv_istore_n (lv' := [(2, .int (nI 0)), (1, .int (nI 0)), (0, .ref (bd 0))]) hx hb dX1_longestFree_3 rfl hl (by decide) rfl (fun ls hl => ?_)
  refine lv_iconst (v := nI 0) hx hb dX1_longestFree_4 (by decide +kernel) ?_
  refine lv_istore_n (lv' := [(3, .int (nI 0)), (2, .int (nI 0)), (1, .int (nI 0)), (0, .ref (bd 0))]) hx hb dX1_longestFree_5 rfl hl (by decide) rfl (fun ls hl => ?_)
  have loop : ∀ (N : Nat) (i : Nat) (mo : Nat) (rn : Nat), (i ≤ 64) → (64 < i + N) → (mo ≤ i) → (rn ≤ i) → (am_lf P i = (mo, rn)) → ∀ (H : Heap) (locs : List Loc), va_P D am_cl (am_M bd dN P O) H → va_S (fun _ => False) s.heap H locs → ∀ ls : Array Slot, lv_has ls 4 [(0, .ref (bd 0)), (1, .int (nI mo)), (2, .int (nI rn)), (3, .int (nI i))] → W p l e (am_rm 0) s m args below meth c H locs 0 0 (am_QR below (fun r => r = nI (am_lf P 64).1) args s) (F0 m 6 ls []) := by
    intro N
    induction N with
    | zero =>
      intro i mo rn hi hN hmo hrn hlf
      exfalso
      omega
    | succ N ih =>
      intro i mo rn hi hN hmo hrn hlf H locs hP hS ls hl
      refine lv_iload_n hx hb dX1_longestFree_6 rfl (lv_at hl 3 rfl) ?_
      refine lv_bipush (v := nI 64) hx hb dX1_longestFree_7 (by decide +kernel) ?_
      refine am_icmp_ge (tgt := 46) hx hb (by omega) (by omega) dX1_longestFree_9 (by decide) (fun c9 => ?_) (fun c9 => ?_)
      · refine lv_iload_n hx hb dX1_longestFree_46 rfl (lv_at hl 1 rfl) ?_
        exact am_iret X hS dX1_longestFree_47 (by rw [show i = 64 by omega] at hlf; rw [hlf])
      · have hBi := hB i (by omega)
        refine lv_aload_n hx hb dX1_longestFree_12 rfl (lv_at hl 0 rfl) ?_
        refine am_gM_7 X hK hP dX1_longestFree_13 ?_
        refine lv_iload_n hx hb dX1_longestFree_16 rfl (lv_at hl 3 rfl) ?_
        refine am_lM_1 X hK hP (by omega) dX1_longestFree_17 ?_
        refine am_if_ne (tgt := 27) hx hb (by omega) dX1_longestFree_18 (by decide) (fun c18 => ?_) (fun c18 => ?_)
        · refine lv_iconst (v := nI 0) hx hb dX1_longestFree_27 (by decide +kernel) ?_
          refine lv_istore_n (lv' := [(2, .int (nI 0)), (0, .ref (bd 0)), (1, .int (nI mo)), (3, .int (nI i))]) hx hb dX1_longestFree_28 rfl hl (by decide) rfl (fun ls hl => ?_)
          refine lv_iload_n hx hb dX1_longestFree_29 rfl (lv_at hl 0 rfl) ?_
          refine lv_iload_n hx hb dX1_longestFree_30 rfl (lv_at hl 2 rfl) ?_
          refine am_icmp_le (tgt := 38) hx hb (by omega) (by omega) dX1_longestFree_31 (by decide) (fun c31 => ?_) (fun c31 => ?_)
          · refine lv_iload_n hx hb dX1_longestFree_38 rfl (lv_at hl 2 rfl) ?_
            refine lv_istore_n (lv' := [(1, .int (nI mo)), (2, .int (nI 0)), (0, .ref (bd 0)), (3, .int (nI i))]) hx hb dX1_longestFree_39 rfl hl (by decide) rfl (fun ls hl => ?_)
            refine lv_iinc (v := nI (i + 1)) (lv' := [(3, .int (nI (i + 1))), (1, .int (nI mo)), (2, .int (nI 0)), (0, .ref (bd 0))]) hx hb dX1_longestFree_40 hl (k := 3) rfl (nI_1 _) (by decide) rfl (fun ls hl => ?_)
            refine lv_goto (tgt := 6) hx hb dX1_longestFree_43 (by decide) ?_
            exact ih (i + 1) (mo) (0) (by omega) (by omega) (by omega) (by omega) (am_lf_f hlf c18) _ _ hP hS ls (lv_sub hl [3, 1, 2, 0] rfl)
          · exact absurd c31 (by omega)
        · refine lv_iload_n hx hb dX1_longestFree_21 rfl (lv_at hl 2 rfl) ?_
          refine lv_iconst (v := nI 1) hx hb dX1_longestFree_22 (by decide +kernel) ?_
          refine am_iadd hx hb dX1_longestFree_23 ?_
          refine lv_goto (tgt := 28) hx hb dX1_longestFree_24 (by decide) ?_
          refine lv_istore_n (lv' := [(2, .int (nI (rn + 1))), (0, .ref (bd 0)), (1, .int (nI mo)), (3, .int (nI i))]) hx hb dX1_longestFree_28 rfl hl (by decide) rfl (fun ls hl => ?_)
          refine lv_iload_n hx hb dX1_longestFree_29 rfl (lv_at hl 0 rfl) ?_
          refine lv_iload_n hx hb dX1_longestFree_30 rfl (lv_at hl 2 rfl) ?_
          refine am_icmp_le (tgt := 38) hx hb (by omega) (by omega) dX1_longestFree_31 (by decide) (fun c31 => ?_) (fun c31 => ?_)
          · refine lv_iload_n hx hb dX1_longestFree_38 rfl (lv_at hl 2 rfl) ?_
            refine lv_istore_n (lv' := [(1, .int (nI mo)), (2, .int (nI (rn + 1))), (0, .ref (bd 0)), (3, .int (nI i))]) hx hb dX1_longestFree_39 rfl hl (by decide) rfl (fun ls hl => ?_)
            refine lv_iinc (v := nI (i + 1)) (lv' := [(3, .int (nI (i + 1))), (1, .int (nI mo)), (2, .int (nI (rn + 1))), (0, .ref (bd 0))]) hx hb dX1_longestFree_40 hl (k := 3) rfl (nI_1 _) (by decide) rfl (fun ls hl => ?_)
            refine lv_goto (tgt := 6) hx hb dX1_longestFree_43 (by decide) ?_
            exact ih (i + 1) (mo) (rn + 1) (by omega) (by omega) (by omega) (by omega) (by rw [am_lf_t hlf c18, Nat.max_eq_left (by omega)]) _ _ hP hS ls (lv_sub hl [3, 1, 2, 0] rfl)
          · refine lv_iload_n hx hb dX1_longestFree_34 rfl (lv_at hl 0 rfl) ?_
            refine lv_goto (tgt := 39) hx hb dX1_longestFree_35 (by decide) ?_
            refine lv_istore_n (lv' := [(1, .int (nI (rn + 1))), (2, .int (nI (rn + 1))), (0, .ref (bd 0)), (3, .int (nI i))]) hx hb dX1_longestFree_39 rfl hl (by decide) rfl (fun ls hl => ?_)
            refine lv_iinc (v := nI (i + 1)) (lv' := [(3, .int (nI (i + 1))), (1, .int (nI (rn + 1))), (2, .int (nI (rn + 1))), (0, .ref (bd 0))]) hx hb dX1_longestFree_40 hl (k := 3) rfl (nI_1 _) (by decide) rfl (fun ls hl => ?_)
            refine lv_goto (tgt := 6) hx hb dX1_longestFree_43 (by decide) ?_
            exact ih (i + 1) (rn + 1) (rn + 1) (by omega) (by omega) (by omega) (by omega) (by rw [am_lf_t hlf c18, Nat.max_eq_right (by omega)]) _ _ hP hS ls (lv_sub hl [3, 1, 2, 0] rfl)
  exact loop 65 0 0 0 (by omega) (by omega) (by omega) (by omega) rfl _ _ hP hS ls (lv_sub hl [3, 2, 1, 0] rfl)
set_option maxHeartbeats 4000000 in
set_option maxRecDepth 100000 in
theorem mt_X1_allows (l : Launch) (D : va_G) (bd : Nat → Nat) (dN : ClassId) (P O : Nat → Nat) (hB : ∀ j, j < 64 → P j ≤ 128) (x y z : Int32) : am_RO l yX1_allows cX1_allows 6 (some .boolean) 1 [.ref (bd 0), .int x, .int y, .int z] (am_pre D (am_M bd dN P O) [(dN, .int)]) (fun r => r = am_sAllow P x y z) := by
  refine am_RO.intro RX1 rfl (by decide) (Nat.le_of_ble_eq_true rfl) ?_
  intro p e s m args below meth c X hpre ls hl
  obtain ⟨hP, hK⟩ := hpre
  have hx := X.1
  have hb := X.2.1
  have hS : va_S (fun _ => False) s.heap s.heap [] := va_S.rf
  have hl : lv_has ls 6 [(0, .ref (bd 0)), (1, .int x), (2, .int y), (3, .int z)] := hl
  refine lv_aload_n hx hb dX1_allows_0 rfl (lv_at hl 0 rfl) ?_
  refine lv_iload_n hx hb dX1_allows_1 rfl (lv_at hl 1 rfl) ?_
  refine lv_iload_n hx hb dX1_allows_2 rfl (lv_at hl 2 rfl) ?_
  refine am_callV (mt_X1_proper l D bd dN P O (x) (y)) lk_X1_20 X hl.1 hP hK rfl rfl rfl hP hS ⟨by decide, by decide⟩ ⟨Nat.zero_le _, Nat.zero_le _⟩ (by decide) dX1_allows_3 rfl (fun rp H locs hq hP hS => ?_)
  refine lv_if_eq (tgt := 23) hx hb dX1_allows_6 (by decide) (fun c6 => ?_) (fun c6 => ?_)
  · refine lv_iconst (v := nI 0) hx hb dX1_allows_23 (by decide +kernel) ?_
    refine lv_istore (lv' := [(4, .int (nI 0)), (0, .ref (bd 0)), (1, .int x), (2, .int y), (3, .int z)]) hx hb dX1_allows_24 hl (by decide) rfl (fun ls hl => ?_)
    refine lv_iload_n hx hb dX1_allows_26 rfl (lv_at hl 2 rfl) ?_
    refine lv_istore (lv' := [(5, .int x), (4, .int (nI 0)), (0, .ref (bd 0)), (1, .int x), (2, .int y), (3, .int z)]) hx hb dX1_allows_27 hl (by decide) rfl (fun ls hl => ?_)
    refine lv_iload hx hb dX1_allows_29 (lv_at hl 1 rfl) ?_
    refine am_if_eq (tgt := 81) hx hb (by omega) dX1_allows_31 (by decide) (fun c31 => ?_) (fun c31 => ?_)
    · refine lv_iload hx hb dX1_allows_81 (lv_at hl 1 rfl) ?_
      exact am_zret X hS dX1_allows_83 (Or.inl nI_0) (am_sAllow_0 (fun h => hq.f c6 h.1))
    · exact absurd c31 (by decide)
  · have hq := hq.t c6
    obtain ⟨a, q, rfl, rfl, hq1, haq⟩ := am_okp_n hq
    refine lv_iload_n hx hb dX1_allows_9 rfl (lv_at hl 3 rfl) ?_
    refine lv_if_lt (tgt := 23) hx hb dX1_allows_10 (by decide) (fun c10 => ?_) (fun c10 => ?_)
    · refine lv_iconst (v := nI 0) hx hb dX1_allows_23 (by decide +kernel) ?_
      refine lv_istore (lv' := [(4, .int (nI 0)), (0, .ref (bd 0)), (1, .int (nI a)), (2, .int (nI q)), (3, .int z)]) hx hb dX1_allows_24 hl (by decide) rfl (fun ls hl => ?_)
      refine lv_iload_n hx hb dX1_allows_26 rfl (lv_at hl 2 rfl) ?_
      refine lv_istore (lv' := [(5, .int (nI a)), (4, .int (nI 0)), (0, .ref (bd 0)), (1, .int (nI a)), (2, .int (nI q)), (3, .int z)]) hx hb dX1_allows_27 hl (by decide) rfl (fun ls hl => ?_)
      refine lv_iload hx hb dX1_allows_29 (lv_at hl 1 rfl) ?_
      refine am_if_eq (tgt := 81) hx hb (by omega) dX1_allows_31 (by decide) (fun c31 => ?_) (fun c31 => ?_)
      · refine lv_iload hx hb dX1_allows_81 (lv_at hl 1 rfl) ?_
        exact am_zret X hS dX1_allows_83 (Or.inl nI_0) (am_sAllow_0 (fun h => by have := am_lt0.mp c10; have := h.2.1; omega))
      · exact absurd c31 (by decide)
    · obtain ⟨w, hw, rfl⟩ := nI_of c10
      refine lv_iload_n hx hb dX1_allows_13 rfl (lv_at hl 3 rfl) ?_
      refine lv_bipush (v := nI 7) hx hb dX1_allows_14 (by decide +kernel) ?_
      refine am_icmp_gt (tgt := 23) hx hb (by omega) (by omega) dX1_allows_16 (by decide) (fun c16 => ?_) (fun c16 => ?_)
      · refine lv_iconst (v := nI 0) hx hb dX1_allows_23 (by decide +kernel) ?_
        refine lv_istore (lv' := [(4, .int (nI 0)), (0, .ref (bd 0)), (1, .int (nI a)), (2, .int (nI q)), (3, .int (nI w))]) hx hb dX1_allows_24 hl (by decide) rfl (fun ls hl => ?_)
        refine lv_iload_n hx hb dX1_allows_26 rfl (lv_at hl 2 rfl) ?_
        refine lv_istore (lv' := [(5, .int (nI a)), (4, .int (nI 0)), (0, .ref (bd 0)), (1, .int (nI a)), (2, .int (nI q)), (3, .int (nI w))]) hx hb dX1_allows_27 hl (by decide) rfl (fun ls hl => ?_)
        refine lv_iload hx hb dX1_allows_29 (lv_at hl 1 rfl) ?_
        refine am_if_eq (tgt := 81) hx hb (by omega) dX1_allows_31 (by decide) (fun c31 => ?_) (fun c31 => ?_)
        · refine lv_iload hx hb dX1_allows_81 (lv_at hl 1 rfl) ?_
          exact am_zret X hS dX1_allows_83 (Or.inl nI_0) (am_sAllow_0 (fun h => by have h2 := h.2.2; rw [nI_toInt hw] at h2; omega))
        · exact absurd c31 (by decide)
      · refine lv_iconst (v := nI 1) hx hb dX1_allows_19 (by decide +kernel) ?_
        refine lv_goto (tgt := 24) hx hb dX1_allows_20 (by decide) ?_
        refine lv_istore (lv' := [(4, .int (nI 1)), (0, .ref (bd 0)), (1, .int (nI a)), (2, .int (nI q)), (3, .int (nI w))]) hx hb dX1_allows_24 hl (by decide) rfl (fun ls hl => ?_)
        refine lv_iload_n hx hb dX1_allows_26 rfl (lv_at hl 2 rfl) ?_
        refine lv_istore (lv' := [(5, .int (nI a)), (4, .int (nI 1)), (0, .ref (bd 0)), (1, .int (nI a)), (2, .int (nI q)), (3, .int (nI w))]) hx hb dX1_allows_27 hl (by decide) rfl (fun ls hl => ?_)
        have loop : ∀ (N : Nat) (i : Nat), (a ≤ i) → (i ≤ a + q) → (a + q < i + N) → (∀ p, a ≤ p → p < i → am_bad P (nI w) p = false) → ∀ (H : Heap) (locs : List Loc), va_P D am_cl (am_M bd dN P O) H → va_S (fun _ => False) s.heap H locs → ∀ ls : Array Slot, lv_has ls 6 [(0, .ref (bd 0)), (1, .int (nI a)), (2, .int (nI q)), (3, .int (nI w)), (4, .int (nI 1)), (5, .int (nI i))] → W p l e (am_rm 1) s m args below meth c H locs 0 0 (am_QR below (fun r => r = am_sAllow P (nI a) (nI q) (nI w)) args s) (F0 m 29 ls []) := by
          intro N
          induction N with
          | zero =>
            intro i hai hi hN hok
            exfalso
            omega
          | succ N ih =>
            intro i hai hi hN hok H locs hP hS ls hl
            refine lv_iload hx hb dX1_allows_29 (lv_at hl 4 rfl) ?_
            refine am_if_eq (tgt := 81) hx hb (by omega) dX1_allows_31 (by decide) (fun c31 => ?_) (fun c31 => ?_)
            · exact absurd c31 (by decide)
            · refine lv_iload hx hb dX1_allows_34 (lv_at hl 5 rfl) ?_
              refine lv_iload_n hx hb dX1_allows_36 rfl (lv_at hl 1 rfl) ?_
              refine lv_iload_n hx hb dX1_allows_37 rfl (lv_at hl 2 rfl) ?_
              refine am_iadd hx hb dX1_allows_38 ?_
              refine am_icmp_ge (tgt := 81) hx hb (by omega) (by omega) dX1_allows_39 (by decide) (fun c39 => ?_) (fun c39 => ?_)
              · refine lv_iload hx hb dX1_allows_81 (lv_at hl 4 rfl) ?_
                exact am_zret X hS dX1_allows_83 (Or.inr (by decide +kernel)) (am_sAllow_1 hq1 haq (am_okr_i c16) (fun p p1 p2 => hok p p1 (by omega)))
              · have hBi := hB i (by omega)
                refine lv_aload_n hx hb dX1_allows_42 rfl (lv_at hl 0 rfl) ?_
                refine am_gM_7 X hK hP dX1_allows_43 ?_
                refine lv_iload hx hb dX1_allows_46 (lv_at hl 5 rfl) ?_
                refine am_lM_1 X hK hP (by omega) dX1_allows_48 ?_
                refine am_if_le (tgt := 72) hx hb (by omega) dX1_allows_49 (by decide) (fun c49 => ?_) (fun c49 => ?_)
                · refine lv_iconst (v := nI 0) hx hb dX1_allows_72 (by decide +kernel) ?_
                  refine lv_istore (lv' := [(4, .int (nI 0)), (0, .ref (bd 0)), (1, .int (nI a)), (2, .int (nI q)), (3, .int (nI w)), (5, .int (nI i))]) hx hb dX1_allows_73 hl (by decide) rfl (fun ls hl => ?_)
                  refine lv_iinc (v := nI (i + 1)) (lv' := [(5, .int (nI (i + 1))), (4, .int (nI 0)), (0, .ref (bd 0)), (1, .int (nI a)), (2, .int (nI q)), (3, .int (nI w))]) hx hb dX1_allows_75 hl (k := 5) rfl (nI_1 _) (by decide) rfl (fun ls hl => ?_)
                  refine lv_goto (tgt := 29) hx hb dX1_allows_78 (by decide) ?_
                  refine lv_iload hx hb dX1_allows_29 (lv_at hl 1 rfl) ?_
                  refine am_if_eq (tgt := 81) hx hb (by omega) dX1_allows_31 (by decide) (fun c31 => ?_) (fun c31 => ?_)
                  · refine lv_iload hx hb dX1_allows_81 (lv_at hl 1 rfl) ?_
                    exact am_zret X hS dX1_allows_83 (Or.inl nI_0) (am_sAllow_b (p := i) haq hai (by omega) (am_bad_0 c49))
                  · exact absurd c31 (by decide)
                · refine lv_iload_n hx hb dX1_allows_52 rfl (lv_at hl 3 rfl) ?_
                  refine lv_aload_n hx hb dX1_allows_53 rfl (lv_at hl 0 rfl) ?_
                  refine am_gM_7 X hK hP dX1_allows_54 ?_
                  refine lv_iload hx hb dX1_allows_57 (lv_at hl 5 rfl) ?_
                  refine am_lM_1 X hK hP (by omega) dX1_allows_59 ?_
                  refine lv_iconst (v := nI 1) hx hb dX1_allows_60 (by decide +kernel) ?_
                  refine am_isub hx hb (by omega) dX1_allows_61 ?_
                  refine lv_iconst (v := (-1)) hx hb dX1_allows_62 (by decide +kernel) ?_
                  refine lv_ixor hx hb dX1_allows_63 ?_
                  refine lv_iand hx hb dX1_allows_64 ?_
                  refine lv_if_ne (tgt := 72) hx hb dX1_allows_65 (by decide) (fun c65 => ?_) (fun c65 => ?_)
                  · refine lv_iconst (v := nI 0) hx hb dX1_allows_72 (by decide +kernel) ?_
                    refine lv_istore (lv' := [(4, .int (nI 0)), (0, .ref (bd 0)), (1, .int (nI a)), (2, .int (nI q)), (3, .int (nI w)), (5, .int (nI i))]) hx hb dX1_allows_73 hl (by decide) rfl (fun ls hl => ?_)
                    refine lv_iinc (v := nI (i + 1)) (lv' := [(5, .int (nI (i + 1))), (4, .int (nI 0)), (0, .ref (bd 0)), (1, .int (nI a)), (2, .int (nI q)), (3, .int (nI w))]) hx hb dX1_allows_75 hl (k := 5) rfl (nI_1 _) (by decide) rfl (fun ls hl => ?_)
                    refine lv_goto (tgt := 29) hx hb dX1_allows_78 (by decide) ?_
                    refine lv_iload hx hb dX1_allows_29 (lv_at hl 1 rfl) ?_
                    refine am_if_eq (tgt := 81) hx hb (by omega) dX1_allows_31 (by decide) (fun c31 => ?_) (fun c31 => ?_)
                    · refine lv_iload hx hb dX1_allows_81 (lv_at hl 1 rfl) ?_
                      exact am_zret X hS dX1_allows_83 (Or.inl nI_0) (am_sAllow_b (p := i) haq hai (by omega) (am_bad_k (K := P i - 1) (by omega) c65))
                    · exact absurd c31 (by decide)
                  · refine lv_iconst (v := nI 1) hx hb dX1_allows_68 (by decide +kernel) ?_
                    refine lv_goto (tgt := 73) hx hb dX1_allows_69 (by decide) ?_
                    refine lv_istore (lv' := [(4, .int (nI 1)), (0, .ref (bd 0)), (1, .int (nI a)), (2, .int (nI q)), (3, .int (nI w)), (5, .int (nI i))]) hx hb dX1_allows_73 hl (by decide) rfl (fun ls hl => ?_)
                    refine lv_iinc (v := nI (i + 1)) (lv' := [(5, .int (nI (i + 1))), (4, .int (nI 1)), (0, .ref (bd 0)), (1, .int (nI a)), (2, .int (nI q)), (3, .int (nI w))]) hx hb dX1_allows_75 hl (k := 5) rfl (nI_1 _) (by decide) rfl (fun ls hl => ?_)
                    refine lv_goto (tgt := 29) hx hb dX1_allows_78 (by decide) ?_
                    exact ih (i + 1) (by omega) (by omega) (by omega) (fun p p1 p2 => (Nat.lt_or_ge p i).elim (fun z => hok p p1 z) (fun z => by rw [show p = i by omega]; exact am_bad_no (K := P i - 1) (by omega) c65)) _ _ hP hS ls (lv_sub hl [2, 3, 4, 5, 1, 0] rfl)
        exact loop (a + q + 1) a (by omega) (by omega) (by omega) (fun p p1 p2 => by omega) _ _ hP hS ls (lv_sub hl [2, 3, 4, 5, 1, 0] rfl)
set_option maxHeartbeats 4000000 in
set_option maxRecDepth 100000 in
theorem mt_X1_nextWith (l : Launch) (D : va_G) (bd : Nat → Nat) (dN : ClassId) (P O : Nat → Nat) (hB : ∀ j, j < 64 → P j ≤ 128) (x y : Int32) : am_RO l yX1_nextWith cX1_nextWith 4 (some .int) 0 [.ref (bd 0), .int x, .int y] (am_pre D (am_M bd dN P O) [(dN, .int)]) (fun r => r = am_sNext P x y) := by
  refine am_RO.intro RX1 rfl (by decide) (Nat.le_of_ble_eq_true rfl) ?_
  intro p e s m args below meth c X hpre ls hl
  obtain ⟨hP, hK⟩ := hpre
  have hx := X.1
  have hb := X.2.1
  have hS : va_S (fun _ => False) s.heap s.heap [] := va_S.rf
  have hl : lv_has ls 4 [(0, .ref (bd 0)), (1, .int x), (2, .int y)] := hl
  refine lv_iconst (v := nI 0) hx hb dX1_nextWith_0 (by decide +kernel) ?_
  refine lv_istore_n (lv' := [(3, .int (nI 0)), (0, .ref (bd 0)), (1, .int x), (2, .int y)]) hx hb dX1_nextWith_1 rfl hl (by decide) rfl (fun ls hl => ?_)
  have loop : ∀ (N : Nat) (i : Nat), (i ≤ 64) → (64 < i + N) → (am_fst (am_nxq P x y) 64 0 = am_fst (am_nxq P x y) (64 - i) i) → ∀ (H : Heap) (locs : List Loc), va_P D am_cl (am_M bd dN P O) H → va_S (fun _ => False) s.heap H locs → ∀ ls : Array Slot, lv_has ls 4 [(0, .ref (bd 0)), (1, .int x), (2, .int y), (3, .int (nI i))] → W p l e (am_rm 0) s m args below meth c H locs 0 0 (am_QR below (fun r => r = am_sNext P x y) args s) (F0 m 2 ls []) := by
    intro N
    induction N with
    | zero =>
      intro i hi hN hf
      exfalso
      omega
    | succ N ih =>
      intro i hi hN hf H locs hP hS ls hl
      refine lv_iload_n hx hb dX1_nextWith_2 rfl (lv_at hl 3 rfl) ?_
      refine lv_bipush (v := nI 64) hx hb dX1_nextWith_3 (by decide +kernel) ?_
      refine am_icmp_ge (tgt := 44) hx hb (by omega) (by omega) dX1_nextWith_5 (by decide) (fun c5 => ?_) (fun c5 => ?_)
      · refine lv_bipush (v := (-3)) hx hb dX1_nextWith_44 (by decide +kernel) ?_
        exact am_iret X hS dX1_nextWith_46 (by unfold am_sNext; rw [am_fst_end c5 hf]; rfl)
      · have hBi := hB i (by omega)
        refine lv_iload_n hx hb dX1_nextWith_8 rfl (lv_at hl 3 rfl) ?_
        refine lv_iload_n hx hb dX1_nextWith_9 rfl (lv_at hl 2 rfl) ?_
        refine lv_icmp_lt (tgt := 38) hx hb dX1_nextWith_10 (by decide) (fun c10 => ?_) (fun c10 => ?_)
        · refine lv_iinc (v := nI (i + 1)) (lv' := [(3, .int (nI (i + 1))), (0, .ref (bd 0)), (1, .int x), (2, .int y)]) hx hb dX1_nextWith_38 hl (k := 3) rfl (nI_1 _) (by decide) rfl (fun ls hl => ?_)
          refine lv_goto (tgt := 2) hx hb dX1_nextWith_41 (by decide) ?_
          exact ih (i + 1) (by omega) (by omega) (am_fst_go (by omega) (am_nxq_y (by have := (am_nlt (by omega)).mp c10; omega)) hf) _ _ hP hS ls (lv_sub hl [1, 2, 3, 0] rfl)
        · refine lv_aload_n hx hb dX1_nextWith_13 rfl (lv_at hl 0 rfl) ?_
          refine am_gM_7 X hK hP dX1_nextWith_14 ?_
          refine lv_iload_n hx hb dX1_nextWith_17 rfl (lv_at hl 3 rfl) ?_
          refine am_lM_1 X hK hP (by omega) dX1_nextWith_18 ?_
          refine am_if_le (tgt := 38) hx hb (by omega) dX1_nextWith_19 (by decide) (fun c19 => ?_) (fun c19 => ?_)
          · refine lv_iinc (v := nI (i + 1)) (lv' := [(3, .int (nI (i + 1))), (0, .ref (bd 0)), (1, .int x), (2, .int y)]) hx hb dX1_nextWith_38 hl (k := 3) rfl (nI_1 _) (by decide) rfl (fun ls hl => ?_)
            refine lv_goto (tgt := 2) hx hb dX1_nextWith_41 (by decide) ?_
            exact ih (i + 1) (by omega) (by omega) (am_fst_go (by omega) (am_nxq_0 c19) hf) _ _ hP hS ls (lv_sub hl [1, 2, 3, 0] rfl)
          · refine lv_aload_n hx hb dX1_nextWith_22 rfl (lv_at hl 0 rfl) ?_
            refine am_gM_7 X hK hP dX1_nextWith_23 ?_
            refine lv_iload_n hx hb dX1_nextWith_26 rfl (lv_at hl 3 rfl) ?_
            refine am_lM_1 X hK hP (by omega) dX1_nextWith_27 ?_
            refine lv_iconst (v := nI 1) hx hb dX1_nextWith_28 (by decide +kernel) ?_
            refine am_isub hx hb (by omega) dX1_nextWith_29 ?_
            refine lv_iconst (v := nI 3) hx hb dX1_nextWith_30 (by decide +kernel) ?_
            refine lv_ishr hx hb dX1_nextWith_31 ?_
            refine am_top (y := nI ((P i - 1) / 8)) (am_k3 (by omega)) ?_
            refine lv_iload_n hx hb dX1_nextWith_32 rfl (lv_at hl 1 rfl) ?_
            refine lv_icmp_ne (tgt := 38) hx hb dX1_nextWith_33 (by decide) (fun c33 => ?_) (fun c33 => ?_)
            · refine lv_iinc (v := nI (i + 1)) (lv' := [(3, .int (nI (i + 1))), (0, .ref (bd 0)), (1, .int x), (2, .int y)]) hx hb dX1_nextWith_38 hl (k := 3) rfl (nI_1 _) (by decide) rfl (fun ls hl => ?_)
              refine lv_goto (tgt := 2) hx hb dX1_nextWith_41 (by decide) ?_
              exact ih (i + 1) (by omega) (by omega) (am_fst_go (by omega) (am_nxq_t (K := P i - 1) (by omega) c33) hf) _ _ hP hS ls (lv_sub hl [1, 2, 3, 0] rfl)
            · refine lv_iload_n hx hb dX1_nextWith_36 rfl (lv_at hl 3 rfl) ?_
              exact am_iret X hS dX1_nextWith_37 (by unfold am_sNext; rw [am_fst_hit (by omega) (am_nxq_k (K := P i - 1) (by omega) c33 (by have := mt (am_nlt (x := y) (n := i) (by omega)).mpr c10; omega)) hf]; rfl)
  exact loop 65 0 (by omega) (by omega) rfl _ _ hP hS ls (lv_sub hl [1, 2, 3, 0] rfl)
end
section
/-! AreaMapModel: its methods that write -/
set_option maxRecDepth 100000
set_option maxHeartbeats 4000000 in
set_option maxRecDepth 100000 in
theorem mt_X1_keep (l : Launch) (D : va_G) (bd : Nat → Nat) (dN : ClassId) (P O : Nat → Nat)  : am_MV l yX1_keep cX1_keep 2 none 0 [.ref (bd 0)] D (am_Mu bd dN) [(dN, .int)] (P, O) (fun (u : am_SM) => (P, am_cp P O 64) = u) := by
  refine am_MV.intro RX1 rfl (by decide) (Nat.le_of_ble_eq_true rfl) ?_
  intro p e s m args below meth c A X hA hK hP hD ls hl
  have hP : va_P D am_cl (am_M bd dN P O) s.heap := hP
  have hD : va_D A (am_M bd dN P O) := hD
  have hx := X.1
  have hb := X.2.1
  have hS : va_S A s.heap s.heap [] := va_S.rf
  have hl : lv_has ls 2 [(0, .ref (bd 0))] := hl
  refine lv_iconst (v := nI 0) hx hb dX1_keep_0 (by decide +kernel) ?_
  refine lv_istore_n (lv' := [(1, .int (nI 0)), (0, .ref (bd 0))]) hx hb dX1_keep_1 rfl hl (by decide) rfl (fun ls hl => ?_)
  rw [← am_cp_0 P O] at hP hD
  have loop : ∀ (N : Nat) (i : Nat), (i ≤ 64) → (64 < i + N) → ∀ (H : Heap) (locs : List Loc), va_P D am_cl (am_M bd dN P (am_cp P O i)) H → va_D A (am_M bd dN P (am_cp P O i)) → va_S A s.heap H locs → ∀ ls : Array Slot, lv_has ls 2 [(0, .ref (bd 0)), (1, .int (nI i))] → W p l e (am_rm 0) s m args below meth c H locs 0 0 (am_QV below D (am_Mu bd dN) [(dN, .int)] (fun (u : am_SM) => (P, am_cp P O 64) = u) args s A) (F0 m 2 ls []) := by
    intro N
    induction N with
    | zero =>
      intro i hi hN
      exfalso
      omega
    | succ N ih =>
      intro i hi hN H locs hP hD hS ls hl
      refine lv_iload_n hx hb dX1_keep_2 rfl (lv_at hl 1 rfl) ?_
      refine lv_bipush (v := nI 64) hx hb dX1_keep_3 (by decide +kernel) ?_
      refine am_icmp_ge (tgt := 26) hx hb (by omega) (by omega) dX1_keep_5 (by decide) (fun c5 => ?_) (fun c5 => ?_)
      · exact am_mvret (P, am_cp P O i) X hK hP hD hS dX1_keep_26 (by rw [show i = 64 by omega])
      · refine lv_aload_n hx hb dX1_keep_8 rfl (lv_at hl 0 rfl) ?_
        refine am_gM_13 X hK hP dX1_keep_9 ?_
        refine lv_iload_n hx hb dX1_keep_12 rfl (lv_at hl 1 rfl) ?_
        refine lv_aload_n hx hb dX1_keep_13 rfl (lv_at hl 0 rfl) ?_
        refine am_gM_7 X hK hP dX1_keep_14 ?_
        refine lv_iload_n hx hb dX1_keep_17 rfl (lv_at hl 1 rfl) ?_
        refine am_lM_1 X hK hP (by omega) dX1_keep_18 ?_
        refine am_sM_2 X hK hP hD hS (by omega) dX1_keep_19 (fun H locs hP hD hS => ?_)
        refine lv_iinc (v := nI (i + 1)) (lv' := [(1, .int (nI (i + 1))), (0, .ref (bd 0))]) hx hb dX1_keep_20 hl (k := 1) rfl (nI_1 _) (by decide) rfl (fun ls hl => ?_)
        refine lv_goto (tgt := 2) hx hb dX1_keep_23 (by decide) ?_
        rw [am_cp_s] at hP hD
        exact ih (i + 1) (by omega) (by omega) _ _ hP hD hS ls (lv_sub hl [1, 0] rfl)
  exact loop 65 0 (by omega) (by omega) _ _ hP hD hS ls (lv_sub hl [1, 0] rfl)
set_option maxHeartbeats 4000000 in
set_option maxRecDepth 100000 in
theorem mt_X1_fill (l : Launch) (D : va_G) (bd : Nat → Nat) (dN : ClassId) (P O : Nat → Nat) (a q v : Nat) (haq : a + q ≤ 64) : am_MV l yX1_fill cX1_fill 5 none 0 [.ref (bd 0), .int (nI a), .int (nI q), .int (nI v)] D (am_Mu bd dN) [(dN, .int)] (P, O) (fun (u : am_SM) => (am_fl P a (a + q) v, O) = u) := by
  refine am_MV.intro RX1 rfl (by decide) (Nat.le_of_ble_eq_true rfl) ?_
  intro p e s m args below meth c A X hA hK hP hD ls hl
  have hP : va_P D am_cl (am_M bd dN P O) s.heap := hP
  have hD : va_D A (am_M bd dN P O) := hD
  have hx := X.1
  have hb := X.2.1
  have hS : va_S A s.heap s.heap [] := va_S.rf
  have hl : lv_has ls 5 [(0, .ref (bd 0)), (1, .int (nI a)), (2, .int (nI q)), (3, .int (nI v))] := hl
  refine lv_iload_n hx hb dX1_fill_0 rfl (lv_at hl 1 rfl) ?_
  refine lv_istore (lv' := [(4, .int (nI a)), (0, .ref (bd 0)), (1, .int (nI a)), (2, .int (nI q)), (3, .int (nI v))]) hx hb dX1_fill_1 hl (by decide) rfl (fun ls hl => ?_)
  rw [← am_fl_0 P a v] at hP hD
  have loop : ∀ (N : Nat) (i : Nat), (a ≤ i) → (i ≤ a + q) → (a + q < i + N) → ∀ (H : Heap) (locs : List Loc), va_P D am_cl (am_M bd dN (am_fl P a i v) O) H → va_D A (am_M bd dN (am_fl P a i v) O) → va_S A s.heap H locs → ∀ ls : Array Slot, lv_has ls 5 [(0, .ref (bd 0)), (1, .int (nI a)), (2, .int (nI q)), (3, .int (nI v)), (4, .int (nI i))] → W p l e (am_rm 0) s m args below meth c H locs 0 0 (am_QV below D (am_Mu bd dN) [(dN, .int)] (fun (u : am_SM) => (am_fl P a (a + q) v, O) = u) args s A) (F0 m 3 ls []) := by
    intro N
    induction N with
    | zero =>
      intro i hai hi hN
      exfalso
      omega
    | succ N ih =>
      intro i hai hi hN H locs hP hD hS ls hl
      refine lv_iload hx hb dX1_fill_3 (lv_at hl 4 rfl) ?_
      refine lv_iload_n hx hb dX1_fill_5 rfl (lv_at hl 1 rfl) ?_
      refine lv_iload_n hx hb dX1_fill_6 rfl (lv_at hl 2 rfl) ?_
      refine am_iadd hx hb dX1_fill_7 ?_
      refine am_icmp_ge (tgt := 25) hx hb (by omega) (by omega) dX1_fill_8 (by decide) (fun c8 => ?_) (fun c8 => ?_)
      · exact am_mvret (am_fl P a i v, O) X hK hP hD hS dX1_fill_25 (by rw [show i = a + q by omega])
      · refine lv_aload_n hx hb dX1_fill_11 rfl (lv_at hl 0 rfl) ?_
        refine am_gM_7 X hK hP dX1_fill_12 ?_
        refine lv_iload hx hb dX1_fill_15 (lv_at hl 4 rfl) ?_
        refine lv_iload_n hx hb dX1_fill_17 rfl (lv_at hl 3 rfl) ?_
        refine am_sM_1 X hK hP hD hS (by omega) dX1_fill_18 (fun H locs hP hD hS => ?_)
        refine lv_iinc (v := nI (i + 1)) (lv' := [(4, .int (nI (i + 1))), (0, .ref (bd 0)), (1, .int (nI a)), (2, .int (nI q)), (3, .int (nI v))]) hx hb dX1_fill_19 hl (k := 4) rfl (nI_1 _) (by decide) rfl (fun ls hl => ?_)
        refine lv_goto (tgt := 3) hx hb dX1_fill_22 (by decide) ?_
        rw [am_fl_s hai] at hP hD
        exact ih (i + 1) (by omega) (by omega) (by omega) _ _ hP hD hS ls (lv_sub hl [1, 2, 3, 4, 0] rfl)
  exact loop (a + q + 1) a (by omega) (by omega) (by omega) _ _ hP hD hS ls (lv_sub hl [1, 2, 3, 4, 0] rfl)
set_option maxHeartbeats 4000000 in
set_option maxRecDepth 100000 in
theorem mt_X1_tooMany (l : Launch) (D : va_G) (bd : Nat → Nat) (dN : ClassId) (P O : Nat → Nat) (hB : ∀ j, j < 64 → P j ≤ 128) : am_MU l yX1_tooMany cX1_tooMany 3 (some .boolean) 2 [.ref (bd 0)] D (am_Mu bd dN) [(dN, .int)] (P, O) (fun r (u : am_SM) => (r = nI 1 ∧ 20 < am_runs P ∧ (am_cp O P 64, O) = u) ∨ (r = nI 0 ∧ am_runs P ≤ 20 ∧ (P, O) = u)) := by
  refine am_MU.intro RX1 rfl (by decide) (Nat.le_of_ble_eq_true rfl) ?_
  intro p e s m args below meth c A X hA hK hP hD ls hl
  have hP : va_P D am_cl (am_M bd dN P O) s.heap := hP
  have hD : va_D A (am_M bd dN P O) := hD
  have hx := X.1
  have hb := X.2.1
  have hS : va_S A s.heap s.heap [] := va_S.rf
  have hl : lv_has ls 3 [(0, .ref (bd 0))] := hl
  refine lv_aload_n hx hb dX1_tooMany_0 rfl (lv_at hl 0 rfl) ?_
  refine am_callV (mt_X1_areas l D bd dN P O hB) lk_X1_16 X hl.1 hP hK rfl rfl rfl hP hS ⟨by decide, by decide⟩ ⟨Nat.zero_le _, Nat.zero_le _⟩ (by decide) dX1_tooMany_1 rfl (fun r H locs hp hP hS => ?_)
  subst hp
  have hrun : am_runs P ≤ 64 := am_cnt_le _ 64
  refine lv_bipush (v := nI 20) hx hb dX1_tooMany_4 (by decide +kernel) ?_
  refine am_icmp_le (tgt := 13) hx hb (by omega) (by omega) dX1_tooMany_6 (by decide) (fun c6 => ?_) (fun c6 => ?_)
  · refine lv_iconst (v := nI 0) hx hb dX1_tooMany_13 (by decide +kernel) ?_
    refine lv_istore_n (lv' := [(1, .int (nI 0)), (0, .ref (bd 0))]) hx hb dX1_tooMany_14 rfl hl (by decide) rfl (fun ls hl => ?_)
    refine lv_iconst (v := nI 0) hx hb dX1_tooMany_15 (by decide +kernel) ?_
    refine lv_istore_n (lv' := [(2, .int (nI 0)), (1, .int (nI 0)), (0, .ref (bd 0))]) hx hb dX1_tooMany_16 rfl hl (by decide) rfl (fun ls hl => ?_)
    refine lv_iload_n hx hb dX1_tooMany_17 rfl (lv_at hl 0 rfl) ?_
    refine lv_bipush (v := nI 64) hx hb dX1_tooMany_18 (by decide +kernel) ?_
    refine am_icmp_ge (tgt := 45) hx hb (by omega) (by omega) dX1_tooMany_20 (by decide) (fun c20 => ?_) (fun c20 => ?_)
    · exact absurd c20 (by decide)
    · refine lv_iload_n hx hb dX1_tooMany_23 rfl (lv_at hl 1 rfl) ?_
      refine am_if_eq (tgt := 45) hx hb (by omega) dX1_tooMany_24 (by decide) (fun c24 => ?_) (fun c24 => ?_)
      · refine lv_iload_n hx hb dX1_tooMany_45 rfl (lv_at hl 1 rfl) ?_
        exact am_mzret (P, O) X hK hP hD hS dX1_tooMany_46 (Or.inl nI_0) (Or.inr ⟨rfl, c6, rfl⟩)
      · exact absurd c24 (by decide)
  · refine lv_iconst (v := nI 1) hx hb dX1_tooMany_9 (by decide +kernel) ?_
    refine lv_goto (tgt := 14) hx hb dX1_tooMany_10 (by decide) ?_
    refine lv_istore_n (lv' := [(1, .int (nI 1)), (0, .ref (bd 0))]) hx hb dX1_tooMany_14 rfl hl (by decide) rfl (fun ls hl => ?_)
    refine lv_iconst (v := nI 0) hx hb dX1_tooMany_15 (by decide +kernel) ?_
    refine lv_istore_n (lv' := [(2, .int (nI 0)), (1, .int (nI 1)), (0, .ref (bd 0))]) hx hb dX1_tooMany_16 rfl hl (by decide) rfl (fun ls hl => ?_)
    rw [← am_cp_0 O P] at hP hD
    have loop : ∀ (N : Nat) (i : Nat), (i ≤ 64) → (64 < i + N) → ∀ (H : Heap) (locs : List Loc), va_P D am_cl (am_M bd dN (am_cp O P i) O) H → va_D A (am_M bd dN (am_cp O P i) O) → va_S A s.heap H locs → ∀ ls : Array Slot, lv_has ls 3 [(0, .ref (bd 0)), (1, .int (nI 1)), (2, .int (nI i))] → W p l e (am_rm 2) s m args below meth c H locs 0 0 (am_QM below D (am_Mu bd dN) [(dN, .int)] (fun r (u : am_SM) => (r = nI 1 ∧ 20 < am_runs P ∧ (am_cp O P 64, O) = u) ∨ (r = nI 0 ∧ am_runs P ≤ 20 ∧ (P, O) = u)) args s A) (F0 m 17 ls []) := by
      intro N
      induction N with
      | zero =>
        intro i hi hN
        exfalso
        omega
      | succ N ih =>
        intro i hi hN H locs hP hD hS ls hl
        refine lv_iload_n hx hb dX1_tooMany_17 rfl (lv_at hl 2 rfl) ?_
        refine lv_bipush (v := nI 64) hx hb dX1_tooMany_18 (by decide +kernel) ?_
        refine am_icmp_ge (tgt := 45) hx hb (by omega) (by omega) dX1_tooMany_20 (by decide) (fun c20 => ?_) (fun c20 => ?_)
        · refine lv_iload_n hx hb dX1_tooMany_45 rfl (lv_at hl 1 rfl) ?_
          exact am_mzret (am_cp O P i, O) X hK hP hD hS dX1_tooMany_46 (Or.inr (by decide +kernel)) (Or.inl ⟨rfl, c6, by rw [show i = 64 by omega]⟩)
        · refine lv_iload_n hx hb dX1_tooMany_23 rfl (lv_at hl 1 rfl) ?_
          refine am_if_eq (tgt := 45) hx hb (by omega) dX1_tooMany_24 (by decide) (fun c24 => ?_) (fun c24 => ?_)
          · exact absurd c24 (by decide)
          · refine lv_aload_n hx hb dX1_tooMany_27 rfl (lv_at hl 0 rfl) ?_
            refine am_gM_7 X hK hP dX1_tooMany_28 ?_
            refine lv_iload_n hx hb dX1_tooMany_31 rfl (lv_at hl 2 rfl) ?_
            refine lv_aload_n hx hb dX1_tooMany_32 rfl (lv_at hl 0 rfl) ?_
            refine am_gM_13 X hK hP dX1_tooMany_33 ?_
            refine lv_iload_n hx hb dX1_tooMany_36 rfl (lv_at hl 2 rfl) ?_
            refine am_lM_2 X hK hP (by omega) dX1_tooMany_37 ?_
            refine am_sM_1 X hK hP hD hS (by omega) dX1_tooMany_38 (fun H locs hP hD hS => ?_)
            refine lv_iinc (v := nI (i + 1)) (lv' := [(2, .int (nI (i + 1))), (0, .ref (bd 0)), (1, .int (nI 1))]) hx hb dX1_tooMany_39 hl (k := 2) rfl (nI_1 _) (by decide) rfl (fun ls hl => ?_)
            refine lv_goto (tgt := 17) hx hb dX1_tooMany_42 (by decide) ?_
            rw [am_cp_s] at hP hD
            exact ih (i + 1) (by omega) (by omega) _ _ hP hD hS ls (lv_sub hl [1, 2, 0] rfl)
    exact loop 65 0 (by omega) (by omega) _ _ hP hD hS ls (lv_sub hl [2, 1, 0] rfl)
set_option maxHeartbeats 4000000 in
set_option maxRecDepth 100000 in
theorem mt_X1_map (l : Launch) (D : va_G) (bd : Nat → Nat) (dN : ClassId) (P O : Nat → Nat) (hB : ∀ j, j < 64 → P j ≤ 128) (x y z : Int32) : am_MU l yX1_map cX1_map 5 (some .int) 3 [.ref (bd 0), .int x, .int y, .int z] D (am_Mu bd dN) [(dN, .int)] (P, O) (fun r (u : am_SM) => r = (am_sMap P x y z).1 ∧ ∀ j, j < 64 → u.1 j = (am_sMap P x y z).2 j) := by
  refine am_MU.intro RX1 rfl (by decide) (Nat.le_of_ble_eq_true rfl) ?_
  intro p e s m args below meth c A X hA hK hP hD ls hl
  have hP : va_P D am_cl (am_M bd dN P O) s.heap := hP
  have hD : va_D A (am_M bd dN P O) := hD
  have hx := X.1
  have hb := X.2.1
  have hS : va_S A s.heap s.heap [] := va_S.rf
  have hl : lv_has ls 5 [(0, .ref (bd 0)), (1, .int x), (2, .int y), (3, .int z)] := hl
  refine lv_aload_n hx hb dX1_map_0 rfl (lv_at hl 0 rfl) ?_
  refine lv_iload_n hx hb dX1_map_1 rfl (lv_at hl 1 rfl) ?_
  refine lv_iload_n hx hb dX1_map_2 rfl (lv_at hl 2 rfl) ?_
  refine am_callV (mt_X1_proper l D bd dN P O (x) (y)) lk_X1_20 X hl.1 hP hK rfl rfl rfl hP hS ⟨by decide, by decide⟩ ⟨Nat.zero_le _, Nat.zero_le _⟩ (by decide) dX1_map_3 rfl (fun rp H locs hq hP hS => ?_)
  refine lv_if_eq (tgt := 19) hx hb dX1_map_6 (by decide) (fun c6 => ?_) (fun c6 => ?_)
  · refine lv_iconst (v := (-1)) hx hb dX1_map_19 (by decide +kernel) ?_
    exact am_miret (P, O) X hK hP hD hS dX1_map_20 (by rw [am_sMap_bad (fun h => hq.f c6 h.1)]; exact ⟨rfl, fun j hj => rfl⟩)
  · have hq := hq.t c6
    obtain ⟨a, q, rfl, rfl, hq1, haq⟩ := am_okp_n hq
    refine lv_iload_n hx hb dX1_map_9 rfl (lv_at hl 3 rfl) ?_
    refine lv_if_lt (tgt := 19) hx hb dX1_map_10 (by decide) (fun c10 => ?_) (fun c10 => ?_)
    · refine lv_iconst (v := (-1)) hx hb dX1_map_19 (by decide +kernel) ?_
      exact am_miret (P, O) X hK hP hD hS dX1_map_20 (by rw [am_sMap_bad (fun h => by have := am_lt0.mp c10; have := h.2.1; omega)]; exact ⟨rfl, fun j hj => rfl⟩)
    · obtain ⟨w, hw, rfl⟩ := nI_of c10
      refine lv_iload_n hx hb dX1_map_13 rfl (lv_at hl 3 rfl) ?_
      refine lv_bipush (v := nI 127) hx hb dX1_map_14 (by decide +kernel) ?_
      refine am_icmp_le (tgt := 21) hx hb (by omega) (by omega) dX1_map_16 (by decide) (fun c16 => ?_) (fun c16 => ?_)
      · refine lv_aload_n hx hb dX1_map_21 rfl (lv_at hl 0 rfl) ?_
        refine lv_iload_n hx hb dX1_map_22 rfl (lv_at hl 1 rfl) ?_
        refine lv_iload_n hx hb dX1_map_23 rfl (lv_at hl 2 rfl) ?_
        refine am_callV (mt_X1_used l D bd dN P O hB a q (by omega)) lk_X1_24 X hl.1 hP hK rfl rfl rfl hP hS ⟨by decide, by decide⟩ ⟨Nat.zero_le _, Nat.zero_le _⟩ (by decide) dX1_map_24 rfl (fun r H locs hp hP hS => ?_)
        subst hp
        refine lv_istore (lv' := [(4, .int (nI (am_us P a (a + q)))), (0, .ref (bd 0)), (1, .int (nI a)), (2, .int (nI q)), (3, .int (nI w))]) hx hb dX1_map_27 hl (by decide) rfl (fun ls hl => ?_)
        refine lv_aload_n hx hb dX1_map_29 rfl (lv_at hl 1 rfl) ?_
        refine am_mcallVv0 (mt_X1_keep l D bd dN P O) lk_X1_28 X hl.1 hK rfl rfl rfl hP hD hS hA ⟨by decide, by decide⟩ ⟨Nat.zero_le _, Nat.zero_le _⟩ (by decide) dX1_map_30 rfl (fun u H locs hp hP hD hS => ?_)
        subst hp
        have hP : va_P D am_cl (am_M bd dN P (am_cp P O 64)) H := hP
        have hD : va_D A (am_M bd dN P (am_cp P O 64)) := hD
        refine lv_aload_n hx hb dX1_map_33 rfl (lv_at hl 1 rfl) ?_
        refine lv_iload_n hx hb dX1_map_34 rfl (lv_at hl 2 rfl) ?_
        refine lv_iload_n hx hb dX1_map_35 rfl (lv_at hl 3 rfl) ?_
        refine lv_iload_n hx hb dX1_map_36 rfl (lv_at hl 4 rfl) ?_
        refine lv_iconst (v := nI 1) hx hb dX1_map_37 (by decide +kernel) ?_
        refine am_iadd hx hb dX1_map_38 ?_
        refine am_mcallVv0 (mt_X1_fill l D bd dN P (am_cp P O 64) a q (w + 1) (by omega)) lk_X1_31 X hl.1 hK rfl rfl rfl hP hD hS hA ⟨by decide, by decide⟩ ⟨Nat.zero_le _, Nat.zero_le _⟩ (by decide) dX1_map_39 rfl (fun u H locs hp hP hD hS => ?_)
        subst hp
        have hP : va_P D am_cl (am_M bd dN (am_fl P a (a + q) (w + 1)) (am_cp P O 64)) H := hP
        have hD : va_D A (am_M bd dN (am_fl P a (a + q) (w + 1)) (am_cp P O 64)) := hD
        refine lv_aload_n hx hb dX1_map_42 rfl (lv_at hl 1 rfl) ?_
        refine am_mcallV0 (mt_X1_tooMany l D bd dN (am_fl P a (a + q) (w + 1)) (am_cp P O 64) (fun j hj => by unfold am_fl; split <;> first | omega | exact hB j hj)) lk_X1_35 X hl.1 hK rfl rfl rfl hP hD hS hA ⟨by decide, by decide⟩ ⟨Nat.zero_le _, Nat.zero_le _⟩ (by decide) dX1_map_43 rfl (fun r u H locs hp hP hD hS => ?_)
        rcases hp with ⟨rfl, hov, rfl⟩ | ⟨rfl, hov, rfl⟩
        · have hP : va_P D am_cl (am_M bd dN (am_cp (am_cp P O 64) (am_fl P a (a + q) (w + 1)) 64) (am_cp P O 64)) H := hP
          have hD : va_D A (am_M bd dN (am_cp (am_cp P O 64) (am_fl P a (a + q) (w + 1)) 64) (am_cp P O 64)) := hD
          refine am_if_eq (tgt := 54) hx hb (by omega) dX1_map_46 (by decide) (fun c46 => ?_) (fun c46 => ?_)
          · exact absurd c46 (by decide)
          · refine lv_bipush (v := (-2)) hx hb dX1_map_49 (by decide +kernel) ?_
            refine lv_goto (tgt := 56) hx hb dX1_map_51 (by decide) ?_
            exact am_miret (am_cp (am_cp P O 64) (am_fl P a (a + q) (w + 1)) 64, am_cp P O 64) X hK hP hD hS dX1_map_56 (by rw [am_sMap_ok hq1 haq c16, am_put_f (by omega)]; exact ⟨rfl, fun j hj => (am_cp_lo hj).trans (am_cp_lo hj)⟩)
        · have hP : va_P D am_cl (am_M bd dN (am_fl P a (a + q) (w + 1)) (am_cp P O 64)) H := hP
          have hD : va_D A (am_M bd dN (am_fl P a (a + q) (w + 1)) (am_cp P O 64)) := hD
          refine am_if_eq (tgt := 54) hx hb (by omega) dX1_map_46 (by decide) (fun c46 => ?_) (fun c46 => ?_)
          · refine lv_iload hx hb dX1_map_54 (lv_at hl 0 rfl) ?_
            exact am_miret (am_fl P a (a + q) (w + 1), am_cp P O 64) X hK hP hD hS dX1_map_56 (by rw [am_sMap_ok hq1 haq c16, am_put_t hov]; exact ⟨rfl, fun j hj => rfl⟩)
          · exact absurd c46 (by decide)
      · refine lv_iconst (v := (-1)) hx hb dX1_map_19 (by decide +kernel) ?_
        exact am_miret (P, O) X hK hP hD hS dX1_map_20 (by rw [am_sMap_bad (fun h => by have h2 := h.2.2; rw [nI_toInt hw] at h2; omega)]; exact ⟨rfl, fun j hj => rfl⟩)
set_option maxHeartbeats 4000000 in
set_option maxRecDepth 100000 in
theorem mt_X1_free (l : Launch) (D : va_G) (bd : Nat → Nat) (dN : ClassId) (P O : Nat → Nat) (hB : ∀ j, j < 64 → P j ≤ 128) (x y : Int32) : am_MU l yX1_free cX1_free 4 (some .int) 3 [.ref (bd 0), .int x, .int y] D (am_Mu bd dN) [(dN, .int)] (P, O) (fun r (u : am_SM) => r = (am_sFree P x y).1 ∧ ∀ j, j < 64 → u.1 j = (am_sFree P x y).2 j) := by
  refine am_MU.intro RX1 rfl (by decide) (Nat.le_of_ble_eq_true rfl) ?_
  intro p e s m args below meth c A X hA hK hP hD ls hl
  have hP : va_P D am_cl (am_M bd dN P O) s.heap := hP
  have hD : va_D A (am_M bd dN P O) := hD
  have hx := X.1
  have hb := X.2.1
  have hS : va_S A s.heap s.heap [] := va_S.rf
  have hl : lv_has ls 4 [(0, .ref (bd 0)), (1, .int x), (2, .int y)] := hl
  refine lv_aload_n hx hb dX1_free_0 rfl (lv_at hl 0 rfl) ?_
  refine lv_iload_n hx hb dX1_free_1 rfl (lv_at hl 1 rfl) ?_
  refine lv_iload_n hx hb dX1_free_2 rfl (lv_at hl 2 rfl) ?_
  refine am_callV (mt_X1_proper l D bd dN P O (x) (y)) lk_X1_20 X hl.1 hP hK rfl rfl rfl hP hS ⟨by decide, by decide⟩ ⟨Nat.zero_le _, Nat.zero_le _⟩ (by decide) dX1_free_3 rfl (fun rp H locs hq hP hS => ?_)
  refine lv_if_ne (tgt := 11) hx hb dX1_free_6 (by decide) (fun c6 => ?_) (fun c6 => ?_)
  · have hq := hq.t c6
    obtain ⟨a, q, rfl, rfl, hq1, haq⟩ := am_okp_n hq
    refine lv_aload_n hx hb dX1_free_11 rfl (lv_at hl 0 rfl) ?_
    refine lv_iload_n hx hb dX1_free_12 rfl (lv_at hl 1 rfl) ?_
    refine lv_iload_n hx hb dX1_free_13 rfl (lv_at hl 2 rfl) ?_
    refine am_callV (mt_X1_used l D bd dN P O hB a q (by omega)) lk_X1_24 X hl.1 hP hK rfl rfl rfl hP hS ⟨by decide, by decide⟩ ⟨Nat.zero_le _, Nat.zero_le _⟩ (by decide) dX1_free_14 rfl (fun r H locs hp hP hS => ?_)
    subst hp
    refine lv_istore_n (lv' := [(3, .int (nI (am_us P a (a + q)))), (0, .ref (bd 0)), (1, .int (nI a)), (2, .int (nI q))]) hx hb dX1_free_17 rfl hl (by decide) rfl (fun ls hl => ?_)
    refine lv_aload_n hx hb dX1_free_18 rfl (lv_at hl 1 rfl) ?_
    refine am_mcallVv0 (mt_X1_keep l D bd dN P O) lk_X1_28 X hl.1 hK rfl rfl rfl hP hD hS hA ⟨by decide, by decide⟩ ⟨Nat.zero_le _, Nat.zero_le _⟩ (by decide) dX1_free_19 rfl (fun u H locs hp hP hD hS => ?_)
    subst hp
    have hP : va_P D am_cl (am_M bd dN P (am_cp P O 64)) H := hP
    have hD : va_D A (am_M bd dN P (am_cp P O 64)) := hD
    refine lv_aload_n hx hb dX1_free_22 rfl (lv_at hl 1 rfl) ?_
    refine lv_iload_n hx hb dX1_free_23 rfl (lv_at hl 2 rfl) ?_
    refine lv_iload_n hx hb dX1_free_24 rfl (lv_at hl 3 rfl) ?_
    refine lv_iconst (v := nI 0) hx hb dX1_free_25 (by decide +kernel) ?_
    refine am_mcallVv0 (mt_X1_fill l D bd dN P (am_cp P O 64) a q 0 (by omega)) lk_X1_31 X hl.1 hK rfl rfl rfl hP hD hS hA ⟨by decide, by decide⟩ ⟨Nat.zero_le _, Nat.zero_le _⟩ (by decide) dX1_free_26 rfl (fun u H locs hp hP hD hS => ?_)
    subst hp
    have hP : va_P D am_cl (am_M bd dN (am_fl P a (a + q) 0) (am_cp P O 64)) H := hP
    have hD : va_D A (am_M bd dN (am_fl P a (a + q) 0) (am_cp P O 64)) := hD
    refine lv_aload_n hx hb dX1_free_29 rfl (lv_at hl 1 rfl) ?_
    refine am_mcallV0 (mt_X1_tooMany l D bd dN (am_fl P a (a + q) 0) (am_cp P O 64) (fun j hj => by unfold am_fl; split <;> first | omega | exact hB j hj)) lk_X1_35 X hl.1 hK rfl rfl rfl hP hD hS hA ⟨by decide, by decide⟩ ⟨Nat.zero_le _, Nat.zero_le _⟩ (by decide) dX1_free_30 rfl (fun r u H locs hp hP hD hS => ?_)
    rcases hp with ⟨rfl, hov, rfl⟩ | ⟨rfl, hov, rfl⟩
    · have hP : va_P D am_cl (am_M bd dN (am_cp (am_cp P O 64) (am_fl P a (a + q) 0) 64) (am_cp P O 64)) H := hP
      have hD : va_D A (am_M bd dN (am_cp (am_cp P O 64) (am_fl P a (a + q) 0) 64) (am_cp P O 64)) := hD
      refine am_if_eq (tgt := 41) hx hb (by omega) dX1_free_33 (by decide) (fun c33 => ?_) (fun c33 => ?_)
      · exact absurd c33 (by decide)
      · refine lv_bipush (v := (-2)) hx hb dX1_free_36 (by decide +kernel) ?_
        refine lv_goto (tgt := 42) hx hb dX1_free_38 (by decide) ?_
        exact am_miret (am_cp (am_cp P O 64) (am_fl P a (a + q) 0) 64, am_cp P O 64) X hK hP hD hS dX1_free_42 (by rw [am_sFree_ok hq1 haq, am_put_f (by omega)]; exact ⟨rfl, fun j hj => (am_cp_lo hj).trans (am_cp_lo hj)⟩)
    · have hP : va_P D am_cl (am_M bd dN (am_fl P a (a + q) 0) (am_cp P O 64)) H := hP
      have hD : va_D A (am_M bd dN (am_fl P a (a + q) 0) (am_cp P O 64)) := hD
      refine am_if_eq (tgt := 41) hx hb (by omega) dX1_free_33 (by decide) (fun c33 => ?_) (fun c33 => ?_)
      · refine lv_iload_n hx hb dX1_free_41 rfl (lv_at hl 0 rfl) ?_
        exact am_miret (am_fl P a (a + q) 0, am_cp P O 64) X hK hP hD hS dX1_free_42 (by rw [am_sFree_ok hq1 haq, am_put_t hov]; exact ⟨rfl, fun j hj => rfl⟩)
      · exact absurd c33 (by decide)
  · refine lv_iconst (v := (-1)) hx hb dX1_free_9 (by decide +kernel) ?_
    exact am_miret (P, O) X hK hP hD hS dX1_free_10 (by rw [am_sFree_bad (hq.f c6)]; exact ⟨rfl, fun j hj => rfl⟩)
set_option maxHeartbeats 4000000 in
set_option maxRecDepth 100000 in
theorem mt_X1_place (l : Launch) (D : va_G) (bd : Nat → Nat) (dN : ClassId) (P O : Nat → Nat) (hB : ∀ j, j < 64 → P j ≤ 128) (x y z : Int32) : am_MU l yX1_place cX1_place 5 (some .int) 3 [.ref (bd 0), .int x, .int y, .int z] D (am_Mu bd dN) [(dN, .int)] (P, O) (fun r (u : am_SM) => r = (am_sPlace P x y z).1 ∧ ∀ j, j < 64 → u.1 j = (am_sPlace P x y z).2 j) := by
  refine am_MU.intro RX1 rfl (by decide) (Nat.le_of_ble_eq_true rfl) ?_
  intro p e s m args below meth c A X hA hK hP hD ls hl
  have hP : va_P D am_cl (am_M bd dN P O) s.heap := hP
  have hD : va_D A (am_M bd dN P O) := hD
  have hx := X.1
  have hb := X.2.1
  have hS : va_S A s.heap s.heap [] := va_S.rf
  have hl : lv_has ls 5 [(0, .ref (bd 0)), (1, .int x), (2, .int y), (3, .int z)] := hl
  refine lv_iload_n hx hb dX1_place_0 rfl (lv_at hl 2 rfl) ?_
  refine lv_iconst (v := nI 1) hx hb dX1_place_1 (by decide +kernel) ?_
  refine lv_icmp_lt (tgt := 25) hx hb dX1_place_2 (by decide) (fun c2 => ?_) (fun c2 => ?_)
  · refine lv_iconst (v := (-1)) hx hb dX1_place_25 (by decide +kernel) ?_
    exact am_miret (P, O) X hK hP hD hS dX1_place_26 (by rw [am_sPlace_bad (fun h => by have := (am_ltn (n := 1) (by decide)).mp c2; have := h.1; omega)]; exact ⟨rfl, fun j hj => rfl⟩)
  · have c2 := mt (am_ltn (n := 1) (by decide)).mpr c2
    obtain ⟨q, hq31, rfl, hqq⟩ := am_nat (x := y) (by omega)
    have hq1 : 1 ≤ q := by omega
    refine lv_iload_n hx hb dX1_place_5 rfl (lv_at hl 1 rfl) ?_
    refine lv_if_lt (tgt := 25) hx hb dX1_place_6 (by decide) (fun c6 => ?_) (fun c6 => ?_)
    · refine lv_iconst (v := (-1)) hx hb dX1_place_25 (by decide +kernel) ?_
      exact am_miret (P, O) X hK hP hD hS dX1_place_26 (by rw [am_sPlace_bad (fun h => by have := am_lt0.mp c6; have := h.2.1.1; omega)]; exact ⟨rfl, fun j hj => rfl⟩)
    · obtain ⟨a, ha, rfl⟩ := nI_of c6
      refine lv_iload_n hx hb dX1_place_9 rfl (lv_at hl 1 rfl) ?_
      refine lv_bipush (v := nI 63) hx hb dX1_place_10 (by decide +kernel) ?_
      refine am_icmp_gt (tgt := 25) hx hb (by omega) (by omega) dX1_place_12 (by decide) (fun c12 => ?_) (fun c12 => ?_)
      · refine lv_iconst (v := (-1)) hx hb dX1_place_25 (by decide +kernel) ?_
        exact am_miret (P, O) X hK hP hD hS dX1_place_26 (by rw [am_sPlace_bad (fun h => by have h2 := h.2.1.2; rw [nI_toInt ha] at h2; omega)]; exact ⟨rfl, fun j hj => rfl⟩)
      · refine lv_iload_n hx hb dX1_place_15 rfl (lv_at hl 3 rfl) ?_
        refine lv_if_lt (tgt := 25) hx hb dX1_place_16 (by decide) (fun c16 => ?_) (fun c16 => ?_)
        · refine lv_iconst (v := (-1)) hx hb dX1_place_25 (by decide +kernel) ?_
          exact am_miret (P, O) X hK hP hD hS dX1_place_26 (by rw [am_sPlace_bad (fun h => by have := am_lt0.mp c16; have := h.2.2.1; omega)]; exact ⟨rfl, fun j hj => rfl⟩)
        · obtain ⟨w, hw, rfl⟩ := nI_of c16
          refine lv_iload_n hx hb dX1_place_19 rfl (lv_at hl 3 rfl) ?_
          refine lv_bipush (v := nI 127) hx hb dX1_place_20 (by decide +kernel) ?_
          refine am_icmp_le (tgt := 27) hx hb (by omega) (by omega) dX1_place_22 (by decide) (fun c22 => ?_) (fun c22 => ?_)
          · refine lv_aload_n hx hb dX1_place_27 rfl (lv_at hl 0 rfl) ?_
            refine lv_iload_n hx hb dX1_place_28 rfl (lv_at hl 1 rfl) ?_
            refine lv_iload_n hx hb dX1_place_29 rfl (lv_at hl 2 rfl) ?_
            refine am_callV (mt_X1_room l D bd dN P O hB a q (by omega) hq1 hq31) lk_X1_39 X hl.1 hP hK rfl rfl rfl hP hS ⟨by decide, by decide⟩ ⟨Nat.zero_le _, Nat.zero_le _⟩ (by decide) dX1_place_30 rfl (fun r H locs hp hP hS => ?_)
            cases hro1 : am_room P a q with
            | none =>
              have hp : r = -1 := by rw [hp, hro1]; rfl
              subst hp
              refine lv_istore (lv' := [(4, .int (-1)), (0, .ref (bd 0)), (1, .int (nI a)), (2, .int (nI q)), (3, .int (nI w))]) hx hb dX1_place_33 hl (by decide) rfl (fun ls hl => ?_)
              refine lv_iload hx hb dX1_place_35 (lv_at hl 0 rfl) ?_
              refine lv_if_ge (tgt := 49) hx hb dX1_place_37 (by decide) (fun c37 => ?_) (fun c37 => ?_)
              · exact absurd c37 (by decide)
              · refine lv_aload_n hx hb dX1_place_40 rfl (lv_at hl 1 rfl) ?_
                refine lv_iconst (v := nI 0) hx hb dX1_place_41 (by decide +kernel) ?_
                refine lv_iload_n hx hb dX1_place_42 rfl (lv_at hl 3 rfl) ?_
                refine am_callV (mt_X1_room l D bd dN P O hB 0 q (by omega) hq1 hq31) lk_X1_39 X hl.1 hP hK rfl rfl rfl hP hS ⟨by decide, by decide⟩ ⟨Nat.zero_le _, Nat.zero_le _⟩ (by decide) dX1_place_43 rfl (fun r H locs hp hP hS => ?_)
                cases hro2 : am_room P 0 q with
                | none =>
                  have hp : r = -1 := by rw [hp, hro2]; rfl
                  subst hp
                  refine lv_goto (tgt := 51) hx hb dX1_place_46 (by decide) ?_
                  refine lv_istore (lv' := [(4, .int (-1)), (0, .ref (bd 0)), (1, .int (nI a)), (2, .int (nI q)), (3, .int (nI w))]) hx hb dX1_place_51 hl (by decide) rfl (fun ls hl => ?_)
                  refine lv_iload hx hb dX1_place_53 (lv_at hl 0 rfl) ?_
                  refine lv_if_ge (tgt := 61) hx hb dX1_place_55 (by decide) (fun c55 => ?_) (fun c55 => ?_)
                  · exact absurd c55 (by decide)
                  · refine lv_bipush (v := (-3)) hx hb dX1_place_58 (by decide +kernel) ?_
                    exact am_miret (P, O) X hK hP hD hS dX1_place_60 (by rw [am_sPlace_n hq1 hq31 (by omega) c22 ((am_room2_n hro1).trans hro2)]; exact ⟨rfl, fun j hj => rfl⟩)
                | some p2 =>
                  have hp : r = nI p2 := by rw [hp, hro2]; rfl
                  subst hp
                  have hpq := am_room_le hro2
                  refine lv_goto (tgt := 51) hx hb dX1_place_46 (by decide) ?_
                  refine lv_istore (lv' := [(4, .int (nI p2)), (0, .ref (bd 0)), (1, .int (nI a)), (2, .int (nI q)), (3, .int (nI w))]) hx hb dX1_place_51 hl (by decide) rfl (fun ls hl => ?_)
                  refine lv_iload hx hb dX1_place_53 (lv_at hl 0 rfl) ?_
                  refine am_if_ge (tgt := 61) hx hb (by omega) dX1_place_55 (by decide) ?_
                  refine lv_aload_n hx hb dX1_place_61 rfl (lv_at hl 1 rfl) ?_
                  refine am_mcallVv0 (mt_X1_keep l D bd dN P O) lk_X1_28 X hl.1 hK rfl rfl rfl hP hD hS hA ⟨by decide, by decide⟩ ⟨Nat.zero_le _, Nat.zero_le _⟩ (by decide) dX1_place_62 rfl (fun u H locs hp hP hD hS => ?_)
                  subst hp
                  have hP : va_P D am_cl (am_M bd dN P (am_cp P O 64)) H := hP
                  have hD : va_D A (am_M bd dN P (am_cp P O 64)) := hD
                  refine lv_aload_n hx hb dX1_place_65 rfl (lv_at hl 1 rfl) ?_
                  refine lv_iload hx hb dX1_place_66 (lv_at hl 0 rfl) ?_
                  refine lv_iload_n hx hb dX1_place_68 rfl (lv_at hl 3 rfl) ?_
                  refine lv_iload_n hx hb dX1_place_69 rfl (lv_at hl 4 rfl) ?_
                  refine lv_iconst (v := nI 1) hx hb dX1_place_70 (by decide +kernel) ?_
                  refine am_iadd hx hb dX1_place_71 ?_
                  refine am_mcallVv0 (mt_X1_fill l D bd dN P (am_cp P O 64) p2 q (w + 1) (by omega)) lk_X1_31 X hl.1 hK rfl rfl rfl hP hD hS hA ⟨by decide, by decide⟩ ⟨Nat.zero_le _, Nat.zero_le _⟩ (by decide) dX1_place_72 rfl (fun u H locs hp hP hD hS => ?_)
                  subst hp
                  have hP : va_P D am_cl (am_M bd dN (am_fl P p2 (p2 + q) (w + 1)) (am_cp P O 64)) H := hP
                  have hD : va_D A (am_M bd dN (am_fl P p2 (p2 + q) (w + 1)) (am_cp P O 64)) := hD
                  refine lv_aload_n hx hb dX1_place_75 rfl (lv_at hl 1 rfl) ?_
                  refine am_mcallV0 (mt_X1_tooMany l D bd dN (am_fl P p2 (p2 + q) (w + 1)) (am_cp P O 64) (fun j hj => by unfold am_fl; split <;> first | omega | exact hB j hj)) lk_X1_35 X hl.1 hK rfl rfl rfl hP hD hS hA ⟨by decide, by decide⟩ ⟨Nat.zero_le _, Nat.zero_le _⟩ (by decide) dX1_place_76 rfl (fun r u H locs hp hP hD hS => ?_)
                  rcases hp with ⟨rfl, hov, rfl⟩ | ⟨rfl, hov, rfl⟩
                  · have hP : va_P D am_cl (am_M bd dN (am_cp (am_cp P O 64) (am_fl P p2 (p2 + q) (w + 1)) 64) (am_cp P O 64)) H := hP
                    have hD : va_D A (am_M bd dN (am_cp (am_cp P O 64) (am_fl P p2 (p2 + q) (w + 1)) 64) (am_cp P O 64)) := hD
                    refine am_if_eq (tgt := 87) hx hb (by omega) dX1_place_79 (by decide) (fun c79 => ?_) (fun c79 => ?_)
                    · exact absurd c79 (by decide)
                    · refine lv_bipush (v := (-2)) hx hb dX1_place_82 (by decide +kernel) ?_
                      refine lv_goto (tgt := 89) hx hb dX1_place_84 (by decide) ?_
                      exact am_miret (am_cp (am_cp P O 64) (am_fl P p2 (p2 + q) (w + 1)) 64, am_cp P O 64) X hK hP hD hS dX1_place_89 (by rw [am_sPlace_s hq1 hq31 (by omega) c22 ((am_room2_n hro1).trans hro2), am_put_f (by omega)]; exact ⟨rfl, fun j hj => (am_cp_lo hj).trans (am_cp_lo hj)⟩)
                  · have hP : va_P D am_cl (am_M bd dN (am_fl P p2 (p2 + q) (w + 1)) (am_cp P O 64)) H := hP
                    have hD : va_D A (am_M bd dN (am_fl P p2 (p2 + q) (w + 1)) (am_cp P O 64)) := hD
                    refine am_if_eq (tgt := 87) hx hb (by omega) dX1_place_79 (by decide) (fun c79 => ?_) (fun c79 => ?_)
                    · refine lv_iload hx hb dX1_place_87 (lv_at hl 0 rfl) ?_
                      exact am_miret (am_fl P p2 (p2 + q) (w + 1), am_cp P O 64) X hK hP hD hS dX1_place_89 (by rw [am_sPlace_s hq1 hq31 (by omega) c22 ((am_room2_n hro1).trans hro2), am_put_t hov]; exact ⟨rfl, fun j hj => rfl⟩)
                    · exact absurd c79 (by decide)
            | some p1 =>
              have hp : r = nI p1 := by rw [hp, hro1]; rfl
              subst hp
              have hpq := am_room_le hro1
              refine lv_istore (lv' := [(4, .int (nI p1)), (0, .ref (bd 0)), (1, .int (nI a)), (2, .int (nI q)), (3, .int (nI w))]) hx hb dX1_place_33 hl (by decide) rfl (fun ls hl => ?_)
              refine lv_iload hx hb dX1_place_35 (lv_at hl 0 rfl) ?_
              refine am_if_ge (tgt := 49) hx hb (by omega) dX1_place_37 (by decide) ?_
              refine lv_iload hx hb dX1_place_49 (lv_at hl 0 rfl) ?_
              refine lv_istore (lv' := [(4, .int (nI p1)), (0, .ref (bd 0)), (1, .int (nI a)), (2, .int (nI q)), (3, .int (nI w))]) hx hb dX1_place_51 hl (by decide) rfl (fun ls hl => ?_)
              refine lv_iload hx hb dX1_place_53 (lv_at hl 0 rfl) ?_
              refine am_if_ge (tgt := 61) hx hb (by omega) dX1_place_55 (by decide) ?_
              refine lv_aload_n hx hb dX1_place_61 rfl (lv_at hl 1 rfl) ?_
              refine am_mcallVv0 (mt_X1_keep l D bd dN P O) lk_X1_28 X hl.1 hK rfl rfl rfl hP hD hS hA ⟨by decide, by decide⟩ ⟨Nat.zero_le _, Nat.zero_le _⟩ (by decide) dX1_place_62 rfl (fun u H locs hp hP hD hS => ?_)
              subst hp
              have hP : va_P D am_cl (am_M bd dN P (am_cp P O 64)) H := hP
              have hD : va_D A (am_M bd dN P (am_cp P O 64)) := hD
              refine lv_aload_n hx hb dX1_place_65 rfl (lv_at hl 1 rfl) ?_
              refine lv_iload hx hb dX1_place_66 (lv_at hl 0 rfl) ?_
              refine lv_iload_n hx hb dX1_place_68 rfl (lv_at hl 3 rfl) ?_
              refine lv_iload_n hx hb dX1_place_69 rfl (lv_at hl 4 rfl) ?_
              refine lv_iconst (v := nI 1) hx hb dX1_place_70 (by decide +kernel) ?_
              refine am_iadd hx hb dX1_place_71 ?_
              refine am_mcallVv0 (mt_X1_fill l D bd dN P (am_cp P O 64) p1 q (w + 1) (by omega)) lk_X1_31 X hl.1 hK rfl rfl rfl hP hD hS hA ⟨by decide, by decide⟩ ⟨Nat.zero_le _, Nat.zero_le _⟩ (by decide) dX1_place_72 rfl (fun u H locs hp hP hD hS => ?_)
              subst hp
              have hP : va_P D am_cl (am_M bd dN (am_fl P p1 (p1 + q) (w + 1)) (am_cp P O 64)) H := hP
              have hD : va_D A (am_M bd dN (am_fl P p1 (p1 + q) (w + 1)) (am_cp P O 64)) := hD
              refine lv_aload_n hx hb dX1_place_75 rfl (lv_at hl 1 rfl) ?_
              refine am_mcallV0 (mt_X1_tooMany l D bd dN (am_fl P p1 (p1 + q) (w + 1)) (am_cp P O 64) (fun j hj => by unfold am_fl; split <;> first | omega | exact hB j hj)) lk_X1_35 X hl.1 hK rfl rfl rfl hP hD hS hA ⟨by decide, by decide⟩ ⟨Nat.zero_le _, Nat.zero_le _⟩ (by decide) dX1_place_76 rfl (fun r u H locs hp hP hD hS => ?_)
              rcases hp with ⟨rfl, hov, rfl⟩ | ⟨rfl, hov, rfl⟩
              · have hP : va_P D am_cl (am_M bd dN (am_cp (am_cp P O 64) (am_fl P p1 (p1 + q) (w + 1)) 64) (am_cp P O 64)) H := hP
                have hD : va_D A (am_M bd dN (am_cp (am_cp P O 64) (am_fl P p1 (p1 + q) (w + 1)) 64) (am_cp P O 64)) := hD
                refine am_if_eq (tgt := 87) hx hb (by omega) dX1_place_79 (by decide) (fun c79 => ?_) (fun c79 => ?_)
                · exact absurd c79 (by decide)
                · refine lv_bipush (v := (-2)) hx hb dX1_place_82 (by decide +kernel) ?_
                  refine lv_goto (tgt := 89) hx hb dX1_place_84 (by decide) ?_
                  exact am_miret (am_cp (am_cp P O 64) (am_fl P p1 (p1 + q) (w + 1)) 64, am_cp P O 64) X hK hP hD hS dX1_place_89 (by rw [am_sPlace_s hq1 hq31 (by omega) c22 (am_room2_s hro1), am_put_f (by omega)]; exact ⟨rfl, fun j hj => (am_cp_lo hj).trans (am_cp_lo hj)⟩)
              · have hP : va_P D am_cl (am_M bd dN (am_fl P p1 (p1 + q) (w + 1)) (am_cp P O 64)) H := hP
                have hD : va_D A (am_M bd dN (am_fl P p1 (p1 + q) (w + 1)) (am_cp P O 64)) := hD
                refine am_if_eq (tgt := 87) hx hb (by omega) dX1_place_79 (by decide) (fun c79 => ?_) (fun c79 => ?_)
                · refine lv_iload hx hb dX1_place_87 (lv_at hl 0 rfl) ?_
                  exact am_miret (am_fl P p1 (p1 + q) (w + 1), am_cp P O 64) X hK hP hD hS dX1_place_89 (by rw [am_sPlace_s hq1 hq31 (by omega) c22 (am_room2_s hro1), am_put_t hov]; exact ⟨rfl, fun j hj => rfl⟩)
                · exact absurd c79 (by decide)
          · refine lv_iconst (v := (-1)) hx hb dX1_place_25 (by decide +kernel) ?_
            exact am_miret (P, O) X hK hP hD hS dX1_place_26 (by rw [am_sPlace_bad (fun h => by have h2 := h.2.2.2; rw [nI_toInt hw] at h2; omega)]; exact ⟨rfl, fun j hj => rfl⟩)
set_option maxHeartbeats 4000000 in
set_option maxRecDepth 100000 in
theorem mt_X1_protect (l : Launch) (D : va_G) (bd : Nat → Nat) (dN : ClassId) (P O : Nat → Nat) (hB : ∀ j, j < 64 → P j ≤ 128) (x y z : Int32) : am_MU l yX1_protect cX1_protect 7 (some .int) 3 [.ref (bd 0), .int x, .int y, .int z] D (am_Mu bd dN) [(dN, .int)] (P, O) (fun r (u : am_SM) => r = (am_sProt P x y z).1 ∧ ∀ j, j < 64 → u.1 j = (am_sProt P x y z).2 j) := by
  refine am_MU.intro RX1 rfl (by decide) (Nat.le_of_ble_eq_true rfl) ?_
  intro p e s m args below meth c A X hA hK hP hD ls hl
  have hP : va_P D am_cl (am_M bd dN P O) s.heap := hP
  have hD : va_D A (am_M bd dN P O) := hD
  have hx := X.1
  have hb := X.2.1
  have hS : va_S A s.heap s.heap [] := va_S.rf
  have hl : lv_has ls 7 [(0, .ref (bd 0)), (1, .int x), (2, .int y), (3, .int z)] := hl
  refine lv_aload_n hx hb dX1_protect_0 rfl (lv_at hl 0 rfl) ?_
  refine lv_iload_n hx hb dX1_protect_1 rfl (lv_at hl 1 rfl) ?_
  refine lv_iload_n hx hb dX1_protect_2 rfl (lv_at hl 2 rfl) ?_
  refine am_callV (mt_X1_proper l D bd dN P O (x) (y)) lk_X1_20 X hl.1 hP hK rfl rfl rfl hP hS ⟨by decide, by decide⟩ ⟨Nat.zero_le _, Nat.zero_le _⟩ (by decide) dX1_protect_3 rfl (fun rp H locs hq hP hS => ?_)
  refine lv_if_eq (tgt := 19) hx hb dX1_protect_6 (by decide) (fun c6 => ?_) (fun c6 => ?_)
  · refine lv_iconst (v := (-1)) hx hb dX1_protect_19 (by decide +kernel) ?_
    exact am_miret (P, O) X hK hP hD hS dX1_protect_20 (by rw [am_sProt_bad (fun h => hq.f c6 h.1)]; exact ⟨rfl, fun j hj => rfl⟩)
  · have hq := hq.t c6
    obtain ⟨a, q, rfl, rfl, hq1, haq⟩ := am_okp_n hq
    refine lv_iload_n hx hb dX1_protect_9 rfl (lv_at hl 3 rfl) ?_
    refine lv_if_lt (tgt := 19) hx hb dX1_protect_10 (by decide) (fun c10 => ?_) (fun c10 => ?_)
    · refine lv_iconst (v := (-1)) hx hb dX1_protect_19 (by decide +kernel) ?_
      exact am_miret (P, O) X hK hP hD hS dX1_protect_20 (by rw [am_sProt_bad (fun h => by have := am_lt0.mp c10; have := h.2.1; omega)]; exact ⟨rfl, fun j hj => rfl⟩)
    · obtain ⟨w, hw, rfl⟩ := nI_of c10
      refine lv_iload_n hx hb dX1_protect_13 rfl (lv_at hl 3 rfl) ?_
      refine lv_bipush (v := nI 7) hx hb dX1_protect_14 (by decide +kernel) ?_
      refine am_icmp_le (tgt := 21) hx hb (by omega) (by omega) dX1_protect_16 (by decide) (fun c16 => ?_) (fun c16 => ?_)
      · refine lv_aload_n hx hb dX1_protect_21 rfl (lv_at hl 0 rfl) ?_
        refine lv_iload_n hx hb dX1_protect_22 rfl (lv_at hl 1 rfl) ?_
        refine lv_iload_n hx hb dX1_protect_23 rfl (lv_at hl 2 rfl) ?_
        refine am_callV (mt_X1_used l D bd dN P O hB a q (by omega)) lk_X1_24 X hl.1 hP hK rfl rfl rfl hP hS ⟨by decide, by decide⟩ ⟨Nat.zero_le _, Nat.zero_le _⟩ (by decide) dX1_protect_24 rfl (fun r H locs hp hP hS => ?_)
        subst hp
        have hus : am_us P a (a + q) ≤ 64 := Nat.le_trans (am_cw_le 64) (by omega)
        refine lv_iload_n hx hb dX1_protect_27 rfl (lv_at hl 2 rfl) ?_
        refine am_icmp_ge (tgt := 34) hx hb (by omega) (by omega) dX1_protect_28 (by decide) (fun c28 => ?_) (fun c28 => ?_)
        · have hg := am_us_all c28 haq
          refine lv_aload_n hx hb dX1_protect_34 rfl (lv_at hl 0 rfl) ?_
          refine am_mcallVv0 (mt_X1_keep l D bd dN P O) lk_X1_28 X hl.1 hK rfl rfl rfl hP hD hS hA ⟨by decide, by decide⟩ ⟨Nat.zero_le _, Nat.zero_le _⟩ (by decide) dX1_protect_35 rfl (fun u H locs hp hP hD hS => ?_)
          subst hp
          have hP : va_P D am_cl (am_M bd dN P (am_cp P O 64)) H := hP
          have hD : va_D A (am_M bd dN P (am_cp P O 64)) := hD
          refine lv_iconst (v := nI 0) hx hb dX1_protect_38 (by decide +kernel) ?_
          refine lv_istore (lv' := [(4, .int (nI 0)), (0, .ref (bd 0)), (1, .int (nI a)), (2, .int (nI q)), (3, .int (nI w))]) hx hb dX1_protect_39 hl (by decide) rfl (fun ls hl => ?_)
          refine lv_iload_n hx hb dX1_protect_41 rfl (lv_at hl 2 rfl) ?_
          refine lv_istore (lv' := [(5, .int (nI a)), (4, .int (nI 0)), (0, .ref (bd 0)), (1, .int (nI a)), (2, .int (nI q)), (3, .int (nI w))]) hx hb dX1_protect_42 hl (by decide) rfl (fun ls hl => ?_)
          have loop : ∀ (N : Nat) (i : Nat) (ch : Nat), (a ≤ i) → (i ≤ a + q) → (a + q < i + N) → (ch = am_cw (fun v => decide (0 < v) && decide ((v - 1) % 8 ≠ w)) P a (a + q) i) → ∀ (H : Heap) (locs : List Loc), va_P D am_cl (am_M bd dN (am_pr P a i w) (am_cp P O 64)) H → va_D A (am_M bd dN (am_pr P a i w) (am_cp P O 64)) → va_S A s.heap H locs → ∀ ls : Array Slot, lv_has ls 7 [(0, .ref (bd 0)), (1, .int (nI a)), (2, .int (nI q)), (3, .int (nI w)), (4, .int (nI ch)), (5, .int (nI i))] → W p l e (am_rm 3) s m args below meth c H locs 0 0 (am_QM below D (am_Mu bd dN) [(dN, .int)] (fun r (u : am_SM) => r = (am_sProt P (nI a) (nI q) (nI w)).1 ∧ ∀ j, j < 64 → u.1 j = (am_sProt P (nI a) (nI q) (nI w)).2 j) args s A) (F0 m 44 ls []) := by
            intro N
            induction N with
            | zero =>
              intro i ch hai hi hN hch
              exfalso
              omega
            | succ N ih =>
              intro i ch hai hi hN hch H locs hP hD hS ls hl
              refine lv_iload hx hb dX1_protect_44 (lv_at hl 5 rfl) ?_
              refine lv_iload_n hx hb dX1_protect_46 rfl (lv_at hl 1 rfl) ?_
              refine lv_iload_n hx hb dX1_protect_47 rfl (lv_at hl 2 rfl) ?_
              refine am_iadd hx hb dX1_protect_48 ?_
              refine am_icmp_ge (tgt := 105) hx hb (by omega) (by omega) dX1_protect_49 (by decide) (fun c49 => ?_) (fun c49 => ?_)
              · have e9 : i = a + q := by omega
                rw [e9] at hP hD hch
                refine lv_aload_n hx hb dX1_protect_105 rfl (lv_at hl 0 rfl) ?_
                refine am_mcallV0 (mt_X1_tooMany l D bd dN (am_pr P a (a + q) w) (am_cp P O 64) (fun j hj => by have := hB j hj; unfold am_pr; split <;> first | (unfold am_pv; omega) | omega)) lk_X1_35 X hl.1 hK rfl rfl rfl hP hD hS hA ⟨by decide, by decide⟩ ⟨Nat.zero_le _, Nat.zero_le _⟩ (by decide) dX1_protect_106 rfl (fun r u H locs hp hP hD hS => ?_)
                rcases hp with ⟨rfl, hov, rfl⟩ | ⟨rfl, hov, rfl⟩
                · have hP : va_P D am_cl (am_M bd dN (am_cp (am_cp P O 64) (am_pr P a (a + q) w) 64) (am_cp P O 64)) H := hP
                  have hD : va_D A (am_M bd dN (am_cp (am_cp P O 64) (am_pr P a (a + q) w) 64) (am_cp P O 64)) := hD
                  refine am_if_eq (tgt := 117) hx hb (by omega) dX1_protect_109 (by decide) (fun c109 => ?_) (fun c109 => ?_)
                  · exact absurd c109 (by decide)
                  · refine lv_bipush (v := (-2)) hx hb dX1_protect_112 (by decide +kernel) ?_
                    refine lv_goto (tgt := 119) hx hb dX1_protect_114 (by decide) ?_
                    exact am_miret (am_cp (am_cp P O 64) (am_pr P a (a + q) w) 64, am_cp P O 64) X hK hP hD hS dX1_protect_119 (by rw [am_sProt_ok hq1 haq c16 c28, am_put_f (by omega)]; exact ⟨rfl, fun j hj => (am_cp_lo hj).trans (am_cp_lo hj)⟩)
                · have hP : va_P D am_cl (am_M bd dN (am_pr P a (a + q) w) (am_cp P O 64)) H := hP
                  have hD : va_D A (am_M bd dN (am_pr P a (a + q) w) (am_cp P O 64)) := hD
                  refine am_if_eq (tgt := 117) hx hb (by omega) dX1_protect_109 (by decide) (fun c109 => ?_) (fun c109 => ?_)
                  · refine lv_iload hx hb dX1_protect_117 (lv_at hl 4 rfl) ?_
                    exact am_miret (am_pr P a (a + q) w, am_cp P O 64) X hK hP hD hS dX1_protect_119 (by rw [am_sProt_ok hq1 haq c16 c28, am_put_t hov]; exact ⟨by rw [hch]; exact congrArg nI (am_cw_hi haq).symm, fun j hj => rfl⟩)
                  · exact absurd c109 (by decide)
              · have hBi := hB i (by omega)
                have hPi : 0 < P i := Nat.pos_of_ne_zero (fun z => by have := hg i z (by omega); omega)
                refine lv_aload_n hx hb dX1_protect_52 rfl (lv_at hl 0 rfl) ?_
                refine am_gM_7 X hK hP dX1_protect_53 ?_
                refine lv_iload hx hb dX1_protect_56 (lv_at hl 5 rfl) ?_
                refine am_lM_1 X hK hP (by omega) dX1_protect_58 ?_
                refine am_top (y := nI (P i)) (congrArg nI (am_pr_out (Or.inr (Nat.le_refl i)))) ?_
                refine lv_iconst (v := nI 1) hx hb dX1_protect_59 (by decide +kernel) ?_
                refine am_isub hx hb (by omega) dX1_protect_60 ?_
                refine lv_istore (lv' := [(6, .int (nI ((P i) - 1))), (0, .ref (bd 0)), (1, .int (nI a)), (2, .int (nI q)), (3, .int (nI w)), (4, .int (nI ch)), (5, .int (nI i))]) hx hb dX1_protect_61 hl (by decide) rfl (fun ls hl => ?_)
                refine lv_iload hx hb dX1_protect_63 (lv_at hl 0 rfl) ?_
                refine lv_bipush (v := nI 7) hx hb dX1_protect_65 (by decide +kernel) ?_
                refine lv_iand hx hb dX1_protect_67 ?_
                refine am_top (y := nI ((P i - 1) % 8)) (am_k7 (by omega)) ?_
                refine lv_iload_n hx hb dX1_protect_68 rfl (lv_at hl 4 rfl) ?_
                refine am_icmp_eq (tgt := 79) hx hb (by omega) (by omega) dX1_protect_69 (by decide) (fun c69 => ?_) (fun c69 => ?_)
                · refine lv_iload hx hb dX1_protect_79 (lv_at hl 5 rfl) ?_
                  refine lv_istore (lv' := [(4, .int (nI ch)), (6, .int (nI ((P i) - 1))), (0, .ref (bd 0)), (1, .int (nI a)), (2, .int (nI q)), (3, .int (nI w)), (5, .int (nI i))]) hx hb dX1_protect_81 hl (by decide) rfl (fun ls hl => ?_)
                  refine lv_aload_n hx hb dX1_protect_83 rfl (lv_at hl 2 rfl) ?_
                  refine am_gM_7 X hK hP dX1_protect_84 ?_
                  refine lv_iload hx hb dX1_protect_87 (lv_at hl 6 rfl) ?_
                  refine lv_iload hx hb dX1_protect_89 (lv_at hl 1 rfl) ?_
                  refine lv_bipush (v := (-8)) hx hb dX1_protect_91 (by decide +kernel) ?_
                  refine lv_iand hx hb dX1_protect_93 ?_
                  refine lv_iload_n hx hb dX1_protect_94 rfl (lv_at hl 5 rfl) ?_
                  refine lv_ior hx hb dX1_protect_95 ?_
                  refine am_top (y := nI ((P i - 1) / 8 * 8 + w)) (am_kp (P i - 1) (by omega) w (by omega)) ?_
                  refine lv_iconst (v := nI 1) hx hb dX1_protect_96 (by decide +kernel) ?_
                  refine am_iadd hx hb dX1_protect_97 ?_
                  refine am_sM_1 X hK hP hD hS (by omega) dX1_protect_98 (fun H locs hP hD hS => ?_)
                  refine lv_iinc (v := nI (i + 1)) (lv' := [(5, .int (nI (i + 1))), (4, .int (nI ch)), (6, .int (nI ((P i) - 1))), (0, .ref (bd 0)), (1, .int (nI a)), (2, .int (nI q)), (3, .int (nI w))]) hx hb dX1_protect_99 hl (k := 6) rfl (nI_1 _) (by decide) rfl (fun ls hl => ?_)
                  refine lv_goto (tgt := 44) hx hb dX1_protect_102 (by decide) ?_
                  have hP : va_P D am_cl (am_M bd dN (am_pr P a (i + 1) w) (am_cp P O 64)) H := by rw [← am_pr_s hai]; exact hP
                  have hD : va_D A (am_M bd dN (am_pr P a (i + 1) w) (am_cp P O 64)) := by rw [← am_pr_s hai]; exact hD
                  exact ih (i + 1) (ch) (by omega) (by omega) (by omega) (am_cw_f hch (by simp [c69])) _ _ hP hD hS ls (lv_sub hl [3, 4, 5, 6, 1, 0] rfl)
                · refine lv_iload hx hb dX1_protect_72 (lv_at hl 5 rfl) ?_
                  refine lv_iconst (v := nI 1) hx hb dX1_protect_74 (by decide +kernel) ?_
                  refine am_iadd hx hb dX1_protect_75 ?_
                  refine lv_goto (tgt := 81) hx hb dX1_protect_76 (by decide) ?_
                  refine lv_istore (lv' := [(4, .int (nI (ch + 1))), (6, .int (nI ((P i) - 1))), (0, .ref (bd 0)), (1, .int (nI a)), (2, .int (nI q)), (3, .int (nI w)), (5, .int (nI i))]) hx hb dX1_protect_81 hl (by decide) rfl (fun ls hl => ?_)
                  refine lv_aload_n hx hb dX1_protect_83 rfl (lv_at hl 2 rfl) ?_
                  refine am_gM_7 X hK hP dX1_protect_84 ?_
                  refine lv_iload hx hb dX1_protect_87 (lv_at hl 6 rfl) ?_
                  refine lv_iload hx hb dX1_protect_89 (lv_at hl 1 rfl) ?_
                  refine lv_bipush (v := (-8)) hx hb dX1_protect_91 (by decide +kernel) ?_
                  refine lv_iand hx hb dX1_protect_93 ?_
                  refine lv_iload_n hx hb dX1_protect_94 rfl (lv_at hl 5 rfl) ?_
                  refine lv_ior hx hb dX1_protect_95 ?_
                  refine am_top (y := nI ((P i - 1) / 8 * 8 + w)) (am_kp (P i - 1) (by omega) w (by omega)) ?_
                  refine lv_iconst (v := nI 1) hx hb dX1_protect_96 (by decide +kernel) ?_
                  refine am_iadd hx hb dX1_protect_97 ?_
                  refine am_sM_1 X hK hP hD hS (by omega) dX1_protect_98 (fun H locs hP hD hS => ?_)
                  refine lv_iinc (v := nI (i + 1)) (lv' := [(5, .int (nI (i + 1))), (4, .int (nI (ch + 1))), (6, .int (nI ((P i) - 1))), (0, .ref (bd 0)), (1, .int (nI a)), (2, .int (nI q)), (3, .int (nI w))]) hx hb dX1_protect_99 hl (k := 6) rfl (nI_1 _) (by decide) rfl (fun ls hl => ?_)
                  refine lv_goto (tgt := 44) hx hb dX1_protect_102 (by decide) ?_
                  have hP : va_P D am_cl (am_M bd dN (am_pr P a (i + 1) w) (am_cp P O 64)) H := by rw [← am_pr_s hai]; exact hP
                  have hD : va_D A (am_M bd dN (am_pr P a (i + 1) w) (am_cp P O 64)) := by rw [← am_pr_s hai]; exact hD
                  exact ih (i + 1) (ch + 1) (by omega) (by omega) (by omega) (am_cw_t hch hai (by omega) (by simp [c69, hPi])) _ _ hP hD hS ls (lv_sub hl [3, 4, 5, 6, 1, 0] rfl)
          have hP : va_P D am_cl (am_M bd dN (am_pr P a a w) (am_cp P O 64)) H := by rw [am_pr_0]; exact hP
          have hD : va_D A (am_M bd dN (am_pr P a a w) (am_cp P O 64)) := by rw [am_pr_0]; exact hD
          exact loop (a + q + 1) a 0 (by omega) (by omega) (by omega) (am_cw_lo (Nat.le_refl _)).symm _ _ hP hD hS ls (lv_sub hl [2, 3, 4, 5, 1, 0] rfl)
        · refine lv_bipush (v := (-3)) hx hb dX1_protect_31 (by decide +kernel) ?_
          exact am_miret (P, O) X hK hP hD hS dX1_protect_33 (by rw [am_sProt_no hq1 haq c16 c28]; exact ⟨rfl, fun j hj => rfl⟩)
      · refine lv_iconst (v := (-1)) hx hb dX1_protect_19 (by decide +kernel) ?_
        exact am_miret (P, O) X hK hP hD hS dX1_protect_20 (by rw [am_sProt_bad (fun h => by have h2 := h.2.2; rw [nI_toInt hw] at h2; omega)]; exact ⟨rfl, fun j hj => rfl⟩)
end
section
/-! the two constructors -/
set_option maxRecDepth 100000
abbrev am_X0w (h : Nat) : va_W := [(h, .inr (0, [.int (nI 0), .null, .null, .null, .int (nI 0), .null, .null, .null]))]
set_option maxHeartbeats 4000000 in
set_option maxRecDepth 100000 in
theorem mt_X0_init (l : Launch) (D : va_G) (h sz : Nat) : Met l yX0_init (ws_ yX0_init cX0_init 1 none) { frames := 1, cells := 6, slots := 204, locals := 12 } (va_Pc [.ref h] (am_pm D (am_X0w h) [] sz)) (va_Qv (fun u : (Nat → Nat) × ClassId => u.1 0 = h) (fun (u : (Nat → Nat) × ClassId) t => va_P D am_cl (am_X u.1 u.2 0 (fun _ => 0) (fun _ => 0) (fun _ => 0) 0 (fun _ => 0) (fun _ => 0) (fun _ => 0)) t.heap ∧ va_K D am_cl [(u.2, .byte)] t ∧ va_D (va_A (am_X0w h) sz) (am_X u.1 u.2 0 (fun _ => 0) (fun _ => 0) (fun _ => 0) 0 (fun _ => 0) (fun _ => 0) (fun _ => 0))) (va_A (am_X0w h) sz)) 6 204 (va_A (am_X0w h) sz) := by
  refine Met.ofW (cc := cX0_init) (maxL := 1) (ret := none) (by decide) rfl ?_
  intro p e s m args below meth c s₁ B hml hv
  obtain ⟨rfl, hsz, hP, hK, hD0⟩ := hv
  have hx := B.exec
  have hb := B.bytes
  have hr := B.returns
  have hts := atoms_spec (ws := ws_ yX0_init cX0_init 1 none) B.pre
  have hts : ∀ w ∈ lw_all, w.before _ s = true := fun w h => hts w (List.mem_cons_of_mem _ h)
  have hown : s.vm.findClass RX0 = some m.cls := findClass_of_methodNamed B.named
  have hlocks := B.notSynchronized
  have hin : meth.name = "<init>" := (name_of_methodNamed B.named B.method).1
  subst hsz
  have hD := hD0.self (sz := s.heap.size)
  generalize hAe : va_A (am_X0w h) s.heap.size = A at hD ⊢
  have hA : ∀ q : Nat, s.heap.size ≤ q → A q := fun q h => by rw [← hAe]; exact Or.inr h
  have hS : va_S A s.heap s.heap [] := va_S.rf
  have hl := lv_entry ([.ref h]) (n := 1) (Nat.le_of_ble_eq_true rfl)
  rw [lg_entry_eq]
  generalize (lg_sl ([.ref h]) ++ List.replicate (1 - (lg_sl ([.ref h])).length) Slot.unset).toArray = ls at hl ⊢
  have hl : lv_has ls 1 [(0, .ref h)] := hl
  refine lv_aload_n hx hb dX0_init_0 rfl (lv_at hl 0 rfl) ?_
  refine W.objInit hx hb hown (hts _ q23) (hts _ q24) (hts _ q25) rfl (by rw [hml]; exact hl.1) rfl dX0_init_1 (Nat.le_of_ble_eq_true rfl) (Nat.le_of_ble_eq_true rfl) ?_
  refine W.eq (g2 := F0 m 4 ls []) rfl ?_
  refine lv_aload_n hx hb dX0_init_4 rfl (lv_at hl 0 rfl) ?_
  refine lv_bipush (v := nI 20) hx hb dX0_init_5 (by decide +kernel) ?_
  refine va_newa (atype := .byte) (ty := .byte) (N' := 20) (a0 := (20, .inl (fun _ => nI 0))) hx hb (hts _ q51) rfl hK hP hD hS hA (fun _ => rfl) (by decide +kernel) (by decide +kernel) (by decide +kernel) (Nat.le_of_ble_eq_true rfl) (Nat.le_of_ble_eq_true rfl) dX0_init_7 (fun q1 d1 H hK hP hD hS => ?_)
  refine W.widen (k := 1) (n := 20) (Nat.le_of_ble_eq_true rfl) (Nat.le_of_ble_eq_true rfl) ?_
  have hP : va_P D am_cl [(h, .inr (0, [.int (nI 0), .null, .null, .null, .int (nI 0), .null, .null, .null])), (q1, .inl (d1, 20, .inl (fun _ => nI 0)))] H := hP
  have hD : va_D A [(h, .inr (0, [.int (nI 0), .null, .null, .null, .int (nI 0), .null, .null, .null])), (q1, .inl (d1, 20, .inl (fun _ => nI 0)))] := hD
  have hK : va_K D am_cl [(d1, .byte)] s := hK
  refine va_putF (D := D) (ci := 0) (v := .ref q1) (ty := .array .byte) (C := RX0) (T := TX0) (N := 8) hx hb hts in_X0 tyX0 tyX0_ok nmX0 hown hK hP hD hS 0 rfl rfl 1 (by decide) (hts _ q27) (fun _ h9 => h9) rfl hin rfl (by decide +kernel) rfl rfl (Nat.le_of_ble_eq_true rfl) dX0_init_9 (fun H locs hP hD hS => ?_)
  have hP : va_P D am_cl [(h, .inr (0, [.int (nI 0), .ref q1, .null, .null, .int (nI 0), .null, .null, .null])), (q1, .inl (d1, 20, .inl (fun _ => nI 0)))] H := hP
  have hD : va_D A [(h, .inr (0, [.int (nI 0), .ref q1, .null, .null, .int (nI 0), .null, .null, .null])), (q1, .inl (d1, 20, .inl (fun _ => nI 0)))] := hD
  refine lv_aload_n hx hb dX0_init_12 rfl (lv_at hl 0 rfl) ?_
  refine lv_bipush (v := nI 20) hx hb dX0_init_13 (by decide +kernel) ?_
  refine va_newa (atype := .byte) (ty := .byte) (N' := 20) (a0 := (20, .inl (fun _ => nI 0))) hx hb (hts _ q51) rfl hK hP hD hS hA (fun _ => rfl) (by decide +kernel) (by decide +kernel) (by decide +kernel) (Nat.le_of_ble_eq_true rfl) (Nat.le_of_ble_eq_true rfl) dX0_init_15 (fun q2 d2 H hK hP hD hS => ?_)
  refine W.widen (k := 2) (n := 40) (Nat.le_of_ble_eq_true rfl) (Nat.le_of_ble_eq_true rfl) ?_
  have hP : va_P D am_cl [(h, .inr (0, [.int (nI 0), .ref q1, .null, .null, .int (nI 0), .null, .null, .null])), (q1, .inl (d1, 20, .inl (fun _ => nI 0))), (q2, .inl (d2, 20, .inl (fun _ => nI 0)))] H := hP
  have hD : va_D A [(h, .inr (0, [.int (nI 0), .ref q1, .null, .null, .int (nI 0), .null, .null, .null])), (q1, .inl (d1, 20, .inl (fun _ => nI 0))), (q2, .inl (d2, 20, .inl (fun _ => nI 0)))] := hD
  have hK : va_K D am_cl [(d1, .byte), (d2, .byte)] s := hK
  refine va_putF (D := D) (ci := 0) (v := .ref q2) (ty := .array .byte) (C := RX0) (T := TX0) (N := 8) hx hb hts in_X0 tyX0 tyX0_ok nmX0 hown hK hP hD hS 0 rfl rfl 2 (by decide) (hts _ q28) (fun _ h9 => h9) rfl hin rfl (by decide +kernel) rfl rfl (Nat.le_of_ble_eq_true rfl) dX0_init_17 (fun H locs hP hD hS => ?_)
  have hP : va_P D am_cl [(h, .inr (0, [.int (nI 0), .ref q1, .ref q2, .null, .int (nI 0), .null, .null, .null])), (q1, .inl (d1, 20, .inl (fun _ => nI 0))), (q2, .inl (d2, 20, .inl (fun _ => nI 0)))] H := hP
  have hD : va_D A [(h, .inr (0, [.int (nI 0), .ref q1, .ref q2, .null, .int (nI 0), .null, .null, .null])), (q1, .inl (d1, 20, .inl (fun _ => nI 0))), (q2, .inl (d2, 20, .inl (fun _ => nI 0)))] := hD
  refine lv_aload_n hx hb dX0_init_20 rfl (lv_at hl 0 rfl) ?_
  refine lv_bipush (v := nI 20) hx hb dX0_init_21 (by decide +kernel) ?_
  refine va_newa (atype := .byte) (ty := .byte) (N' := 20) (a0 := (20, .inl (fun _ => nI 0))) hx hb (hts _ q51) rfl hK hP hD hS hA (fun _ => rfl) (by decide +kernel) (by decide +kernel) (by decide +kernel) (Nat.le_of_ble_eq_true rfl) (Nat.le_of_ble_eq_true rfl) dX0_init_23 (fun q3 d3 H hK hP hD hS => ?_)
  refine W.widen (k := 3) (n := 60) (Nat.le_of_ble_eq_true rfl) (Nat.le_of_ble_eq_true rfl) ?_
  have hP : va_P D am_cl [(h, .inr (0, [.int (nI 0), .ref q1, .ref q2, .null, .int (nI 0), .null, .null, .null])), (q1, .inl (d1, 20, .inl (fun _ => nI 0))), (q2, .inl (d2, 20, .inl (fun _ => nI 0))), (q3, .inl (d3, 20, .inl (fun _ => nI 0)))] H := hP
  have hD : va_D A [(h, .inr (0, [.int (nI 0), .ref q1, .ref q2, .null, .int (nI 0), .null, .null, .null])), (q1, .inl (d1, 20, .inl (fun _ => nI 0))), (q2, .inl (d2, 20, .inl (fun _ => nI 0))), (q3, .inl (d3, 20, .inl (fun _ => nI 0)))] := hD
  have hK : va_K D am_cl [(d1, .byte), (d2, .byte), (d3, .byte)] s := hK
  refine va_putF (D := D) (ci := 0) (v := .ref q3) (ty := .array .byte) (C := RX0) (T := TX0) (N := 8) hx hb hts in_X0 tyX0 tyX0_ok nmX0 hown hK hP hD hS 0 rfl rfl 3 (by decide) (hts _ q29) (fun _ h9 => h9) rfl hin rfl (by decide +kernel) rfl rfl (Nat.le_of_ble_eq_true rfl) dX0_init_25 (fun H locs hP hD hS => ?_)
  have hP : va_P D am_cl [(h, .inr (0, [.int (nI 0), .ref q1, .ref q2, .ref q3, .int (nI 0), .null, .null, .null])), (q1, .inl (d1, 20, .inl (fun _ => nI 0))), (q2, .inl (d2, 20, .inl (fun _ => nI 0))), (q3, .inl (d3, 20, .inl (fun _ => nI 0)))] H := hP
  have hD : va_D A [(h, .inr (0, [.int (nI 0), .ref q1, .ref q2, .ref q3, .int (nI 0), .null, .null, .null])), (q1, .inl (d1, 20, .inl (fun _ => nI 0))), (q2, .inl (d2, 20, .inl (fun _ => nI 0))), (q3, .inl (d3, 20, .inl (fun _ => nI 0)))] := hD
  refine lv_aload_n hx hb dX0_init_28 rfl (lv_at hl 0 rfl) ?_
  refine lv_bipush (v := nI 48) hx hb dX0_init_29 (by decide +kernel) ?_
  refine va_newa (atype := .byte) (ty := .byte) (N' := 48) (a0 := (48, .inl (fun _ => nI 0))) hx hb (hts _ q51) rfl hK hP hD hS hA (fun _ => rfl) (by decide +kernel) (by decide +kernel) (by decide +kernel) (Nat.le_of_ble_eq_true rfl) (Nat.le_of_ble_eq_true rfl) dX0_init_31 (fun q4 d4 H hK hP hD hS => ?_)
  refine W.widen (k := 4) (n := 108) (Nat.le_of_ble_eq_true rfl) (Nat.le_of_ble_eq_true rfl) ?_
  have hP : va_P D am_cl [(h, .inr (0, [.int (nI 0), .ref q1, .ref q2, .ref q3, .int (nI 0), .null, .null, .null])), (q1, .inl (d1, 20, .inl (fun _ => nI 0))), (q2, .inl (d2, 20, .inl (fun _ => nI 0))), (q3, .inl (d3, 20, .inl (fun _ => nI 0))), (q4, .inl (d4, 48, .inl (fun _ => nI 0)))] H := hP
  have hD : va_D A [(h, .inr (0, [.int (nI 0), .ref q1, .ref q2, .ref q3, .int (nI 0), .null, .null, .null])), (q1, .inl (d1, 20, .inl (fun _ => nI 0))), (q2, .inl (d2, 20, .inl (fun _ => nI 0))), (q3, .inl (d3, 20, .inl (fun _ => nI 0))), (q4, .inl (d4, 48, .inl (fun _ => nI 0)))] := hD
  have hK : va_K D am_cl [(d1, .byte), (d2, .byte), (d3, .byte), (d4, .byte)] s := hK
  refine va_putF (D := D) (ci := 0) (v := .ref q4) (ty := .array .byte) (C := RX0) (T := TX0) (N := 8) hx hb hts in_X0 tyX0 tyX0_ok nmX0 hown hK hP hD hS 0 rfl rfl 5 (by decide) (hts _ q31) (fun _ h9 => h9) rfl hin rfl (by decide +kernel) rfl rfl (Nat.le_of_ble_eq_true rfl) dX0_init_33 (fun H locs hP hD hS => ?_)
  have hP : va_P D am_cl [(h, .inr (0, [.int (nI 0), .ref q1, .ref q2, .ref q3, .int (nI 0), .ref q4, .null, .null])), (q1, .inl (d1, 20, .inl (fun _ => nI 0))), (q2, .inl (d2, 20, .inl (fun _ => nI 0))), (q3, .inl (d3, 20, .inl (fun _ => nI 0))), (q4, .inl (d4, 48, .inl (fun _ => nI 0)))] H := hP
  have hD : va_D A [(h, .inr (0, [.int (nI 0), .ref q1, .ref q2, .ref q3, .int (nI 0), .ref q4, .null, .null])), (q1, .inl (d1, 20, .inl (fun _ => nI 0))), (q2, .inl (d2, 20, .inl (fun _ => nI 0))), (q3, .inl (d3, 20, .inl (fun _ => nI 0))), (q4, .inl (d4, 48, .inl (fun _ => nI 0)))] := hD
  refine lv_aload_n hx hb dX0_init_36 rfl (lv_at hl 0 rfl) ?_
  refine lv_bipush (v := nI 48) hx hb dX0_init_37 (by decide +kernel) ?_
  refine va_newa (atype := .byte) (ty := .byte) (N' := 48) (a0 := (48, .inl (fun _ => nI 0))) hx hb (hts _ q51) rfl hK hP hD hS hA (fun _ => rfl) (by decide +kernel) (by decide +kernel) (by decide +kernel) (Nat.le_of_ble_eq_true rfl) (Nat.le_of_ble_eq_true rfl) dX0_init_39 (fun q5 d5 H hK hP hD hS => ?_)
  refine W.widen (k := 5) (n := 156) (Nat.le_of_ble_eq_true rfl) (Nat.le_of_ble_eq_true rfl) ?_
  have hP : va_P D am_cl [(h, .inr (0, [.int (nI 0), .ref q1, .ref q2, .ref q3, .int (nI 0), .ref q4, .null, .null])), (q1, .inl (d1, 20, .inl (fun _ => nI 0))), (q2, .inl (d2, 20, .inl (fun _ => nI 0))), (q3, .inl (d3, 20, .inl (fun _ => nI 0))), (q4, .inl (d4, 48, .inl (fun _ => nI 0))), (q5, .inl (d5, 48, .inl (fun _ => nI 0)))] H := hP
  have hD : va_D A [(h, .inr (0, [.int (nI 0), .ref q1, .ref q2, .ref q3, .int (nI 0), .ref q4, .null, .null])), (q1, .inl (d1, 20, .inl (fun _ => nI 0))), (q2, .inl (d2, 20, .inl (fun _ => nI 0))), (q3, .inl (d3, 20, .inl (fun _ => nI 0))), (q4, .inl (d4, 48, .inl (fun _ => nI 0))), (q5, .inl (d5, 48, .inl (fun _ => nI 0)))] := hD
  have hK : va_K D am_cl [(d1, .byte), (d2, .byte), (d3, .byte), (d4, .byte), (d5, .byte)] s := hK
  refine va_putF (D := D) (ci := 0) (v := .ref q5) (ty := .array .byte) (C := RX0) (T := TX0) (N := 8) hx hb hts in_X0 tyX0 tyX0_ok nmX0 hown hK hP hD hS 0 rfl rfl 6 (by decide) (hts _ q32) (fun _ h9 => h9) rfl hin rfl (by decide +kernel) rfl rfl (Nat.le_of_ble_eq_true rfl) dX0_init_41 (fun H locs hP hD hS => ?_)
  have hP : va_P D am_cl [(h, .inr (0, [.int (nI 0), .ref q1, .ref q2, .ref q3, .int (nI 0), .ref q4, .ref q5, .null])), (q1, .inl (d1, 20, .inl (fun _ => nI 0))), (q2, .inl (d2, 20, .inl (fun _ => nI 0))), (q3, .inl (d3, 20, .inl (fun _ => nI 0))), (q4, .inl (d4, 48, .inl (fun _ => nI 0))), (q5, .inl (d5, 48, .inl (fun _ => nI 0)))] H := hP
  have hD : va_D A [(h, .inr (0, [.int (nI 0), .ref q1, .ref q2, .ref q3, .int (nI 0), .ref q4, .ref q5, .null])), (q1, .inl (d1, 20, .inl (fun _ => nI 0))), (q2, .inl (d2, 20, .inl (fun _ => nI 0))), (q3, .inl (d3, 20, .inl (fun _ => nI 0))), (q4, .inl (d4, 48, .inl (fun _ => nI 0))), (q5, .inl (d5, 48, .inl (fun _ => nI 0)))] := hD
  refine lv_aload_n hx hb dX0_init_44 rfl (lv_at hl 0 rfl) ?_
  refine lv_bipush (v := nI 48) hx hb dX0_init_45 (by decide +kernel) ?_
  refine va_newa (atype := .byte) (ty := .byte) (N' := 48) (a0 := (48, .inl (fun _ => nI 0))) hx hb (hts _ q51) rfl hK hP hD hS hA (fun _ => rfl) (by decide +kernel) (by decide +kernel) (by decide +kernel) (Nat.le_of_ble_eq_true rfl) (Nat.le_of_ble_eq_true rfl) dX0_init_47 (fun q6 d6 H hK hP hD hS => ?_)
  refine W.widen (k := 6) (n := 204) (Nat.le_of_ble_eq_true rfl) (Nat.le_of_ble_eq_true rfl) ?_
  have hP : va_P D am_cl [(h, .inr (0, [.int (nI 0), .ref q1, .ref q2, .ref q3, .int (nI 0), .ref q4, .ref q5, .null])), (q1, .inl (d1, 20, .inl (fun _ => nI 0))), (q2, .inl (d2, 20, .inl (fun _ => nI 0))), (q3, .inl (d3, 20, .inl (fun _ => nI 0))), (q4, .inl (d4, 48, .inl (fun _ => nI 0))), (q5, .inl (d5, 48, .inl (fun _ => nI 0))), (q6, .inl (d6, 48, .inl (fun _ => nI 0)))] H := hP
  have hD : va_D A [(h, .inr (0, [.int (nI 0), .ref q1, .ref q2, .ref q3, .int (nI 0), .ref q4, .ref q5, .null])), (q1, .inl (d1, 20, .inl (fun _ => nI 0))), (q2, .inl (d2, 20, .inl (fun _ => nI 0))), (q3, .inl (d3, 20, .inl (fun _ => nI 0))), (q4, .inl (d4, 48, .inl (fun _ => nI 0))), (q5, .inl (d5, 48, .inl (fun _ => nI 0))), (q6, .inl (d6, 48, .inl (fun _ => nI 0)))] := hD
  have hK : va_K D am_cl [(d1, .byte), (d2, .byte), (d3, .byte), (d4, .byte), (d5, .byte), (d6, .byte)] s := hK
  refine va_putF (D := D) (ci := 0) (v := .ref q6) (ty := .array .byte) (C := RX0) (T := TX0) (N := 8) hx hb hts in_X0 tyX0 tyX0_ok nmX0 hown hK hP hD hS 0 rfl rfl 7 (by decide) (hts _ q33) (fun _ h9 => h9) rfl hin rfl (by decide +kernel) rfl rfl (Nat.le_of_ble_eq_true rfl) dX0_init_49 (fun H locs hP hD hS => ?_)
  have hP : va_P D am_cl [(h, .inr (0, [.int (nI 0), .ref q1, .ref q2, .ref q3, .int (nI 0), .ref q4, .ref q5, .ref q6])), (q1, .inl (d1, 20, .inl (fun _ => nI 0))), (q2, .inl (d2, 20, .inl (fun _ => nI 0))), (q3, .inl (d3, 20, .inl (fun _ => nI 0))), (q4, .inl (d4, 48, .inl (fun _ => nI 0))), (q5, .inl (d5, 48, .inl (fun _ => nI 0))), (q6, .inl (d6, 48, .inl (fun _ => nI 0)))] H := hP
  have hD : va_D A [(h, .inr (0, [.int (nI 0), .ref q1, .ref q2, .ref q3, .int (nI 0), .ref q4, .ref q5, .ref q6])), (q1, .inl (d1, 20, .inl (fun _ => nI 0))), (q2, .inl (d2, 20, .inl (fun _ => nI 0))), (q3, .inl (d3, 20, .inl (fun _ => nI 0))), (q4, .inl (d4, 48, .inl (fun _ => nI 0))), (q5, .inl (d5, 48, .inl (fun _ => nI 0))), (q6, .inl (d6, 48, .inl (fun _ => nI 0)))] := hD
  have e2 : d1 = d2 := Option.some.inj ((hK.2 0 _ rfl).2.symm.trans (hK.2 1 _ rfl).2)
  have e3 : d1 = d3 := Option.some.inj ((hK.2 0 _ rfl).2.symm.trans (hK.2 2 _ rfl).2)
  have e4 : d1 = d4 := Option.some.inj ((hK.2 0 _ rfl).2.symm.trans (hK.2 3 _ rfl).2)
  have e5 : d1 = d5 := Option.some.inj ((hK.2 0 _ rfl).2.symm.trans (hK.2 4 _ rfl).2)
  have e6 : d1 = d6 := Option.some.inj ((hK.2 0 _ rfl).2.symm.trans (hK.2 5 _ rfl).2)
  subst e2
  subst e3
  subst e4
  subst e5
  subst e6
  have hP9 : va_P D am_cl (am_X (fun i => [h, q1, q2, q3, q4, q5, q6].getD i 0) d1 0 (fun _ => 0) (fun _ => 0) (fun _ => 0) 0 (fun _ => 0) (fun _ => 0) (fun _ => 0)) H := hP
  have hD9 : va_D A (am_X (fun i => [h, q1, q2, q3, q4, q5, q6].getD i 0) d1 0 (fun _ => 0) (fun _ => 0) (fun _ => 0) 0 (fun _ => 0) (fun _ => 0) (fun _ => 0)) := hD
  have hK9 := hK.sub (tys' := [(d1, .byte)]) [0] rfl
  exact W.vret hx hb hr (fun t ht hW => ⟨⟨((fun i => [h, q1, q2, q3, q4, q5, q6].getD i 0), d1), rfl, rfl, by rw [ht]; exact hP9, va_K.moved hW.alike hK9, hD9⟩, hS.F ht⟩) hS.2.2 dX0_init_52
abbrev am_X1w (h : Nat) : va_W := [(h, .inr (1, [.null, .null]))]
set_option maxHeartbeats 4000000 in
set_option maxRecDepth 100000 in
theorem mt_X1_init (l : Launch) (D : va_G) (h sz : Nat) : Met l yX1_init (ws_ yX1_init cX1_init 1 none) { frames := 1, cells := 2, slots := 128, locals := 12 } (va_Pc [.ref h] (am_pm D (am_X1w h) [] sz)) (va_Qv (fun u : (Nat → Nat) × ClassId => u.1 0 = h) (fun (u : (Nat → Nat) × ClassId) t => va_P D am_cl (am_M u.1 u.2 (fun _ => 0) (fun _ => 0)) t.heap ∧ va_K D am_cl [(u.2, .int)] t ∧ va_D (va_A (am_X1w h) sz) (am_M u.1 u.2 (fun _ => 0) (fun _ => 0))) (va_A (am_X1w h) sz)) 2 128 (va_A (am_X1w h) sz) := by
  refine Met.ofW (cc := cX1_init) (maxL := 1) (ret := none) (by decide) rfl ?_
  intro p e s m args below meth c s₁ B hml hv
  obtain ⟨rfl, hsz, hP, hK, hD0⟩ := hv
  have hx := B.exec
  have hb := B.bytes
  have hr := B.returns
  have hts := atoms_spec (ws := ws_ yX1_init cX1_init 1 none) B.pre
  have hts : ∀ w ∈ lw_all, w.before _ s = true := fun w h => hts w (List.mem_cons_of_mem _ h)
  have hown : s.vm.findClass RX1 = some m.cls := findClass_of_methodNamed B.named
  have hlocks := B.notSynchronized
  have hin : meth.name = "<init>" := (name_of_methodNamed B.named B.method).1
  subst hsz
  have hD := hD0.self (sz := s.heap.size)
  generalize hAe : va_A (am_X1w h) s.heap.size = A at hD ⊢
  have hA : ∀ q : Nat, s.heap.size ≤ q → A q := fun q h => by rw [← hAe]; exact Or.inr h
  have hS : va_S A s.heap s.heap [] := va_S.rf
  have hl := lv_entry ([.ref h]) (n := 1) (Nat.le_of_ble_eq_true rfl)
  rw [lg_entry_eq]
  generalize (lg_sl ([.ref h]) ++ List.replicate (1 - (lg_sl ([.ref h])).length) Slot.unset).toArray = ls at hl ⊢
  have hl : lv_has ls 1 [(0, .ref h)] := hl
  refine lv_aload_n hx hb dX1_init_0 rfl (lv_at hl 0 rfl) ?_
  refine W.objInit hx hb hown (hts _ q156) (hts _ q24) (hts _ q25) rfl (by rw [hml]; exact hl.1) rfl dX1_init_1 (Nat.le_of_ble_eq_true rfl) (Nat.le_of_ble_eq_true rfl) ?_
  refine W.eq (g2 := F0 m 4 ls []) rfl ?_
  refine lv_aload_n hx hb dX1_init_4 rfl (lv_at hl 0 rfl) ?_
  refine lv_bipush (v := nI 64) hx hb dX1_init_5 (by decide +kernel) ?_
  refine va_newa (atype := .int) (ty := .int) (N' := 64) (a0 := (64, .inl (fun _ => nI 0))) hx hb (hts _ q164) rfl hK hP hD hS hA (fun _ => rfl) (by decide +kernel) (by decide +kernel) (by decide +kernel) (Nat.le_of_ble_eq_true rfl) (Nat.le_of_ble_eq_true rfl) dX1_init_7 (fun q1 d1 H hK hP hD hS => ?_)
  refine W.widen (k := 1) (n := 64) (Nat.le_of_ble_eq_true rfl) (Nat.le_of_ble_eq_true rfl) ?_
  have hP : va_P D am_cl [(h, .inr (1, [.null, .null])), (q1, .inl (d1, 64, .inl (fun _ => nI 0)))] H := hP
  have hD : va_D A [(h, .inr (1, [.null, .null])), (q1, .inl (d1, 64, .inl (fun _ => nI 0)))] := hD
  have hK : va_K D am_cl [(d1, .int)] s := hK
  refine va_put (D := D) (ci := 1) (v := .ref q1) (ty := .array .int) (C := RX1) (T := TX1) (N := 2) hx hb hts in_X1 tyX1 tyX1_ok nmX1 hown hK hP hD hS 0 rfl rfl 0 (by decide) (hts _ q157) (fun _ h9 => h9) rfl (by decide +kernel) rfl rfl (Nat.le_of_ble_eq_true rfl) dX1_init_9 (fun H locs hP hD hS => ?_)
  have hP : va_P D am_cl [(h, .inr (1, [.ref q1, .null])), (q1, .inl (d1, 64, .inl (fun _ => nI 0)))] H := hP
  have hD : va_D A [(h, .inr (1, [.ref q1, .null])), (q1, .inl (d1, 64, .inl (fun _ => nI 0)))] := hD
  refine lv_aload_n hx hb dX1_init_12 rfl (lv_at hl 0 rfl) ?_
  refine lv_bipush (v := nI 64) hx hb dX1_init_13 (by decide +kernel) ?_
  refine va_newa (atype := .int) (ty := .int) (N' := 64) (a0 := (64, .inl (fun _ => nI 0))) hx hb (hts _ q164) rfl hK hP hD hS hA (fun _ => rfl) (by decide +kernel) (by decide +kernel) (by decide +kernel) (Nat.le_of_ble_eq_true rfl) (Nat.le_of_ble_eq_true rfl) dX1_init_15 (fun q2 d2 H hK hP hD hS => ?_)
  refine W.widen (k := 2) (n := 128) (Nat.le_of_ble_eq_true rfl) (Nat.le_of_ble_eq_true rfl) ?_
  have hP : va_P D am_cl [(h, .inr (1, [.ref q1, .null])), (q1, .inl (d1, 64, .inl (fun _ => nI 0))), (q2, .inl (d2, 64, .inl (fun _ => nI 0)))] H := hP
  have hD : va_D A [(h, .inr (1, [.ref q1, .null])), (q1, .inl (d1, 64, .inl (fun _ => nI 0))), (q2, .inl (d2, 64, .inl (fun _ => nI 0)))] := hD
  have hK : va_K D am_cl [(d1, .int), (d2, .int)] s := hK
  refine va_put (D := D) (ci := 1) (v := .ref q2) (ty := .array .int) (C := RX1) (T := TX1) (N := 2) hx hb hts in_X1 tyX1 tyX1_ok nmX1 hown hK hP hD hS 0 rfl rfl 1 (by decide) (hts _ q158) (fun _ h9 => h9) rfl (by decide +kernel) rfl rfl (Nat.le_of_ble_eq_true rfl) dX1_init_17 (fun H locs hP hD hS => ?_)
  have hP : va_P D am_cl [(h, .inr (1, [.ref q1, .ref q2])), (q1, .inl (d1, 64, .inl (fun _ => nI 0))), (q2, .inl (d2, 64, .inl (fun _ => nI 0)))] H := hP
  have hD : va_D A [(h, .inr (1, [.ref q1, .ref q2])), (q1, .inl (d1, 64, .inl (fun _ => nI 0))), (q2, .inl (d2, 64, .inl (fun _ => nI 0)))] := hD
  have e2 : d1 = d2 := Option.some.inj ((hK.2 0 _ rfl).2.symm.trans (hK.2 1 _ rfl).2)
  subst e2
  have hP9 : va_P D am_cl (am_M (fun i => [h, q1, q2].getD i 0) d1 (fun _ => 0) (fun _ => 0)) H := hP
  have hD9 : va_D A (am_M (fun i => [h, q1, q2].getD i 0) d1 (fun _ => 0) (fun _ => 0)) := hD
  have hK9 := hK.sub (tys' := [(d1, .int)]) [0] rfl
  exact W.vret hx hb hr (fun t ht hW => ⟨⟨((fun i => [h, q1, q2].getD i 0), d1), rfl, rfl, by rw [ht]; exact hP9, va_K.moved hW.alike hK9, hD9⟩, hS.F ht⟩) hS.2.2 dX1_init_20
end
section
/-! THE CLAIM OUT OF ONE WALK OF THE LAW'S BODY. Your part is whole_start (and what it stands on); all else here is the same for every law, but numbers. -/
def R_law : String := "AreaMapLaw"
def lw_P (b : Addr) (xs : List Int32) (args : Array Value) (s : State) : Prop := args = #[.ref b] ∧ s.IntsAt b xs ∧ xs.length ≤ 256 ∧ (Jvm.Cond.and given_1 narrow_1).before args s = true
def lw_Q (_ : Array Value) (s : State) (o : Outcome) (t : State) : Prop := o = .returned (some (.int 1)) ∧ Framed s o t [] 600000 7290000
def lw_Z (below : List Frame) (a : Array Value) (s : State) : State → Prop := fun t => ∃ o, t.status = .running ∧ Ended t below o ∧ lw_Q a s o t
/-- the law's own end, with 1 on the stack, nothing written that was there before, its room as the claim has it -/
theorem lw_ret {p : Program} {l : Launch} {e : Env} {s : State} {m : MethodId} {below : List Frame} {meth : Method} {c : Code} {b : Nat} (hx : p.tables.exec = Jvm.exec) (hb : c.code = code) (hr : meth.sig.returnType = ret) (hlocks : meth.locks = false) {pc : Nat} {H : Heap} {ls : Array Slot} (hdg : decode code pc = .ok (.ireturn, 1)) : W p l e room_1 s m #[Value.ref b] below meth c H [] 600000 7290000 (lw_Z below #[Value.ref b] s) (F0 m pc ls [.int 1]) := by
  intro T hT X
  obtain ⟨fs, hret, hrun, hended, hW, hframe⟩ := X.leave (v := some (.int 1)) (hlocks := hlocks) (fun h => by rw [hr] at h; cases h)
  have hmeth' : T.vm.method? m = some meth := X.method'
  refine ⟨T.setFrames fs, ?_, .returned (some (.int 1)), hrun, hended, rfl, ⟨_, rfl⟩, hW, hframe⟩
  jvm_step X.here [X.here.top, hx, hb, hdg, hmeth', hr, ret, narrow_b1]
  (try refine ⟨rfl, ?_⟩); (try refine ⟨rfl, ?_⟩)
  first | (intro acts; rw [hret _ acts rfl rfl rfl]) | rw [hret _ _ rfl rfl rfl]
  exact Steps.refl _
/-- what holds at the law's entry: the machine, the code, the tables' words (any of lw_tbl by 'hts w (by decide +kernel)'), the script of L ints xs at the cell b, what the Statement gives of the start (any of its parts by flat_of_before) -/
def lw_At (p : Program) (s : State) (m : MethodId) (meth : Method) (c : Code) (b L : Nat) (xs : Nat → Int32) : Prop :=
  p.tables.exec = Jvm.exec ∧ c.code = code ∧ meth.sig.returnType = ret ∧ c.maxLocals = 4 ∧ s.vm.findClass R_law = some m.cls ∧ (∀ w ∈ lw_tbl, w.before #[Value.ref b] s = true) ∧ va_X b L xs s s.heap ∧ b < s.heap.size ∧ meth.locks = false ∧ (Jvm.Cond.and given_1 narrow_1).before #[Value.ref b] s = true
set_option maxRecDepth 100000
theorem lk_L_13 : am_LV R_law 13 RX0 yX0_map cX0_map 5 (some .int) 3 := ⟨lw_V q52 q53 q54 q16 q55, by decide +kernel⟩
theorem lk_L_17 : am_LV R_law 17 RX1 yX1_map cX1_map 5 (some .int) 3 := ⟨lw_V q165 q166 q167 q17 q168, by decide +kernel⟩
theorem lk_L_18 : am_LV R_law 18 RX0 yX0_place cX0_place 5 (some .int) 3 := ⟨lw_V q84 q85 q86 q16 q87, by decide +kernel⟩
theorem lk_L_21 : am_LV R_law 21 RX1 yX1_place cX1_place 5 (some .int) 3 := ⟨lw_V q197 q198 q199 q17 q200, by decide +kernel⟩
theorem lk_L_22 : am_LV R_law 22 RX0 yX0_free cX0_free 4 (some .int) 2 := ⟨lw_V q92 q93 q94 q16 q95, by decide +kernel⟩
theorem lk_L_26 : am_LV R_law 26 RX1 yX1_free cX1_free 4 (some .int) 2 := ⟨lw_V q205 q206 q207 q17 q208, by decide +kernel⟩
theorem lk_L_27 : am_LV R_law 27 RX0 yX0_protect cX0_protect 12 (some .int) 3 := ⟨lw_V q96 q97 q98 q16 q99, by decide +kernel⟩
theorem lk_L_30 : am_LV R_law 30 RX1 yX1_protect cX1_protect 7 (some .int) 3 := ⟨lw_V q209 q210 q211 q17 q212, by decide +kernel⟩
theorem lk_L_31 : am_LV R_law 31 RX0 yX0_rights cX0_rights 3 (some .int) 1 := ⟨lw_V q100 q101 q102 q16 q103, by decide +kernel⟩
theorem lk_L_35 : am_LV R_law 35 RX1 yX1_rights cX1_rights 2 (some .int) 1 := ⟨lw_V q213 q214 q215 q17 q216, by decide +kernel⟩
theorem lk_L_36 : am_LV R_law 36 RX0 yX0_tag cX0_tag 3 (some .int) 1 := ⟨lw_V q111 q112 q113 q16 q114, by decide +kernel⟩
theorem lk_L_39 : am_LV R_law 39 RX1 yX1_tag cX1_tag 2 (some .int) 1 := ⟨lw_V q221 q222 q223 q17 q224, by decide +kernel⟩
theorem lk_L_40 : am_LV R_law 40 RX0 yX0_areas cX0_areas 1 (some .int) 0 := ⟨lw_V q115 q116 q117 q16 q118, by decide +kernel⟩
theorem lk_L_44 : am_LV R_law 44 RX1 yX1_areas cX1_areas 3 (some .int) 0 := ⟨lw_V q225 q190 q191 q17 q192, by decide +kernel⟩
theorem lk_L_45 : am_LV R_law 45 RX0 yX0_areaFirst cX0_areaFirst 2 (some .int) 1 := ⟨lw_V q119 q120 q121 q16 q122, by decide +kernel⟩
theorem lk_L_48 : am_LV R_law 48 RX1 yX1_areaFirst cX1_areaFirst 4 (some .int) 1 := ⟨lw_V q226 q227 q228 q17 q229, by decide +kernel⟩
theorem lk_L_49 : am_LV R_law 49 RX0 yX0_areaLength cX0_areaLength 2 (some .int) 1 := ⟨lw_V q127 q128 q129 q16 q130, by decide +kernel⟩
theorem lk_L_52 : am_LV R_law 52 RX1 yX1_areaLength cX1_areaLength 4 (some .int) 1 := ⟨lw_V q230 q231 q232 q17 q233, by decide +kernel⟩
theorem lk_L_53 : am_LV R_law 53 RX0 yX0_areaOf cX0_areaOf 3 (some .int) 1 := ⟨lw_V q131 q132 q133 q16 q134, by decide +kernel⟩
theorem lk_L_56 : am_LV R_law 56 RX1 yX1_areaOf cX1_areaOf 4 (some .int) 1 := ⟨lw_V q235 q236 q237 q17 q238, by decide +kernel⟩
theorem lk_L_57 : am_LV R_law 57 RX0 yX0_mapped cX0_mapped 1 (some .int) 0 := ⟨lw_V q135 q136 q137 q16 q138, by decide +kernel⟩
theorem lk_L_60 : am_LV R_law 60 RX1 yX1_mapped cX1_mapped 1 (some .int) 0 := ⟨lw_V q239 q240 q241 q17 q242, by decide +kernel⟩
theorem lk_L_61 : am_LV R_law 61 RX0 yX0_longestFree cX0_longestFree 4 (some .int) 0 := ⟨lw_V q139 q140 q141 q16 q142, by decide +kernel⟩
theorem lk_L_64 : am_LV R_law 64 RX1 yX1_longestFree cX1_longestFree 4 (some .int) 0 := ⟨lw_V q243 q244 q245 q17 q246, by decide +kernel⟩
theorem lk_L_65 : am_LV R_law 65 RX0 yX0_allows cX0_allows 6 (some .boolean) 3 := ⟨lw_V q143 q144 q145 q16 q146, by decide +kernel⟩
theorem lk_L_69 : am_LV R_law 69 RX1 yX1_allows cX1_allows 6 (some .boolean) 3 := ⟨lw_V q247 q248 q249 q17 q250, by decide +kernel⟩
theorem lk_L_70 : am_LV R_law 70 RX0 yX0_nextWith cX0_nextWith 4 (some .int) 2 := ⟨lw_V q147 q148 q149 q16 q150, by decide +kernel⟩
theorem lk_L_73 : am_LV R_law 73 RX1 yX1_nextWith cX1_nextWith 4 (some .int) 2 := ⟨lw_V q251 q252 q253 q17 q254, by decide +kernel⟩
end
section
/-! the law's cases: one call on each side, the answers are equal, the areas stay the runs of the pages -/
set_option maxRecDepth 100000
abbrev lc_W (ad bd : Nat → Nat) (dB dN : ClassId) (n : Nat) (F T K : Nat → Nat) (mk : Nat) (NF NT NK P O : Nat → Nat) : va_W := am_X ad dB n F T K mk NF NT NK ++ am_M bd dN P O
/-- the law's state between two rounds -/
def lc_Ok (D : va_G) (ad bd : Nat → Nat) (dB dN : ClassId) (s : State) (b i : Nat) (H : Heap) (locs : List Loc) (ls : Array Slot) : Prop := ∃ (n : Nat) (F T K : Nat → Nat) (mk : Nat) (NF NT NK P O : Nat → Nat), am_Rel n F T K P ∧ va_P D am_cl (lc_W ad bd dB dN n F T K mk NF NT NK P O) H ∧ va_D (fun q => s.heap.size ≤ q) (lc_W ad bd dB dN n F T K mk NF NT NK P O) ∧ va_S (fun q => s.heap.size ≤ q) s.heap H locs ∧ lv_has ls 4 [(0, .ref b), (1, .ref (ad 0)), (2, .ref (bd 0)), (3, .int (nI i))]
/-- what holds all through the law's loop -/
def lc_Fx (p : Program) (s : State) (m : MethodId) (meth : Method) (c : Code) (b L : Nat) (xs : Nat → Int32) (D : va_G) (dB dN : ClassId) (i : Nat) : Prop := am_Fx p s m meth c #[Value.ref b] cL_law 4 ret R_law ∧ va_X b L xs s s.heap ∧ b < s.heap.size ∧ va_K D am_cl [(dB, .byte), (dN, .int)] s ∧ i + 4 ≤ L ∧ L ≤ 256
theorem lc_sld {p : Program} {l : Launch} {e : Env} {R : Room} {s : State} {m : MethodId} {args : Array Value} {below : List Frame} {meth : Method} {c : Code} {H : Heap} {locs : List Loc} {cells slots : Nat} {Q : State → Prop} {pc b L j : Nat} {ls : Array Slot} {rest : List Value} {xs : Nat → Int32} {cc : ByteArray} (hx : p.tables.exec = Jvm.exec) (hb : c.code = cc) (hX : va_X b L xs s s.heap) (hbl : b < s.heap.size) (hS : va_S (fun q => s.heap.size ≤ q) s.heap H locs) (hj : j < L) (hL : L ≤ 256) (hdg : decode cc pc = .ok (.iaload, 1)) (kk : W p l e R s m args below meth c H locs cells slots Q (F0 m (pc + 1) ls (.int (xs j) :: rest))) : W p l e R s m args below meth c H locs cells slots Q (F0 m pc ls (.int (nI j) :: .ref b :: rest)) := by
  refine va_sld hx hb hX hbl (A := fun q => s.heap.size ≤ q) (Nat.not_le.mpr hbl) hS (vp_in_nI hj (by omega)) hdg ?_
  rw [nI_clamp (by omega)]
  exact kk
set_option maxHeartbeats 4000000 in
set_option maxRecDepth 100000 in
theorem lc_map {p : Program} {l : Launch} {e : Env} {s : State} {m : MethodId} {below : List Frame} {meth : Method} {c : Code} {b L : Nat} {xs : Nat → Int32} {D : va_G} {ad bd : Nat → Nat} {dB dN : ClassId} {i : Nat} (X0 : lc_Fx p s m meth c b L xs D dB dN i) (kk : ∀ (H : Heap) (locs : List Loc) (ls : Array Slot), lc_Ok D ad bd dB dN s b i H locs ls → W p l e room_1 s m #[Value.ref b] below meth c H locs 10 342 (lw_Z below #[Value.ref b] s) (F0 m 496 ls [])) {H : Heap} {locs : List Loc} {ls : Array Slot} (h : lc_Ok D ad bd dB dN s b i H locs ls) : W p l e room_1 s m #[Value.ref b] below meth c H locs 10 342 (lw_Z below #[Value.ref b] s) (F0 m 104 ls []) := by
  obtain ⟨X, hX, hbl, hK, hiL, hL⟩ := X0
  obtain ⟨n, F, T, K, mk, NF, NT, NK, P, O, hR, hP, hD, hS, hl⟩ := h
  have hx := X.1
  have hb := X.2.1
  have hA : ∀ q : Nat, s.heap.size ≤ q → (fun q => s.heap.size ≤ q) q := fun q h => h
  have hB : ∀ j, j < 64 → P j ≤ 128 := fun j hj => hR.2.le hj
  refine lv_aload_n hx hb dL_law_104 rfl (lv_at hl 1 rfl) ?_
  refine lv_aload_n hx hb dL_law_105 rfl (lv_at hl 0 rfl) ?_
  refine lv_iload_n hx hb dL_law_106 rfl (lv_at hl 3 rfl) ?_
  refine lv_iconst (v := nI 1) hx hb dL_law_107 (by decide +kernel) ?_
  refine am_iadd hx hb dL_law_108 ?_
  refine lc_sld hx hb hX hbl hS (by omega) hL dL_law_109 ?_
  refine lv_aload_n hx hb dL_law_110 rfl (lv_at hl 0 rfl) ?_
  refine lv_iload_n hx hb dL_law_111 rfl (lv_at hl 3 rfl) ?_
  refine lv_iconst (v := nI 2) hx hb dL_law_112 (by decide +kernel) ?_
  refine am_iadd hx hb dL_law_113 ?_
  refine lc_sld hx hb hX hbl hS (by omega) hL dL_law_114 ?_
  refine lv_aload_n hx hb dL_law_115 rfl (lv_at hl 0 rfl) ?_
  refine lv_iload_n hx hb dL_law_116 rfl (lv_at hl 3 rfl) ?_
  refine lv_iconst (v := nI 3) hx hb dL_law_117 (by decide +kernel) ?_
  refine am_iadd hx hb dL_law_118 ?_
  refine lc_sld hx hb hX hbl hS (by omega) hL dL_law_119 ?_
  refine am_mcallV (wr := am_M bd dN P O) (mt_X0_map l D ad dB n F T K mk NF NT NK hR (xs (i + 1)) (xs (i + 2)) (xs (i + 3))) lk_L_13 X hl.1 (hK.sub [0] rfl) rfl rfl rfl hP hD hS hA ⟨Nat.le_of_ble_eq_true rfl, Nat.le_of_ble_eq_true rfl⟩ ⟨Nat.le_of_ble_eq_true rfl, Nat.le_of_ble_eq_true rfl⟩ (Nat.le_of_ble_eq_true rfl) dL_law_120 rfl (fun r1 u H locs hp1 hP hD hS => ?_)
  obtain ⟨hp1, hR2⟩ := hp1
  obtain ⟨n2, F2, T2, K2, m2, NF2, NT2, NK2⟩ := u
  have hP := hP.sub (ws' := am_M bd dN P O ++ am_X ad dB n2 F2 T2 K2 m2 NF2 NT2 NK2) [7, 8, 9, 0, 1, 2, 3, 4, 5, 6] rfl
  have hD := hD.sub (ws' := am_M bd dN P O ++ am_X ad dB n2 F2 T2 K2 m2 NF2 NT2 NK2) [7, 8, 9, 0, 1, 2, 3, 4, 5, 6] (by decide) rfl
  refine lv_aload_n hx hb dL_law_123 rfl (lv_at hl 2 rfl) ?_
  refine lv_aload_n hx hb dL_law_124 rfl (lv_at hl 0 rfl) ?_
  refine lv_iload_n hx hb dL_law_125 rfl (lv_at hl 3 rfl) ?_
  refine lv_iconst (v := nI 1) hx hb dL_law_126 (by decide +kernel) ?_
  refine am_iadd hx hb dL_law_127 ?_
  refine lc_sld hx hb hX hbl hS (by omega) hL dL_law_128 ?_
  refine lv_aload_n hx hb dL_law_129 rfl (lv_at hl 0 rfl) ?_
  refine lv_iload_n hx hb dL_law_130 rfl (lv_at hl 3 rfl) ?_
  refine lv_iconst (v := nI 2) hx hb dL_law_131 (by decide +kernel) ?_
  refine am_iadd hx hb dL_law_132 ?_
  refine lc_sld hx hb hX hbl hS (by omega) hL dL_law_133 ?_
  refine lv_aload_n hx hb dL_law_134 rfl (lv_at hl 0 rfl) ?_
  refine lv_iload_n hx hb dL_law_135 rfl (lv_at hl 3 rfl) ?_
  refine lv_iconst (v := nI 3) hx hb dL_law_136 (by decide +kernel) ?_
  refine am_iadd hx hb dL_law_137 ?_
  refine lc_sld hx hb hX hbl hS (by omega) hL dL_law_138 ?_
  refine am_mcallV (wr := am_X ad dB n2 F2 T2 K2 m2 NF2 NT2 NK2) (mt_X1_map l D bd dN P O hB (xs (i + 1)) (xs (i + 2)) (xs (i + 3))) lk_L_17 X hl.1 (hK.sub [1] rfl) rfl rfl rfl hP hD hS hA ⟨Nat.le_of_ble_eq_true rfl, Nat.le_of_ble_eq_true rfl⟩ ⟨Nat.le_of_ble_eq_true rfl, Nat.le_of_ble_eq_true rfl⟩ (Nat.le_of_ble_eq_true rfl) dL_law_139 rfl (fun r2 u H locs hp2 hP hD hS => ?_)
  obtain ⟨hp2, hP2⟩ := hp2
  obtain ⟨P2, O2⟩ := u
  have hP := hP.sub (ws' := lc_W ad bd dB dN n2 F2 T2 K2 m2 NF2 NT2 NK2 P2 O2) [3, 4, 5, 6, 7, 8, 9, 0, 1, 2] rfl
  have hD := hD.sub (ws' := lc_W ad bd dB dN n2 F2 T2 K2 m2 NF2 NT2 NK2 P2 O2) [3, 4, 5, 6, 7, 8, 9, 0, 1, 2] (by decide) rfl
  refine lv_icmp_eq (tgt := 496) hx hb dL_law_142 (by decide) (fun c1 => ?_) (fun c1 => ?_)
  · exact kk _ _ _ ⟨n2, F2, T2, K2, m2, NF2, NT2, NK2, P2, O2, ⟨hR2.1, hR2.2.congr (fun _ _ => ⟨rfl, rfl, rfl⟩) (fun j hj => hP2 j hj)⟩, hP, hD, hS, hl⟩
  · exact absurd (hp1.trans hp2.symm) c1
set_option maxHeartbeats 4000000 in
set_option maxRecDepth 100000 in
theorem lc_place {p : Program} {l : Launch} {e : Env} {s : State} {m : MethodId} {below : List Frame} {meth : Method} {c : Code} {b L : Nat} {xs : Nat → Int32} {D : va_G} {ad bd : Nat → Nat} {dB dN : ClassId} {i : Nat} (X0 : lc_Fx p s m meth c b L xs D dB dN i) (kk : ∀ (H : Heap) (locs : List Loc) (ls : Array Slot), lc_Ok D ad bd dB dN s b i H locs ls → W p l e room_1 s m #[Value.ref b] below meth c H locs 10 342 (lw_Z below #[Value.ref b] s) (F0 m 496 ls [])) {H : Heap} {locs : List Loc} {ls : Array Slot} (h : lc_Ok D ad bd dB dN s b i H locs ls) : W p l e room_1 s m #[Value.ref b] below meth c H locs 10 342 (lw_Z below #[Value.ref b] s) (F0 m 147 ls []) := by
  obtain ⟨X, hX, hbl, hK, hiL, hL⟩ := X0
  obtain ⟨n, F, T, K, mk, NF, NT, NK, P, O, hR, hP, hD, hS, hl⟩ := h
  have hx := X.1
  have hb := X.2.1
  have hA : ∀ q : Nat, s.heap.size ≤ q → (fun q => s.heap.size ≤ q) q := fun q h => h
  have hB : ∀ j, j < 64 → P j ≤ 128 := fun j hj => hR.2.le hj
  refine lv_aload_n hx hb dL_law_147 rfl (lv_at hl 1 rfl) ?_
  refine lv_aload_n hx hb dL_law_148 rfl (lv_at hl 0 rfl) ?_
  refine lv_iload_n hx hb dL_law_149 rfl (lv_at hl 3 rfl) ?_
  refine lv_iconst (v := nI 1) hx hb dL_law_150 (by decide +kernel) ?_
  refine am_iadd hx hb dL_law_151 ?_
  refine lc_sld hx hb hX hbl hS (by omega) hL dL_law_152 ?_
  refine lv_aload_n hx hb dL_law_153 rfl (lv_at hl 0 rfl) ?_
  refine lv_iload_n hx hb dL_law_154 rfl (lv_at hl 3 rfl) ?_
  refine lv_iconst (v := nI 2) hx hb dL_law_155 (by decide +kernel) ?_
  refine am_iadd hx hb dL_law_156 ?_
  refine lc_sld hx hb hX hbl hS (by omega) hL dL_law_157 ?_
  refine lv_aload_n hx hb dL_law_158 rfl (lv_at hl 0 rfl) ?_
  refine lv_iload_n hx hb dL_law_159 rfl (lv_at hl 3 rfl) ?_
  refine lv_iconst (v := nI 3) hx hb dL_law_160 (by decide +kernel) ?_
  refine am_iadd hx hb dL_law_161 ?_
  refine lc_sld hx hb hX hbl hS (by omega) hL dL_law_162 ?_
  refine am_mcallV (wr := am_M bd dN P O) (mt_X0_place l D ad dB n F T K mk NF NT NK hR (xs (i + 1)) (xs (i + 2)) (xs (i + 3))) lk_L_18 X hl.1 (hK.sub [0] rfl) rfl rfl rfl hP hD hS hA ⟨Nat.le_of_ble_eq_true rfl, Nat.le_of_ble_eq_true rfl⟩ ⟨Nat.le_of_ble_eq_true rfl, Nat.le_of_ble_eq_true rfl⟩ (Nat.le_of_ble_eq_true rfl) dL_law_163 rfl (fun r1 u H locs hp1 hP hD hS => ?_)
  obtain ⟨hp1, hR2⟩ := hp1
  obtain ⟨n2, F2, T2, K2, m2, NF2, NT2, NK2⟩ := u
  have hP := hP.sub (ws' := am_M bd dN P O ++ am_X ad dB n2 F2 T2 K2 m2 NF2 NT2 NK2) [7, 8, 9, 0, 1, 2, 3, 4, 5, 6] rfl
  have hD := hD.sub (ws' := am_M bd dN P O ++ am_X ad dB n2 F2 T2 K2 m2 NF2 NT2 NK2) [7, 8, 9, 0, 1, 2, 3, 4, 5, 6] (by decide) rfl
  refine lv_aload_n hx hb dL_law_166 rfl (lv_at hl 2 rfl) ?_
  refine lv_aload_n hx hb dL_law_167 rfl (lv_at hl 0 rfl) ?_
  refine lv_iload_n hx hb dL_law_168 rfl (lv_at hl 3 rfl) ?_
  refine lv_iconst (v := nI 1) hx hb dL_law_169 (by decide +kernel) ?_
  refine am_iadd hx hb dL_law_170 ?_
  refine lc_sld hx hb hX hbl hS (by omega) hL dL_law_171 ?_
  refine lv_aload_n hx hb dL_law_172 rfl (lv_at hl 0 rfl) ?_
  refine lv_iload_n hx hb dL_law_173 rfl (lv_at hl 3 rfl) ?_
  refine lv_iconst (v := nI 2) hx hb dL_law_174 (by decide +kernel) ?_
  refine am_iadd hx hb dL_law_175 ?_
  refine lc_sld hx hb hX hbl hS (by omega) hL dL_law_176 ?_
  refine lv_aload_n hx hb dL_law_177 rfl (lv_at hl 0 rfl) ?_
  refine lv_iload_n hx hb dL_law_178 rfl (lv_at hl 3 rfl) ?_
  refine lv_iconst (v := nI 3) hx hb dL_law_179 (by decide +kernel) ?_
  refine am_iadd hx hb dL_law_180 ?_
  refine lc_sld hx hb hX hbl hS (by omega) hL dL_law_181 ?_
  refine am_mcallV (wr := am_X ad dB n2 F2 T2 K2 m2 NF2 NT2 NK2) (mt_X1_place l D bd dN P O hB (xs (i + 1)) (xs (i + 2)) (xs (i + 3))) lk_L_21 X hl.1 (hK.sub [1] rfl) rfl rfl rfl hP hD hS hA ⟨Nat.le_of_ble_eq_true rfl, Nat.le_of_ble_eq_true rfl⟩ ⟨Nat.le_of_ble_eq_true rfl, Nat.le_of_ble_eq_true rfl⟩ (Nat.le_of_ble_eq_true rfl) dL_law_182 rfl (fun r2 u H locs hp2 hP hD hS => ?_)
  obtain ⟨hp2, hP2⟩ := hp2
  obtain ⟨P2, O2⟩ := u
  have hP := hP.sub (ws' := lc_W ad bd dB dN n2 F2 T2 K2 m2 NF2 NT2 NK2 P2 O2) [3, 4, 5, 6, 7, 8, 9, 0, 1, 2] rfl
  have hD := hD.sub (ws' := lc_W ad bd dB dN n2 F2 T2 K2 m2 NF2 NT2 NK2 P2 O2) [3, 4, 5, 6, 7, 8, 9, 0, 1, 2] (by decide) rfl
  refine lv_icmp_eq (tgt := 496) hx hb dL_law_185 (by decide) (fun c1 => ?_) (fun c1 => ?_)
  · exact kk _ _ _ ⟨n2, F2, T2, K2, m2, NF2, NT2, NK2, P2, O2, ⟨hR2.1, hR2.2.congr (fun _ _ => ⟨rfl, rfl, rfl⟩) (fun j hj => hP2 j hj)⟩, hP, hD, hS, hl⟩
  · exact absurd (hp1.trans hp2.symm) c1
set_option maxHeartbeats 4000000 in
set_option maxRecDepth 100000 in
theorem lc_free {p : Program} {l : Launch} {e : Env} {s : State} {m : MethodId} {below : List Frame} {meth : Method} {c : Code} {b L : Nat} {xs : Nat → Int32} {D : va_G} {ad bd : Nat → Nat} {dB dN : ClassId} {i : Nat} (X0 : lc_Fx p s m meth c b L xs D dB dN i) (kk : ∀ (H : Heap) (locs : List Loc) (ls : Array Slot), lc_Ok D ad bd dB dN s b i H locs ls → W p l e room_1 s m #[Value.ref b] below meth c H locs 10 342 (lw_Z below #[Value.ref b] s) (F0 m 496 ls [])) {H : Heap} {locs : List Loc} {ls : Array Slot} (h : lc_Ok D ad bd dB dN s b i H locs ls) : W p l e room_1 s m #[Value.ref b] below meth c H locs 10 342 (lw_Z below #[Value.ref b] s) (F0 m 190 ls []) := by
  obtain ⟨X, hX, hbl, hK, hiL, hL⟩ := X0
  obtain ⟨n, F, T, K, mk, NF, NT, NK, P, O, hR, hP, hD, hS, hl⟩ := h
  have hx := X.1
  have hb := X.2.1
  have hA : ∀ q : Nat, s.heap.size ≤ q → (fun q => s.heap.size ≤ q) q := fun q h => h
  have hB : ∀ j, j < 64 → P j ≤ 128 := fun j hj => hR.2.le hj
  refine lv_aload_n hx hb dL_law_190 rfl (lv_at hl 1 rfl) ?_
  refine lv_aload_n hx hb dL_law_191 rfl (lv_at hl 0 rfl) ?_
  refine lv_iload_n hx hb dL_law_192 rfl (lv_at hl 3 rfl) ?_
  refine lv_iconst (v := nI 1) hx hb dL_law_193 (by decide +kernel) ?_
  refine am_iadd hx hb dL_law_194 ?_
  refine lc_sld hx hb hX hbl hS (by omega) hL dL_law_195 ?_
  refine lv_aload_n hx hb dL_law_196 rfl (lv_at hl 0 rfl) ?_
  refine lv_iload_n hx hb dL_law_197 rfl (lv_at hl 3 rfl) ?_
  refine lv_iconst (v := nI 2) hx hb dL_law_198 (by decide +kernel) ?_
  refine am_iadd hx hb dL_law_199 ?_
  refine lc_sld hx hb hX hbl hS (by omega) hL dL_law_200 ?_
  refine am_mcallV (wr := am_M bd dN P O) (mt_X0_free l D ad dB n F T K mk NF NT NK hR (xs (i + 1)) (xs (i + 2))) lk_L_22 X hl.1 (hK.sub [0] rfl) rfl rfl rfl hP hD hS hA ⟨Nat.le_of_ble_eq_true rfl, Nat.le_of_ble_eq_true rfl⟩ ⟨Nat.le_of_ble_eq_true rfl, Nat.le_of_ble_eq_true rfl⟩ (Nat.le_of_ble_eq_true rfl) dL_law_201 rfl (fun r1 u H locs hp1 hP hD hS => ?_)
  obtain ⟨hp1, hR2⟩ := hp1
  obtain ⟨n2, F2, T2, K2, m2, NF2, NT2, NK2⟩ := u
  have hP := hP.sub (ws' := am_M bd dN P O ++ am_X ad dB n2 F2 T2 K2 m2 NF2 NT2 NK2) [7, 8, 9, 0, 1, 2, 3, 4, 5, 6] rfl
  have hD := hD.sub (ws' := am_M bd dN P O ++ am_X ad dB n2 F2 T2 K2 m2 NF2 NT2 NK2) [7, 8, 9, 0, 1, 2, 3, 4, 5, 6] (by decide) rfl
  refine lv_aload_n hx hb dL_law_204 rfl (lv_at hl 2 rfl) ?_
  refine lv_aload_n hx hb dL_law_205 rfl (lv_at hl 0 rfl) ?_
  refine lv_iload_n hx hb dL_law_206 rfl (lv_at hl 3 rfl) ?_
  refine lv_iconst (v := nI 1) hx hb dL_law_207 (by decide +kernel) ?_
  refine am_iadd hx hb dL_law_208 ?_
  refine lc_sld hx hb hX hbl hS (by omega) hL dL_law_209 ?_
  refine lv_aload_n hx hb dL_law_210 rfl (lv_at hl 0 rfl) ?_
  refine lv_iload_n hx hb dL_law_211 rfl (lv_at hl 3 rfl) ?_
  refine lv_iconst (v := nI 2) hx hb dL_law_212 (by decide +kernel) ?_
  refine am_iadd hx hb dL_law_213 ?_
  refine lc_sld hx hb hX hbl hS (by omega) hL dL_law_214 ?_
  refine am_mcallV (wr := am_X ad dB n2 F2 T2 K2 m2 NF2 NT2 NK2) (mt_X1_free l D bd dN P O hB (xs (i + 1)) (xs (i + 2))) lk_L_26 X hl.1 (hK.sub [1] rfl) rfl rfl rfl hP hD hS hA ⟨Nat.le_of_ble_eq_true rfl, Nat.le_of_ble_eq_true rfl⟩ ⟨Nat.le_of_ble_eq_true rfl, Nat.le_of_ble_eq_true rfl⟩ (Nat.le_of_ble_eq_true rfl) dL_law_215 rfl (fun r2 u H locs hp2 hP hD hS => ?_)
  obtain ⟨hp2, hP2⟩ := hp2
  obtain ⟨P2, O2⟩ := u
  have hP := hP.sub (ws' := lc_W ad bd dB dN n2 F2 T2 K2 m2 NF2 NT2 NK2 P2 O2) [3, 4, 5, 6, 7, 8, 9, 0, 1, 2] rfl
  have hD := hD.sub (ws' := lc_W ad bd dB dN n2 F2 T2 K2 m2 NF2 NT2 NK2 P2 O2) [3, 4, 5, 6, 7, 8, 9, 0, 1, 2] (by decide) rfl
  refine lv_icmp_eq (tgt := 496) hx hb dL_law_218 (by decide) (fun c1 => ?_) (fun c1 => ?_)
  · exact kk _ _ _ ⟨n2, F2, T2, K2, m2, NF2, NT2, NK2, P2, O2, ⟨hR2.1, hR2.2.congr (fun _ _ => ⟨rfl, rfl, rfl⟩) (fun j hj => hP2 j hj)⟩, hP, hD, hS, hl⟩
  · exact absurd (hp1.trans hp2.symm) c1
set_option maxHeartbeats 4000000 in
set_option maxRecDepth 100000 in
theorem lc_protect {p : Program} {l : Launch} {e : Env} {s : State} {m : MethodId} {below : List Frame} {meth : Method} {c : Code} {b L : Nat} {xs : Nat → Int32} {D : va_G} {ad bd : Nat → Nat} {dB dN : ClassId} {i : Nat} (X0 : lc_Fx p s m meth c b L xs D dB dN i) (kk : ∀ (H : Heap) (locs : List Loc) (ls : Array Slot), lc_Ok D ad bd dB dN s b i H locs ls → W p l e room_1 s m #[Value.ref b] below meth c H locs 10 342 (lw_Z below #[Value.ref b] s) (F0 m 496 ls [])) {H : Heap} {locs : List Loc} {ls : Array Slot} (h : lc_Ok D ad bd dB dN s b i H locs ls) : W p l e room_1 s m #[Value.ref b] below meth c H locs 10 342 (lw_Z below #[Value.ref b] s) (F0 m 223 ls []) := by
  obtain ⟨X, hX, hbl, hK, hiL, hL⟩ := X0
  obtain ⟨n, F, T, K, mk, NF, NT, NK, P, O, hR, hP, hD, hS, hl⟩ := h
  have hx := X.1
  have hb := X.2.1
  have hA : ∀ q : Nat, s.heap.size ≤ q → (fun q => s.heap.size ≤ q) q := fun q h => h
  have hB : ∀ j, j < 64 → P j ≤ 128 := fun j hj => hR.2.le hj
  refine lv_aload_n hx hb dL_law_223 rfl (lv_at hl 1 rfl) ?_
  refine lv_aload_n hx hb dL_law_224 rfl (lv_at hl 0 rfl) ?_
  refine lv_iload_n hx hb dL_law_225 rfl (lv_at hl 3 rfl) ?_
  refine lv_iconst (v := nI 1) hx hb dL_law_226 (by decide +kernel) ?_
  refine am_iadd hx hb dL_law_227 ?_
  refine lc_sld hx hb hX hbl hS (by omega) hL dL_law_228 ?_
  refine lv_aload_n hx hb dL_law_229 rfl (lv_at hl 0 rfl) ?_
  refine lv_iload_n hx hb dL_law_230 rfl (lv_at hl 3 rfl) ?_
  refine lv_iconst (v := nI 2) hx hb dL_law_231 (by decide +kernel) ?_
  refine am_iadd hx hb dL_law_232 ?_
  refine lc_sld hx hb hX hbl hS (by omega) hL dL_law_233 ?_
  refine lv_aload_n hx hb dL_law_234 rfl (lv_at hl 0 rfl) ?_
  refine lv_iload_n hx hb dL_law_235 rfl (lv_at hl 3 rfl) ?_
  refine lv_iconst (v := nI 3) hx hb dL_law_236 (by decide +kernel) ?_
  refine am_iadd hx hb dL_law_237 ?_
  refine lc_sld hx hb hX hbl hS (by omega) hL dL_law_238 ?_
  refine am_mcallV (wr := am_M bd dN P O) (mt_X0_protect l D ad dB n F T K mk NF NT NK hR (xs (i + 1)) (xs (i + 2)) (xs (i + 3))) lk_L_27 X hl.1 (hK.sub [0] rfl) rfl rfl rfl hP hD hS hA ⟨Nat.le_of_ble_eq_true rfl, Nat.le_of_ble_eq_true rfl⟩ ⟨Nat.le_of_ble_eq_true rfl, Nat.le_of_ble_eq_true rfl⟩ (Nat.le_of_ble_eq_true rfl) dL_law_239 rfl (fun r1 u H locs hp1 hP hD hS => ?_)
  obtain ⟨hp1, hR2⟩ := hp1
  obtain ⟨n2, F2, T2, K2, m2, NF2, NT2, NK2⟩ := u
  have hP := hP.sub (ws' := am_M bd dN P O ++ am_X ad dB n2 F2 T2 K2 m2 NF2 NT2 NK2) [7, 8, 9, 0, 1, 2, 3, 4, 5, 6] rfl
  have hD := hD.sub (ws' := am_M bd dN P O ++ am_X ad dB n2 F2 T2 K2 m2 NF2 NT2 NK2) [7, 8, 9, 0, 1, 2, 3, 4, 5, 6] (by decide) rfl
  refine lv_aload_n hx hb dL_law_242 rfl (lv_at hl 2 rfl) ?_
  refine lv_aload_n hx hb dL_law_243 rfl (lv_at hl 0 rfl) ?_
  refine lv_iload_n hx hb dL_law_244 rfl (lv_at hl 3 rfl) ?_
  refine lv_iconst (v := nI 1) hx hb dL_law_245 (by decide +kernel) ?_
  refine am_iadd hx hb dL_law_246 ?_
  refine lc_sld hx hb hX hbl hS (by omega) hL dL_law_247 ?_
  refine lv_aload_n hx hb dL_law_248 rfl (lv_at hl 0 rfl) ?_
  refine lv_iload_n hx hb dL_law_249 rfl (lv_at hl 3 rfl) ?_
  refine lv_iconst (v := nI 2) hx hb dL_law_250 (by decide +kernel) ?_
  refine am_iadd hx hb dL_law_251 ?_
  refine lc_sld hx hb hX hbl hS (by omega) hL dL_law_252 ?_
  refine lv_aload_n hx hb dL_law_253 rfl (lv_at hl 0 rfl) ?_
  refine lv_iload_n hx hb dL_law_254 rfl (lv_at hl 3 rfl) ?_
  refine lv_iconst (v := nI 3) hx hb dL_law_255 (by decide +kernel) ?_
  refine am_iadd hx hb dL_law_256 ?_
  refine lc_sld hx hb hX hbl hS (by omega) hL dL_law_257 ?_
  refine am_mcallV (wr := am_X ad dB n2 F2 T2 K2 m2 NF2 NT2 NK2) (mt_X1_protect l D bd dN P O hB (xs (i + 1)) (xs (i + 2)) (xs (i + 3))) lk_L_30 X hl.1 (hK.sub [1] rfl) rfl rfl rfl hP hD hS hA ⟨Nat.le_of_ble_eq_true rfl, Nat.le_of_ble_eq_true rfl⟩ ⟨Nat.le_of_ble_eq_true rfl, Nat.le_of_ble_eq_true rfl⟩ (Nat.le_of_ble_eq_true rfl) dL_law_258 rfl (fun r2 u H locs hp2 hP hD hS => ?_)
  obtain ⟨hp2, hP2⟩ := hp2
  obtain ⟨P2, O2⟩ := u
  have hP := hP.sub (ws' := lc_W ad bd dB dN n2 F2 T2 K2 m2 NF2 NT2 NK2 P2 O2) [3, 4, 5, 6, 7, 8, 9, 0, 1, 2] rfl
  have hD := hD.sub (ws' := lc_W ad bd dB dN n2 F2 T2 K2 m2 NF2 NT2 NK2 P2 O2) [3, 4, 5, 6, 7, 8, 9, 0, 1, 2] (by decide) rfl
  refine lv_icmp_eq (tgt := 496) hx hb dL_law_261 (by decide) (fun c1 => ?_) (fun c1 => ?_)
  · exact kk _ _ _ ⟨n2, F2, T2, K2, m2, NF2, NT2, NK2, P2, O2, ⟨hR2.1, hR2.2.congr (fun _ _ => ⟨rfl, rfl, rfl⟩) (fun j hj => hP2 j hj)⟩, hP, hD, hS, hl⟩
  · exact absurd (hp1.trans hp2.symm) c1
set_option maxHeartbeats 4000000 in
set_option maxRecDepth 100000 in
theorem lc_rights {p : Program} {l : Launch} {e : Env} {s : State} {m : MethodId} {below : List Frame} {meth : Method} {c : Code} {b L : Nat} {xs : Nat → Int32} {D : va_G} {ad bd : Nat → Nat} {dB dN : ClassId} {i : Nat} (X0 : lc_Fx p s m meth c b L xs D dB dN i) (kk : ∀ (H : Heap) (locs : List Loc) (ls : Array Slot), lc_Ok D ad bd dB dN s b i H locs ls → W p l e room_1 s m #[Value.ref b] below meth c H locs 10 342 (lw_Z below #[Value.ref b] s) (F0 m 496 ls [])) {H : Heap} {locs : List Loc} {ls : Array Slot} (h : lc_Ok D ad bd dB dN s b i H locs ls) : W p l e room_1 s m #[Value.ref b] below meth c H locs 10 342 (lw_Z below #[Value.ref b] s) (F0 m 266 ls []) := by
  obtain ⟨X, hX, hbl, hK, hiL, hL⟩ := X0
  obtain ⟨n, F, T, K, mk, NF, NT, NK, P, O, hR, hP, hD, hS, hl⟩ := h
  have hx := X.1
  have hb := X.2.1
  have hA : ∀ q : Nat, s.heap.size ≤ q → (fun q => s.heap.size ≤ q) q := fun q h => h
  have hB : ∀ j, j < 64 → P j ≤ 128 := fun j hj => hR.2.le hj
  refine lv_aload_n hx hb dL_law_266 rfl (lv_at hl 1 rfl) ?_
  refine lv_aload_n hx hb dL_law_267 rfl (lv_at hl 0 rfl) ?_
  refine lv_iload_n hx hb dL_law_268 rfl (lv_at hl 3 rfl) ?_
  refine lv_iconst (v := nI 1) hx hb dL_law_269 (by decide +kernel) ?_
  refine am_iadd hx hb dL_law_270 ?_
  refine lc_sld hx hb hX hbl hS (by omega) hL dL_law_271 ?_
  refine am_callV (wc := am_X ad dB n F T K mk NF NT NK) (mt_X0_rights l D ad dB n F T K mk NF NT NK hR (xs (i + 1))) lk_L_31 X hl.1 (hP.sub [0, 1, 2, 3, 4, 5, 6] rfl) (hK.sub [0] rfl) rfl rfl rfl hP hS ⟨Nat.le_of_ble_eq_true rfl, Nat.le_of_ble_eq_true rfl⟩ ⟨Nat.le_of_ble_eq_true rfl, Nat.le_of_ble_eq_true rfl⟩ (Nat.le_of_ble_eq_true rfl) dL_law_272 rfl (fun r1 H locs hp1 hP hS => ?_)
  refine lv_aload_n hx hb dL_law_275 rfl (lv_at hl 2 rfl) ?_
  refine lv_aload_n hx hb dL_law_276 rfl (lv_at hl 0 rfl) ?_
  refine lv_iload_n hx hb dL_law_277 rfl (lv_at hl 3 rfl) ?_
  refine lv_iconst (v := nI 1) hx hb dL_law_278 (by decide +kernel) ?_
  refine am_iadd hx hb dL_law_279 ?_
  refine lc_sld hx hb hX hbl hS (by omega) hL dL_law_280 ?_
  refine am_callV (wc := am_M bd dN P O) (mt_X1_rights l D bd dN P O hB (xs (i + 1))) lk_L_35 X hl.1 (hP.sub [7, 8, 9] rfl) (hK.sub [1] rfl) rfl rfl rfl hP hS ⟨Nat.le_of_ble_eq_true rfl, Nat.le_of_ble_eq_true rfl⟩ ⟨Nat.le_of_ble_eq_true rfl, Nat.le_of_ble_eq_true rfl⟩ (Nat.le_of_ble_eq_true rfl) dL_law_281 rfl (fun r2 H locs hp2 hP hS => ?_)
  refine lv_icmp_eq (tgt := 496) hx hb dL_law_284 (by decide) (fun c1 => ?_) (fun c1 => ?_)
  · exact kk _ _ _ ⟨n, F, T, K, mk, NF, NT, NK, P, O, hR, hP, hD, hS, hl⟩
  · exact absurd (hp1.trans hp2.symm) c1
set_option maxHeartbeats 4000000 in
set_option maxRecDepth 100000 in
theorem lc_tag {p : Program} {l : Launch} {e : Env} {s : State} {m : MethodId} {below : List Frame} {meth : Method} {c : Code} {b L : Nat} {xs : Nat → Int32} {D : va_G} {ad bd : Nat → Nat} {dB dN : ClassId} {i : Nat} (X0 : lc_Fx p s m meth c b L xs D dB dN i) (kk : ∀ (H : Heap) (locs : List Loc) (ls : Array Slot), lc_Ok D ad bd dB dN s b i H locs ls → W p l e room_1 s m #[Value.ref b] below meth c H locs 10 342 (lw_Z below #[Value.ref b] s) (F0 m 496 ls [])) {H : Heap} {locs : List Loc} {ls : Array Slot} (h : lc_Ok D ad bd dB dN s b i H locs ls) : W p l e room_1 s m #[Value.ref b] below meth c H locs 10 342 (lw_Z below #[Value.ref b] s) (F0 m 289 ls []) := by
  obtain ⟨X, hX, hbl, hK, hiL, hL⟩ := X0
  obtain ⟨n, F, T, K, mk, NF, NT, NK, P, O, hR, hP, hD, hS, hl⟩ := h
  have hx := X.1
  have hb := X.2.1
  have hA : ∀ q : Nat, s.heap.size ≤ q → (fun q => s.heap.size ≤ q) q := fun q h => h
  have hB : ∀ j, j < 64 → P j ≤ 128 := fun j hj => hR.2.le hj
  refine lv_aload_n hx hb dL_law_289 rfl (lv_at hl 1 rfl) ?_
  refine lv_aload_n hx hb dL_law_290 rfl (lv_at hl 0 rfl) ?_
  refine lv_iload_n hx hb dL_law_291 rfl (lv_at hl 3 rfl) ?_
  refine lv_iconst (v := nI 1) hx hb dL_law_292 (by decide +kernel) ?_
  refine am_iadd hx hb dL_law_293 ?_
  refine lc_sld hx hb hX hbl hS (by omega) hL dL_law_294 ?_
  refine am_callV (wc := am_X ad dB n F T K mk NF NT NK) (mt_X0_tag l D ad dB n F T K mk NF NT NK hR (xs (i + 1))) lk_L_36 X hl.1 (hP.sub [0, 1, 2, 3, 4, 5, 6] rfl) (hK.sub [0] rfl) rfl rfl rfl hP hS ⟨Nat.le_of_ble_eq_true rfl, Nat.le_of_ble_eq_true rfl⟩ ⟨Nat.le_of_ble_eq_true rfl, Nat.le_of_ble_eq_true rfl⟩ (Nat.le_of_ble_eq_true rfl) dL_law_295 rfl (fun r1 H locs hp1 hP hS => ?_)
  refine lv_aload_n hx hb dL_law_298 rfl (lv_at hl 2 rfl) ?_
  refine lv_aload_n hx hb dL_law_299 rfl (lv_at hl 0 rfl) ?_
  refine lv_iload_n hx hb dL_law_300 rfl (lv_at hl 3 rfl) ?_
  refine lv_iconst (v := nI 1) hx hb dL_law_301 (by decide +kernel) ?_
  refine am_iadd hx hb dL_law_302 ?_
  refine lc_sld hx hb hX hbl hS (by omega) hL dL_law_303 ?_
  refine am_callV (wc := am_M bd dN P O) (mt_X1_tag l D bd dN P O hB (xs (i + 1))) lk_L_39 X hl.1 (hP.sub [7, 8, 9] rfl) (hK.sub [1] rfl) rfl rfl rfl hP hS ⟨Nat.le_of_ble_eq_true rfl, Nat.le_of_ble_eq_true rfl⟩ ⟨Nat.le_of_ble_eq_true rfl, Nat.le_of_ble_eq_true rfl⟩ (Nat.le_of_ble_eq_true rfl) dL_law_304 rfl (fun r2 H locs hp2 hP hS => ?_)
  refine lv_icmp_eq (tgt := 496) hx hb dL_law_307 (by decide) (fun c1 => ?_) (fun c1 => ?_)
  · exact kk _ _ _ ⟨n, F, T, K, mk, NF, NT, NK, P, O, hR, hP, hD, hS, hl⟩
  · exact absurd (hp1.trans hp2.symm) c1
set_option maxHeartbeats 4000000 in
set_option maxRecDepth 100000 in
theorem lc_areas {p : Program} {l : Launch} {e : Env} {s : State} {m : MethodId} {below : List Frame} {meth : Method} {c : Code} {b L : Nat} {xs : Nat → Int32} {D : va_G} {ad bd : Nat → Nat} {dB dN : ClassId} {i : Nat} (X0 : lc_Fx p s m meth c b L xs D dB dN i) (kk : ∀ (H : Heap) (locs : List Loc) (ls : Array Slot), lc_Ok D ad bd dB dN s b i H locs ls → W p l e room_1 s m #[Value.ref b] below meth c H locs 10 342 (lw_Z below #[Value.ref b] s) (F0 m 496 ls [])) {H : Heap} {locs : List Loc} {ls : Array Slot} (h : lc_Ok D ad bd dB dN s b i H locs ls) : W p l e room_1 s m #[Value.ref b] below meth c H locs 10 342 (lw_Z below #[Value.ref b] s) (F0 m 312 ls []) := by
  obtain ⟨X, hX, hbl, hK, hiL, hL⟩ := X0
  obtain ⟨n, F, T, K, mk, NF, NT, NK, P, O, hR, hP, hD, hS, hl⟩ := h
  have hx := X.1
  have hb := X.2.1
  have hA : ∀ q : Nat, s.heap.size ≤ q → (fun q => s.heap.size ≤ q) q := fun q h => h
  have hB : ∀ j, j < 64 → P j ≤ 128 := fun j hj => hR.2.le hj
  refine lv_aload_n hx hb dL_law_312 rfl (lv_at hl 1 rfl) ?_
  refine am_callV (wc := am_X ad dB n F T K mk NF NT NK) (mt_X0_areas l D ad dB n F T K mk NF NT NK hR ) lk_L_40 X hl.1 (hP.sub [0, 1, 2, 3, 4, 5, 6] rfl) (hK.sub [0] rfl) rfl rfl rfl hP hS ⟨Nat.le_of_ble_eq_true rfl, Nat.le_of_ble_eq_true rfl⟩ ⟨Nat.le_of_ble_eq_true rfl, Nat.le_of_ble_eq_true rfl⟩ (Nat.le_of_ble_eq_true rfl) dL_law_313 rfl (fun r1 H locs hp1 hP hS => ?_)
  refine lv_aload_n hx hb dL_law_316 rfl (lv_at hl 2 rfl) ?_
  refine am_callV (wc := am_M bd dN P O) (mt_X1_areas l D bd dN P O hB ) lk_L_44 X hl.1 (hP.sub [7, 8, 9] rfl) (hK.sub [1] rfl) rfl rfl rfl hP hS ⟨Nat.le_of_ble_eq_true rfl, Nat.le_of_ble_eq_true rfl⟩ ⟨Nat.le_of_ble_eq_true rfl, Nat.le_of_ble_eq_true rfl⟩ (Nat.le_of_ble_eq_true rfl) dL_law_317 rfl (fun r2 H locs hp2 hP hS => ?_)
  refine lv_icmp_eq (tgt := 496) hx hb dL_law_320 (by decide) (fun c1 => ?_) (fun c1 => ?_)
  · exact kk _ _ _ ⟨n, F, T, K, mk, NF, NT, NK, P, O, hR, hP, hD, hS, hl⟩
  · exact absurd (hp1.trans hp2.symm) c1
set_option maxHeartbeats 4000000 in
set_option maxRecDepth 100000 in
theorem lc_areaFirst {p : Program} {l : Launch} {e : Env} {s : State} {m : MethodId} {below : List Frame} {meth : Method} {c : Code} {b L : Nat} {xs : Nat → Int32} {D : va_G} {ad bd : Nat → Nat} {dB dN : ClassId} {i : Nat} (X0 : lc_Fx p s m meth c b L xs D dB dN i) (kk : ∀ (H : Heap) (locs : List Loc) (ls : Array Slot), lc_Ok D ad bd dB dN s b i H locs ls → W p l e room_1 s m #[Value.ref b] below meth c H locs 10 342 (lw_Z below #[Value.ref b] s) (F0 m 496 ls [])) {H : Heap} {locs : List Loc} {ls : Array Slot} (h : lc_Ok D ad bd dB dN s b i H locs ls) : W p l e room_1 s m #[Value.ref b] below meth c H locs 10 342 (lw_Z below #[Value.ref b] s) (F0 m 325 ls []) := by
  obtain ⟨X, hX, hbl, hK, hiL, hL⟩ := X0
  obtain ⟨n, F, T, K, mk, NF, NT, NK, P, O, hR, hP, hD, hS, hl⟩ := h
  have hx := X.1
  have hb := X.2.1
  have hA : ∀ q : Nat, s.heap.size ≤ q → (fun q => s.heap.size ≤ q) q := fun q h => h
  have hB : ∀ j, j < 64 → P j ≤ 128 := fun j hj => hR.2.le hj
  refine lv_aload_n hx hb dL_law_325 rfl (lv_at hl 1 rfl) ?_
  refine lv_aload_n hx hb dL_law_326 rfl (lv_at hl 0 rfl) ?_
  refine lv_iload_n hx hb dL_law_327 rfl (lv_at hl 3 rfl) ?_
  refine lv_iconst (v := nI 1) hx hb dL_law_328 (by decide +kernel) ?_
  refine am_iadd hx hb dL_law_329 ?_
  refine lc_sld hx hb hX hbl hS (by omega) hL dL_law_330 ?_
  refine am_callV (wc := am_X ad dB n F T K mk NF NT NK) (mt_X0_areaFirst l D ad dB n F T K mk NF NT NK hR (xs (i + 1))) lk_L_45 X hl.1 (hP.sub [0, 1, 2, 3, 4, 5, 6] rfl) (hK.sub [0] rfl) rfl rfl rfl hP hS ⟨Nat.le_of_ble_eq_true rfl, Nat.le_of_ble_eq_true rfl⟩ ⟨Nat.le_of_ble_eq_true rfl, Nat.le_of_ble_eq_true rfl⟩ (Nat.le_of_ble_eq_true rfl) dL_law_331 rfl (fun r1 H locs hp1 hP hS => ?_)
  refine lv_aload_n hx hb dL_law_334 rfl (lv_at hl 2 rfl) ?_
  refine lv_aload_n hx hb dL_law_335 rfl (lv_at hl 0 rfl) ?_
  refine lv_iload_n hx hb dL_law_336 rfl (lv_at hl 3 rfl) ?_
  refine lv_iconst (v := nI 1) hx hb dL_law_337 (by decide +kernel) ?_
  refine am_iadd hx hb dL_law_338 ?_
  refine lc_sld hx hb hX hbl hS (by omega) hL dL_law_339 ?_
  refine am_callV (wc := am_M bd dN P O) (mt_X1_areaFirst l D bd dN P O hB (xs (i + 1))) lk_L_48 X hl.1 (hP.sub [7, 8, 9] rfl) (hK.sub [1] rfl) rfl rfl rfl hP hS ⟨Nat.le_of_ble_eq_true rfl, Nat.le_of_ble_eq_true rfl⟩ ⟨Nat.le_of_ble_eq_true rfl, Nat.le_of_ble_eq_true rfl⟩ (Nat.le_of_ble_eq_true rfl) dL_law_340 rfl (fun r2 H locs hp2 hP hS => ?_)
  refine lv_icmp_eq (tgt := 496) hx hb dL_law_343 (by decide) (fun c1 => ?_) (fun c1 => ?_)
  · exact kk _ _ _ ⟨n, F, T, K, mk, NF, NT, NK, P, O, hR, hP, hD, hS, hl⟩
  · exact absurd (hp1.trans hp2.symm) c1
set_option maxHeartbeats 4000000 in
set_option maxRecDepth 100000 in
theorem lc_areaLength {p : Program} {l : Launch} {e : Env} {s : State} {m : MethodId} {below : List Frame} {meth : Method} {c : Code} {b L : Nat} {xs : Nat → Int32} {D : va_G} {ad bd : Nat → Nat} {dB dN : ClassId} {i : Nat} (X0 : lc_Fx p s m meth c b L xs D dB dN i) (kk : ∀ (H : Heap) (locs : List Loc) (ls : Array Slot), lc_Ok D ad bd dB dN s b i H locs ls → W p l e room_1 s m #[Value.ref b] below meth c H locs 10 342 (lw_Z below #[Value.ref b] s) (F0 m 496 ls [])) {H : Heap} {locs : List Loc} {ls : Array Slot} (h : lc_Ok D ad bd dB dN s b i H locs ls) : W p l e room_1 s m #[Value.ref b] below meth c H locs 10 342 (lw_Z below #[Value.ref b] s) (F0 m 348 ls []) := by
  obtain ⟨X, hX, hbl, hK, hiL, hL⟩ := X0
  obtain ⟨n, F, T, K, mk, NF, NT, NK, P, O, hR, hP, hD, hS, hl⟩ := h
  have hx := X.1
  have hb := X.2.1
  have hA : ∀ q : Nat, s.heap.size ≤ q → (fun q => s.heap.size ≤ q) q := fun q h => h
  have hB : ∀ j, j < 64 → P j ≤ 128 := fun j hj => hR.2.le hj
  refine lv_aload_n hx hb dL_law_348 rfl (lv_at hl 1 rfl) ?_
  refine lv_aload_n hx hb dL_law_349 rfl (lv_at hl 0 rfl) ?_
  refine lv_iload_n hx hb dL_law_350 rfl (lv_at hl 3 rfl) ?_
  refine lv_iconst (v := nI 1) hx hb dL_law_351 (by decide +kernel) ?_
  refine am_iadd hx hb dL_law_352 ?_
  refine lc_sld hx hb hX hbl hS (by omega) hL dL_law_353 ?_
  refine am_callV (wc := am_X ad dB n F T K mk NF NT NK) (mt_X0_areaLength l D ad dB n F T K mk NF NT NK hR (xs (i + 1))) lk_L_49 X hl.1 (hP.sub [0, 1, 2, 3, 4, 5, 6] rfl) (hK.sub [0] rfl) rfl rfl rfl hP hS ⟨Nat.le_of_ble_eq_true rfl, Nat.le_of_ble_eq_true rfl⟩ ⟨Nat.le_of_ble_eq_true rfl, Nat.le_of_ble_eq_true rfl⟩ (Nat.le_of_ble_eq_true rfl) dL_law_354 rfl (fun r1 H locs hp1 hP hS => ?_)
  refine lv_aload_n hx hb dL_law_357 rfl (lv_at hl 2 rfl) ?_
  refine lv_aload_n hx hb dL_law_358 rfl (lv_at hl 0 rfl) ?_
  refine lv_iload_n hx hb dL_law_359 rfl (lv_at hl 3 rfl) ?_
  refine lv_iconst (v := nI 1) hx hb dL_law_360 (by decide +kernel) ?_
  refine am_iadd hx hb dL_law_361 ?_
  refine lc_sld hx hb hX hbl hS (by omega) hL dL_law_362 ?_
  refine am_callV (wc := am_M bd dN P O) (mt_X1_areaLength l D bd dN P O hB (xs (i + 1))) lk_L_52 X hl.1 (hP.sub [7, 8, 9] rfl) (hK.sub [1] rfl) rfl rfl rfl hP hS ⟨Nat.le_of_ble_eq_true rfl, Nat.le_of_ble_eq_true rfl⟩ ⟨Nat.le_of_ble_eq_true rfl, Nat.le_of_ble_eq_true rfl⟩ (Nat.le_of_ble_eq_true rfl) dL_law_363 rfl (fun r2 H locs hp2 hP hS => ?_)
  refine lv_icmp_eq (tgt := 496) hx hb dL_law_366 (by decide) (fun c1 => ?_) (fun c1 => ?_)
  · exact kk _ _ _ ⟨n, F, T, K, mk, NF, NT, NK, P, O, hR, hP, hD, hS, hl⟩
  · exact absurd (hp1.trans hp2.symm) c1
set_option maxHeartbeats 4000000 in
set_option maxRecDepth 100000 in
theorem lc_areaOf {p : Program} {l : Launch} {e : Env} {s : State} {m : MethodId} {below : List Frame} {meth : Method} {c : Code} {b L : Nat} {xs : Nat → Int32} {D : va_G} {ad bd : Nat → Nat} {dB dN : ClassId} {i : Nat} (X0 : lc_Fx p s m meth c b L xs D dB dN i) (kk : ∀ (H : Heap) (locs : List Loc) (ls : Array Slot), lc_Ok D ad bd dB dN s b i H locs ls → W p l e room_1 s m #[Value.ref b] below meth c H locs 10 342 (lw_Z below #[Value.ref b] s) (F0 m 496 ls [])) {H : Heap} {locs : List Loc} {ls : Array Slot} (h : lc_Ok D ad bd dB dN s b i H locs ls) : W p l e room_1 s m #[Value.ref b] below meth c H locs 10 342 (lw_Z below #[Value.ref b] s) (F0 m 371 ls []) := by
  obtain ⟨X, hX, hbl, hK, hiL, hL⟩ := X0
  obtain ⟨n, F, T, K, mk, NF, NT, NK, P, O, hR, hP, hD, hS, hl⟩ := h
  have hx := X.1
  have hb := X.2.1
  have hA : ∀ q : Nat, s.heap.size ≤ q → (fun q => s.heap.size ≤ q) q := fun q h => h
  have hB : ∀ j, j < 64 → P j ≤ 128 := fun j hj => hR.2.le hj
  refine lv_aload_n hx hb dL_law_371 rfl (lv_at hl 1 rfl) ?_
  refine lv_aload_n hx hb dL_law_372 rfl (lv_at hl 0 rfl) ?_
  refine lv_iload_n hx hb dL_law_373 rfl (lv_at hl 3 rfl) ?_
  refine lv_iconst (v := nI 1) hx hb dL_law_374 (by decide +kernel) ?_
  refine am_iadd hx hb dL_law_375 ?_
  refine lc_sld hx hb hX hbl hS (by omega) hL dL_law_376 ?_
  refine am_callV (wc := am_X ad dB n F T K mk NF NT NK) (mt_X0_areaOf l D ad dB n F T K mk NF NT NK hR (xs (i + 1))) lk_L_53 X hl.1 (hP.sub [0, 1, 2, 3, 4, 5, 6] rfl) (hK.sub [0] rfl) rfl rfl rfl hP hS ⟨Nat.le_of_ble_eq_true rfl, Nat.le_of_ble_eq_true rfl⟩ ⟨Nat.le_of_ble_eq_true rfl, Nat.le_of_ble_eq_true rfl⟩ (Nat.le_of_ble_eq_true rfl) dL_law_377 rfl (fun r1 H locs hp1 hP hS => ?_)
  refine lv_aload_n hx hb dL_law_380 rfl (lv_at hl 2 rfl) ?_
  refine lv_aload_n hx hb dL_law_381 rfl (lv_at hl 0 rfl) ?_
  refine lv_iload_n hx hb dL_law_382 rfl (lv_at hl 3 rfl) ?_
  refine lv_iconst (v := nI 1) hx hb dL_law_383 (by decide +kernel) ?_
  refine am_iadd hx hb dL_law_384 ?_
  refine lc_sld hx hb hX hbl hS (by omega) hL dL_law_385 ?_
  refine am_callV (wc := am_M bd dN P O) (mt_X1_areaOf l D bd dN P O hB (xs (i + 1))) lk_L_56 X hl.1 (hP.sub [7, 8, 9] rfl) (hK.sub [1] rfl) rfl rfl rfl hP hS ⟨Nat.le_of_ble_eq_true rfl, Nat.le_of_ble_eq_true rfl⟩ ⟨Nat.le_of_ble_eq_true rfl, Nat.le_of_ble_eq_true rfl⟩ (Nat.le_of_ble_eq_true rfl) dL_law_386 rfl (fun r2 H locs hp2 hP hS => ?_)
  refine lv_icmp_eq (tgt := 496) hx hb dL_law_389 (by decide) (fun c1 => ?_) (fun c1 => ?_)
  · exact kk _ _ _ ⟨n, F, T, K, mk, NF, NT, NK, P, O, hR, hP, hD, hS, hl⟩
  · exact absurd (hp1.trans hp2.symm) c1
set_option maxHeartbeats 4000000 in
set_option maxRecDepth 100000 in
theorem lc_mapped {p : Program} {l : Launch} {e : Env} {s : State} {m : MethodId} {below : List Frame} {meth : Method} {c : Code} {b L : Nat} {xs : Nat → Int32} {D : va_G} {ad bd : Nat → Nat} {dB dN : ClassId} {i : Nat} (X0 : lc_Fx p s m meth c b L xs D dB dN i) (kk : ∀ (H : Heap) (locs : List Loc) (ls : Array Slot), lc_Ok D ad bd dB dN s b i H locs ls → W p l e room_1 s m #[Value.ref b] below meth c H locs 10 342 (lw_Z below #[Value.ref b] s) (F0 m 496 ls [])) {H : Heap} {locs : List Loc} {ls : Array Slot} (h : lc_Ok D ad bd dB dN s b i H locs ls) : W p l e room_1 s m #[Value.ref b] below meth c H locs 10 342 (lw_Z below #[Value.ref b] s) (F0 m 394 ls []) := by
  obtain ⟨X, hX, hbl, hK, hiL, hL⟩ := X0
  obtain ⟨n, F, T, K, mk, NF, NT, NK, P, O, hR, hP, hD, hS, hl⟩ := h
  have hx := X.1
  have hb := X.2.1
  have hA : ∀ q : Nat, s.heap.size ≤ q → (fun q => s.heap.size ≤ q) q := fun q h => h
  have hB : ∀ j, j < 64 → P j ≤ 128 := fun j hj => hR.2.le hj
  refine lv_aload_n hx hb dL_law_394 rfl (lv_at hl 1 rfl) ?_
  refine am_callV (wc := am_X ad dB n F T K mk NF NT NK) (mt_X0_mapped l D ad dB n F T K mk NF NT NK hR ) lk_L_57 X hl.1 (hP.sub [0, 1, 2, 3, 4, 5, 6] rfl) (hK.sub [0] rfl) rfl rfl rfl hP hS ⟨Nat.le_of_ble_eq_true rfl, Nat.le_of_ble_eq_true rfl⟩ ⟨Nat.le_of_ble_eq_true rfl, Nat.le_of_ble_eq_true rfl⟩ (Nat.le_of_ble_eq_true rfl) dL_law_395 rfl (fun r1 H locs hp1 hP hS => ?_)
  refine lv_aload_n hx hb dL_law_398 rfl (lv_at hl 2 rfl) ?_
  refine am_callV (wc := am_M bd dN P O) (mt_X1_mapped l D bd dN P O hB ) lk_L_60 X hl.1 (hP.sub [7, 8, 9] rfl) (hK.sub [1] rfl) rfl rfl rfl hP hS ⟨Nat.le_of_ble_eq_true rfl, Nat.le_of_ble_eq_true rfl⟩ ⟨Nat.le_of_ble_eq_true rfl, Nat.le_of_ble_eq_true rfl⟩ (Nat.le_of_ble_eq_true rfl) dL_law_399 rfl (fun r2 H locs hp2 hP hS => ?_)
  refine lv_icmp_eq (tgt := 496) hx hb dL_law_402 (by decide) (fun c1 => ?_) (fun c1 => ?_)
  · exact kk _ _ _ ⟨n, F, T, K, mk, NF, NT, NK, P, O, hR, hP, hD, hS, hl⟩
  · exact absurd (hp1.trans hp2.symm) c1
set_option maxHeartbeats 4000000 in
set_option maxRecDepth 100000 in
theorem lc_longestFree {p : Program} {l : Launch} {e : Env} {s : State} {m : MethodId} {below : List Frame} {meth : Method} {c : Code} {b L : Nat} {xs : Nat → Int32} {D : va_G} {ad bd : Nat → Nat} {dB dN : ClassId} {i : Nat} (X0 : lc_Fx p s m meth c b L xs D dB dN i) (kk : ∀ (H : Heap) (locs : List Loc) (ls : Array Slot), lc_Ok D ad bd dB dN s b i H locs ls → W p l e room_1 s m #[Value.ref b] below meth c H locs 10 342 (lw_Z below #[Value.ref b] s) (F0 m 496 ls [])) {H : Heap} {locs : List Loc} {ls : Array Slot} (h : lc_Ok D ad bd dB dN s b i H locs ls) : W p l e room_1 s m #[Value.ref b] below meth c H locs 10 342 (lw_Z below #[Value.ref b] s) (F0 m 407 ls []) := by
  obtain ⟨X, hX, hbl, hK, hiL, hL⟩ := X0
  obtain ⟨n, F, T, K, mk, NF, NT, NK, P, O, hR, hP, hD, hS, hl⟩ := h
  have hx := X.1
  have hb := X.2.1
  have hA : ∀ q : Nat, s.heap.size ≤ q → (fun q => s.heap.size ≤ q) q := fun q h => h
  have hB : ∀ j, j < 64 → P j ≤ 128 := fun j hj => hR.2.le hj
  refine lv_aload_n hx hb dL_law_407 rfl (lv_at hl 1 rfl) ?_
  refine am_callV (wc := am_X ad dB n F T K mk NF NT NK) (mt_X0_longestFree l D ad dB n F T K mk NF NT NK hR ) lk_L_61 X hl.1 (hP.sub [0, 1, 2, 3, 4, 5, 6] rfl) (hK.sub [0] rfl) rfl rfl rfl hP hS ⟨Nat.le_of_ble_eq_true rfl, Nat.le_of_ble_eq_true rfl⟩ ⟨Nat.le_of_ble_eq_true rfl, Nat.le_of_ble_eq_true rfl⟩ (Nat.le_of_ble_eq_true rfl) dL_law_408 rfl (fun r1 H locs hp1 hP hS => ?_)
  refine lv_aload_n hx hb dL_law_411 rfl (lv_at hl 2 rfl) ?_
  refine am_callV (wc := am_M bd dN P O) (mt_X1_longestFree l D bd dN P O hB ) lk_L_64 X hl.1 (hP.sub [7, 8, 9] rfl) (hK.sub [1] rfl) rfl rfl rfl hP hS ⟨Nat.le_of_ble_eq_true rfl, Nat.le_of_ble_eq_true rfl⟩ ⟨Nat.le_of_ble_eq_true rfl, Nat.le_of_ble_eq_true rfl⟩ (Nat.le_of_ble_eq_true rfl) dL_law_412 rfl (fun r2 H locs hp2 hP hS => ?_)
  refine lv_icmp_eq (tgt := 496) hx hb dL_law_415 (by decide) (fun c1 => ?_) (fun c1 => ?_)
  · exact kk _ _ _ ⟨n, F, T, K, mk, NF, NT, NK, P, O, hR, hP, hD, hS, hl⟩
  · exact absurd (hp1.trans hp2.symm) c1
set_option maxHeartbeats 4000000 in
set_option maxRecDepth 100000 in
theorem lc_allows {p : Program} {l : Launch} {e : Env} {s : State} {m : MethodId} {below : List Frame} {meth : Method} {c : Code} {b L : Nat} {xs : Nat → Int32} {D : va_G} {ad bd : Nat → Nat} {dB dN : ClassId} {i : Nat} (X0 : lc_Fx p s m meth c b L xs D dB dN i) (kk : ∀ (H : Heap) (locs : List Loc) (ls : Array Slot), lc_Ok D ad bd dB dN s b i H locs ls → W p l e room_1 s m #[Value.ref b] below meth c H locs 10 342 (lw_Z below #[Value.ref b] s) (F0 m 496 ls [])) {H : Heap} {locs : List Loc} {ls : Array Slot} (h : lc_Ok D ad bd dB dN s b i H locs ls) : W p l e room_1 s m #[Value.ref b] below meth c H locs 10 342 (lw_Z below #[Value.ref b] s) (F0 m 420 ls []) := by
  obtain ⟨X, hX, hbl, hK, hiL, hL⟩ := X0
  obtain ⟨n, F, T, K, mk, NF, NT, NK, P, O, hR, hP, hD, hS, hl⟩ := h
  have hx := X.1
  have hb := X.2.1
  have hA : ∀ q : Nat, s.heap.size ≤ q → (fun q => s.heap.size ≤ q) q := fun q h => h
  have hB : ∀ j, j < 64 → P j ≤ 128 := fun j hj => hR.2.le hj
  refine lv_aload_n hx hb dL_law_420 rfl (lv_at hl 1 rfl) ?_
  refine lv_aload_n hx hb dL_law_421 rfl (lv_at hl 0 rfl) ?_
  refine lv_iload_n hx hb dL_law_422 rfl (lv_at hl 3 rfl) ?_
  refine lv_iconst (v := nI 1) hx hb dL_law_423 (by decide +kernel) ?_
  refine am_iadd hx hb dL_law_424 ?_
  refine lc_sld hx hb hX hbl hS (by omega) hL dL_law_425 ?_
  refine lv_aload_n hx hb dL_law_426 rfl (lv_at hl 0 rfl) ?_
  refine lv_iload_n hx hb dL_law_427 rfl (lv_at hl 3 rfl) ?_
  refine lv_iconst (v := nI 2) hx hb dL_law_428 (by decide +kernel) ?_
  refine am_iadd hx hb dL_law_429 ?_
  refine lc_sld hx hb hX hbl hS (by omega) hL dL_law_430 ?_
  refine lv_aload_n hx hb dL_law_431 rfl (lv_at hl 0 rfl) ?_
  refine lv_iload_n hx hb dL_law_432 rfl (lv_at hl 3 rfl) ?_
  refine lv_iconst (v := nI 3) hx hb dL_law_433 (by decide +kernel) ?_
  refine am_iadd hx hb dL_law_434 ?_
  refine lc_sld hx hb hX hbl hS (by omega) hL dL_law_435 ?_
  refine am_callV (wc := am_X ad dB n F T K mk NF NT NK) (mt_X0_allows l D ad dB n F T K mk NF NT NK hR (xs (i + 1)) (xs (i + 2)) (xs (i + 3))) lk_L_65 X hl.1 (hP.sub [0, 1, 2, 3, 4, 5, 6] rfl) (hK.sub [0] rfl) rfl rfl rfl hP hS ⟨Nat.le_of_ble_eq_true rfl, Nat.le_of_ble_eq_true rfl⟩ ⟨Nat.le_of_ble_eq_true rfl, Nat.le_of_ble_eq_true rfl⟩ (Nat.le_of_ble_eq_true rfl) dL_law_436 rfl (fun r1 H locs hp1 hP hS => ?_)
  refine lv_aload_n hx hb dL_law_439 rfl (lv_at hl 2 rfl) ?_
  refine lv_aload_n hx hb dL_law_440 rfl (lv_at hl 0 rfl) ?_
  refine lv_iload_n hx hb dL_law_441 rfl (lv_at hl 3 rfl) ?_
  refine lv_iconst (v := nI 1) hx hb dL_law_442 (by decide +kernel) ?_
  refine am_iadd hx hb dL_law_443 ?_
  refine lc_sld hx hb hX hbl hS (by omega) hL dL_law_444 ?_
  refine lv_aload_n hx hb dL_law_445 rfl (lv_at hl 0 rfl) ?_
  refine lv_iload_n hx hb dL_law_446 rfl (lv_at hl 3 rfl) ?_
  refine lv_iconst (v := nI 2) hx hb dL_law_447 (by decide +kernel) ?_
  refine am_iadd hx hb dL_law_448 ?_
  refine lc_sld hx hb hX hbl hS (by omega) hL dL_law_449 ?_
  refine lv_aload_n hx hb dL_law_450 rfl (lv_at hl 0 rfl) ?_
  refine lv_iload_n hx hb dL_law_451 rfl (lv_at hl 3 rfl) ?_
  refine lv_iconst (v := nI 3) hx hb dL_law_452 (by decide +kernel) ?_
  refine am_iadd hx hb dL_law_453 ?_
  refine lc_sld hx hb hX hbl hS (by omega) hL dL_law_454 ?_
  refine am_callV (wc := am_M bd dN P O) (mt_X1_allows l D bd dN P O hB (xs (i + 1)) (xs (i + 2)) (xs (i + 3))) lk_L_69 X hl.1 (hP.sub [7, 8, 9] rfl) (hK.sub [1] rfl) rfl rfl rfl hP hS ⟨Nat.le_of_ble_eq_true rfl, Nat.le_of_ble_eq_true rfl⟩ ⟨Nat.le_of_ble_eq_true rfl, Nat.le_of_ble_eq_true rfl⟩ (Nat.le_of_ble_eq_true rfl) dL_law_455 rfl (fun r2 H locs hp2 hP hS => ?_)
  refine lv_icmp_eq (tgt := 496) hx hb dL_law_458 (by decide) (fun c1 => ?_) (fun c1 => ?_)
  · exact kk _ _ _ ⟨n, F, T, K, mk, NF, NT, NK, P, O, hR, hP, hD, hS, hl⟩
  · exact absurd (hp1.trans hp2.symm) c1
set_option maxHeartbeats 4000000 in
set_option maxRecDepth 100000 in
theorem lc_nextWith {p : Program} {l : Launch} {e : Env} {s : State} {m : MethodId} {below : List Frame} {meth : Method} {c : Code} {b L : Nat} {xs : Nat → Int32} {D : va_G} {ad bd : Nat → Nat} {dB dN : ClassId} {i : Nat} (X0 : lc_Fx p s m meth c b L xs D dB dN i) (kk : ∀ (H : Heap) (locs : List Loc) (ls : Array Slot), lc_Ok D ad bd dB dN s b i H locs ls → W p l e room_1 s m #[Value.ref b] below meth c H locs 10 342 (lw_Z below #[Value.ref b] s) (F0 m 496 ls [])) {H : Heap} {locs : List Loc} {ls : Array Slot} (h : lc_Ok D ad bd dB dN s b i H locs ls) : W p l e room_1 s m #[Value.ref b] below meth c H locs 10 342 (lw_Z below #[Value.ref b] s) (F0 m 463 ls []) := by
  obtain ⟨X, hX, hbl, hK, hiL, hL⟩ := X0
  obtain ⟨n, F, T, K, mk, NF, NT, NK, P, O, hR, hP, hD, hS, hl⟩ := h
  have hx := X.1
  have hb := X.2.1
  have hA : ∀ q : Nat, s.heap.size ≤ q → (fun q => s.heap.size ≤ q) q := fun q h => h
  have hB : ∀ j, j < 64 → P j ≤ 128 := fun j hj => hR.2.le hj
  refine lv_aload_n hx hb dL_law_463 rfl (lv_at hl 1 rfl) ?_
  refine lv_aload_n hx hb dL_law_464 rfl (lv_at hl 0 rfl) ?_
  refine lv_iload_n hx hb dL_law_465 rfl (lv_at hl 3 rfl) ?_
  refine lv_iconst (v := nI 1) hx hb dL_law_466 (by decide +kernel) ?_
  refine am_iadd hx hb dL_law_467 ?_
  refine lc_sld hx hb hX hbl hS (by omega) hL dL_law_468 ?_
  refine lv_aload_n hx hb dL_law_469 rfl (lv_at hl 0 rfl) ?_
  refine lv_iload_n hx hb dL_law_470 rfl (lv_at hl 3 rfl) ?_
  refine lv_iconst (v := nI 2) hx hb dL_law_471 (by decide +kernel) ?_
  refine am_iadd hx hb dL_law_472 ?_
  refine lc_sld hx hb hX hbl hS (by omega) hL dL_law_473 ?_
  refine am_callV (wc := am_X ad dB n F T K mk NF NT NK) (mt_X0_nextWith l D ad dB n F T K mk NF NT NK hR (xs (i + 1)) (xs (i + 2))) lk_L_70 X hl.1 (hP.sub [0, 1, 2, 3, 4, 5, 6] rfl) (hK.sub [0] rfl) rfl rfl rfl hP hS ⟨Nat.le_of_ble_eq_true rfl, Nat.le_of_ble_eq_true rfl⟩ ⟨Nat.le_of_ble_eq_true rfl, Nat.le_of_ble_eq_true rfl⟩ (Nat.le_of_ble_eq_true rfl) dL_law_474 rfl (fun r1 H locs hp1 hP hS => ?_)
  refine lv_aload_n hx hb dL_law_477 rfl (lv_at hl 2 rfl) ?_
  refine lv_aload_n hx hb dL_law_478 rfl (lv_at hl 0 rfl) ?_
  refine lv_iload_n hx hb dL_law_479 rfl (lv_at hl 3 rfl) ?_
  refine lv_iconst (v := nI 1) hx hb dL_law_480 (by decide +kernel) ?_
  refine am_iadd hx hb dL_law_481 ?_
  refine lc_sld hx hb hX hbl hS (by omega) hL dL_law_482 ?_
  refine lv_aload_n hx hb dL_law_483 rfl (lv_at hl 0 rfl) ?_
  refine lv_iload_n hx hb dL_law_484 rfl (lv_at hl 3 rfl) ?_
  refine lv_iconst (v := nI 2) hx hb dL_law_485 (by decide +kernel) ?_
  refine am_iadd hx hb dL_law_486 ?_
  refine lc_sld hx hb hX hbl hS (by omega) hL dL_law_487 ?_
  refine am_callV (wc := am_M bd dN P O) (mt_X1_nextWith l D bd dN P O hB (xs (i + 1)) (xs (i + 2))) lk_L_73 X hl.1 (hP.sub [7, 8, 9] rfl) (hK.sub [1] rfl) rfl rfl rfl hP hS ⟨Nat.le_of_ble_eq_true rfl, Nat.le_of_ble_eq_true rfl⟩ ⟨Nat.le_of_ble_eq_true rfl, Nat.le_of_ble_eq_true rfl⟩ (Nat.le_of_ble_eq_true rfl) dL_law_488 rfl (fun r2 H locs hp2 hP hS => ?_)
  refine lv_icmp_eq (tgt := 496) hx hb dL_law_491 (by decide) (fun c1 => ?_) (fun c1 => ?_)
  · exact kk _ _ _ ⟨n, F, T, K, mk, NF, NT, NK, P, O, hR, hP, hD, hS, hl⟩
  · exact absurd (hp1.trans hp2.symm) c1
end
section
/-! the law's loop, and its start -/
set_option maxRecDepth 100000
theorem lc_classes {s0 : State} {b0 : Addr} (ht0 : ∀ w ∈ lw_tbl, w.before #[Value.ref b0] s0 = true) : ∃ D : va_G, va_K D am_cl [] s0 := by
  obtain ⟨c0_, iS0, hKn0⟩ := u_known (C := RX0) (T := TX0) (N := 8) (n := 8) ht0 (fun w h => lw_all_tbl (in_X0 w h)) (ht0 _ (lw_all_tbl q19))
  obtain ⟨c1_, iS1, hKn1⟩ := u_known (C := RX1) (T := TX1) (N := 2) (n := 2) ht0 (fun w h => lw_all_tbl (in_X1 w h)) (ht0 _ (lw_all_tbl q152))
  refine ⟨(fun k => if k = 0 then c0_ else c1_, fun k => if k = 0 then iS0 else iS1), ?_, fun k q h => by cases h⟩
  intro k q hq
  match k, hq with
  | 0, hq => cases hq; exact hKn0
  | 1, hq => cases hq; exact hKn1
  | k + 2, hq => simp [am_cl] at hq
set_option maxHeartbeats 4000000 in
set_option maxRecDepth 100000 in
theorem lc_loop {p : Program} {l : Launch} {e : Env} {s : State} {m : MethodId} {below : List Frame} {meth : Method} {c : Code} {b L : Nat} {xs : Nat → Int32} {D : va_G} {ad bd : Nat → Nat} {dB dN : ClassId} (X : am_Fx p s m meth c #[Value.ref b] cL_law 4 ret R_law) (hX : va_X b L xs s s.heap) (hbl : b < s.heap.size) (hK : va_K D am_cl [(dB, .byte), (dN, .int)] s) (hL : L ≤ 256) : ∀ (N i : Nat), i ≤ 256 → 260 < i + N → ∀ (H : Heap) (locs : List Loc) (ls : Array Slot), lc_Ok D ad bd dB dN s b i H locs ls → W p l e room_1 s m #[Value.ref b] below meth c H locs 10 342 (lw_Z below #[Value.ref b] s) (F0 m 18 ls []) := by
  intro N
  induction N with
  | zero =>
    intro i h1 h2
    exfalso
    omega
  | succ N ih =>
    intro i hi hN H locs ls h
    have hx := X.1
    have hb := X.2.1
    have h0 := h
    obtain ⟨n, F, T, K, mk, NF, NT, NK, P, O, hR, hP, hD, hS, hl⟩ := h0
    refine lv_iload_n hx hb dL_law_18 rfl (lv_at hl 3 rfl) ?_
    refine lv_aload_n hx hb dL_law_19 rfl (lv_at hl 0 rfl) ?_
    refine va_slen hx hb hX hbl (A := fun q => s.heap.size ≤ q) (Nat.not_le.mpr hbl) hS dL_law_20 ?_
    refine lv_iconst (v := nI 4) hx hb dL_law_21 (by decide +kernel) ?_
    refine lv_isub hx hb dL_law_22 ?_
    refine lv_icmp_gt (tgt := 502) hx hb dL_law_23 (by decide) (fun c1 => ?_) (fun c1 => ?_)
    · refine lv_iconst (v := 1) hx hb dL_law_502 (by decide +kernel) ?_
      refine va_forget (fun q hq => hS.2.2 q hq) ?_
      refine W.widen (k := 600000) (n := 7290000) (by decide) (by decide) ?_
      exact lw_ret hx hb X.2.2.1 X.2.2.2.1 dL_law_503
    · have c1 := mt (am_sl (x := L) (y := 4) (z := i) (by omega) (by omega) (by omega)).mpr c1
      have X0 : lc_Fx p s m meth c b L xs D dB dN i := ⟨X, hX, hbl, hK, by omega, hL⟩
      have kk : ∀ (H : Heap) (locs : List Loc) (ls : Array Slot), lc_Ok D ad bd dB dN s b i H locs ls → W p l e room_1 s m #[Value.ref b] below meth c H locs 10 342 (lw_Z below #[Value.ref b] s) (F0 m 496 ls []) := by
        intro H locs ls h
        obtain ⟨n, F, T, K, mk, NF, NT, NK, P, O, hR, hP, hD, hS, hl⟩ := h
        refine lv_iinc (v := nI (i + 4)) (lv' := [(3, .int (nI (i + 4))), (0, .ref b), (1, .ref (ad 0)), (2, .ref (bd 0))]) hx hb dL_law_496 hl (k := 3) rfl (nI_add i 4) (by decide) rfl (fun ls hl => ?_)
        refine lv_goto (tgt := 18) hx hb dL_law_499 (by decide) ?_
        exact ih (i + 4) (by omega) (by omega) H locs ls ⟨n, F, T, K, mk, NF, NT, NK, P, O, hR, hP, hD, hS, lv_sub hl [1, 2, 3, 0] rfl⟩
      refine lv_aload_n hx hb dL_law_26 rfl (lv_at hl 0 rfl) ?_
      refine lv_iload_n hx hb dL_law_27 rfl (lv_at hl 3 rfl) ?_
      refine lc_sld hx hb hX hbl hS (by omega) hL dL_law_28 ?_
      refine lv_bipush (v := 15) hx hb dL_law_29 (by decide +kernel) ?_
      refine lv_iand hx hb dL_law_31 ?_
      obtain ⟨j, hj, ej⟩ := pk_andE (xs i) (m := 15) 4 (by decide +kernel)
      rw [ej]
      match j, hj with
      | 0, _ =>
        refine lv_tableIn (off := 72) (tgt := 104) hx hb dL_law_32 (by decide +kernel) (by decide +kernel) (by decide +kernel) (by decide) ?_
        exact lc_map X0 kk h
      | 1, _ =>
        refine lv_tableIn (off := 115) (tgt := 147) hx hb dL_law_32 (by decide +kernel) (by decide +kernel) (by decide +kernel) (by decide) ?_
        exact lc_place X0 kk h
      | 2, _ =>
        refine lv_tableIn (off := 158) (tgt := 190) hx hb dL_law_32 (by decide +kernel) (by decide +kernel) (by decide +kernel) (by decide) ?_
        exact lc_free X0 kk h
      | 3, _ =>
        refine lv_tableIn (off := 191) (tgt := 223) hx hb dL_law_32 (by decide +kernel) (by decide +kernel) (by decide +kernel) (by decide) ?_
        exact lc_protect X0 kk h
      | 4, _ =>
        refine lv_tableIn (off := 234) (tgt := 266) hx hb dL_law_32 (by decide +kernel) (by decide +kernel) (by decide +kernel) (by decide) ?_
        exact lc_rights X0 kk h
      | 5, _ =>
        refine lv_tableIn (off := 257) (tgt := 289) hx hb dL_law_32 (by decide +kernel) (by decide +kernel) (by decide +kernel) (by decide) ?_
        exact lc_tag X0 kk h
      | 6, _ =>
        refine lv_tableIn (off := 280) (tgt := 312) hx hb dL_law_32 (by decide +kernel) (by decide +kernel) (by decide +kernel) (by decide) ?_
        exact lc_areas X0 kk h
      | 7, _ =>
        refine lv_tableIn (off := 293) (tgt := 325) hx hb dL_law_32 (by decide +kernel) (by decide +kernel) (by decide +kernel) (by decide) ?_
        exact lc_areaFirst X0 kk h
      | 8, _ =>
        refine lv_tableIn (off := 316) (tgt := 348) hx hb dL_law_32 (by decide +kernel) (by decide +kernel) (by decide +kernel) (by decide) ?_
        exact lc_areaLength X0 kk h
      | 9, _ =>
        refine lv_tableIn (off := 339) (tgt := 371) hx hb dL_law_32 (by decide +kernel) (by decide +kernel) (by decide +kernel) (by decide) ?_
        exact lc_areaOf X0 kk h
      | 10, _ =>
        refine lv_tableIn (off := 362) (tgt := 394) hx hb dL_law_32 (by decide +kernel) (by decide +kernel) (by decide +kernel) (by decide) ?_
        exact lc_mapped X0 kk h
      | 11, _ =>
        refine lv_tableIn (off := 375) (tgt := 407) hx hb dL_law_32 (by decide +kernel) (by decide +kernel) (by decide +kernel) (by decide) ?_
        exact lc_longestFree X0 kk h
      | 12, _ =>
        refine lv_tableIn (off := 388) (tgt := 420) hx hb dL_law_32 (by decide +kernel) (by decide +kernel) (by decide +kernel) (by decide) ?_
        exact lc_allows X0 kk h
      | 13, _ =>
        refine lv_tableIn (off := 431) (tgt := 463) hx hb dL_law_32 (by decide +kernel) (by decide +kernel) (by decide +kernel) (by decide) ?_
        exact lc_nextWith X0 kk h
      | 14, _ =>
        refine lv_tableOut (tgt := 496) hx hb dL_law_32 (by decide +kernel) (by decide) ?_
        exact kk _ _ _ h
      | 15, _ =>
        refine lv_tableOut (tgt := 496) hx hb dL_law_32 (by decide +kernel) (by decide) ?_
        exact kk _ _ _ h
      | j + 16, hj => exact absurd hj (by omega)
set_option maxHeartbeats 4000000 in
set_option maxRecDepth 100000 in
/-- from the entry, for every script of at most 256 ints, the law comes to its end with true -/
theorem whole_start {p : Program} {e : Env} {s : State} {m : MethodId} {below : List Frame} {meth : Method} {c : Code} (l : Launch) {b L : Nat} {xs : Nat → Int32} (hL : L ≤ 256) (C0 : lw_At p s m meth c b L xs) : W p l e room_1 s m #[Value.ref b] below meth c s.heap [] 0 0 (lw_Z below #[Value.ref b] s) (entryFrame m ([Value.ref b] : List Value).toArray 4) := by
  obtain ⟨hx, hb, hr, hml, hown, hts0, hX, hbl, hlk, -⟩ := C0
  obtain ⟨D, hK⟩ := lc_classes hts0
  have hts : ∀ w ∈ lw_all, w.before #[Value.ref b] s = true := fun w h => hts0 w (lw_all_tbl h)
  have X : am_Fx p s m meth c #[Value.ref b] cL_law 4 ret R_law := ⟨hx, hb, hr, hlk, hml, hown, hts⟩
  have hA : ∀ q : Nat, s.heap.size ≤ q → (fun q => s.heap.size ≤ q) q := fun q h => h
  have hP : va_P D am_cl [] s.heap := fun k q h => by cases h
  have hD : va_D (fun q => s.heap.size ≤ q) [] := ⟨fun i j p q h => (by cases h), fun k q h => (by cases h)⟩
  have hS : va_S (fun q => s.heap.size ≤ q) s.heap s.heap [] := va_S.rf
  have hl := lv_entry ([.ref b]) (n := 4) (Nat.le_of_ble_eq_true rfl)
  rw [lg_entry_eq]
  generalize (lg_sl ([.ref b]) ++ List.replicate (4 - (lg_sl ([.ref b])).length) Slot.unset).toArray = ls at hl ⊢
  have hl : lv_has ls 4 [(0, .ref b)] := hl
  refine va_new (ci := 0) (fs := [.int (nI 0), .null, .null, .null, .int (nI 0), .null, .null, .null]) (C := RX0) (T := TX0) (N := 8) hx hb hts in_X0 tyX0 tyX0_ok hown (hts _ q18) (hts _ q19) (hts _ q16) hK hP hD hS hA rfl (fun j hj => by match j, hj with | 0, _ => rfl | 1, _ => rfl | 2, _ => rfl | 3, _ => rfl | 4, _ => rfl | 5, _ => rfl | 6, _ => rfl | 7, _ => rfl | j + 8, hj => exact absurd hj (by omega)) (by decide) (by decide) dL_law_0 (fun qx H hP hD hS => ?_)
  have hP : va_P D am_cl (am_X0w qx) H := hP
  have hD : va_D (fun q => s.heap.size ≤ q) (am_X0w qx) := hD
  refine W.widen (k := 1) (n := 8) (by decide) (by decide) ?_
  refine lv_dup hx hb dL_law_3 rfl ?_
  have hDc := hD.sub (ws' := am_X0w qx) [0] (by decide) rfl
  have hFc := va_free (wc := am_X0w qx) hD hS hA [0] rfl
  refine va_callv (va_runI (As := []) (rest := [.ref qx]) ⟨hx, hb, hml, hown, hts⟩ (mt_X0_init l D qx H.size) (cwI 0 hts (lw_meth q22) rfl rfl rfl (hts _ q16) (hts _ q20) (hts _ q21) rfl (by decide +kernel) ⟨Nat.le_of_ble_eq_true rfl, Nat.le_of_ble_eq_true rfl⟩) ⟨fun a U g mk q => by obtain ⟨q0, q1, qP, qK, qD⟩ := q; exact ⟨q0, q1, qP, va_K.moved (u := U) (U := U.calling g mk a) (Vm.Alike.refl U.vm) qK, qD⟩, fun U hU hW => ⟨rfl, by rw [hU], by rw [hU]; exact hP, va_K.moved hW.alike hK, hDc.weaken (fun _ _ _ _ => trivial)⟩⟩ rfl rfl hl.1 rfl (lv_room (Nat.le_of_ble_eq_true rfl)) dL_law_4 ⟨Nat.le_of_ble_eq_true rfl, Nat.le_of_ble_eq_true rfl⟩) hS (fun q _ h => hFc q h) hFc (fun u t H1 locs ht hvm hw1 hB hz1 hk1 hS => ?_)
  obtain ⟨ad, dB⟩ := u
  have hw1 : ad 0 = qx := hw1
  subst hw1
  obtain ⟨hP1, hK1, hD1⟩ := hB
  rw [ht] at hP1
  have hK1 := va_K.moved hvm.symm hK1
  obtain ⟨hP, hD⟩ := va_join (wr := []) hP hD [0] [] rfl rfl (by decide) (by decide) hk1 hFc hP1 hD1
  generalize H1 = H at hP hS ⊢
  have hP : va_P D am_cl (am_X ad dB 0 (fun _ => 0) (fun _ => 0) (fun _ => 0) 0 (fun _ => 0) (fun _ => 0) (fun _ => 0)) H := hP
  have hD : va_D (fun q => s.heap.size ≤ q) (am_X ad dB 0 (fun _ => 0) (fun _ => 0) (fun _ => 0) 0 (fun _ => 0) (fun _ => 0) (fun _ => 0)) := hD
  have hK : va_K D am_cl [(dB, .byte)] s := hK1
  refine W.widen (k := 7) (n := 212) (by decide) (by decide) ?_
  refine lv_astore_n (lv' := [(1, .ref (ad 0)), (0, .ref b)]) hx hb dL_law_7 rfl hl (by decide) rfl (fun ls hl => ?_)
  refine va_new (ci := 1) (fs := [.null, .null]) (C := RX1) (T := TX1) (N := 2) hx hb hts in_X1 tyX1 tyX1_ok hown (hts _ q151) (hts _ q152) (hts _ q17) hK hP hD hS hA rfl (fun j hj => by match j, hj with | 0, _ => rfl | 1, _ => rfl | j + 2, hj => exact absurd hj (by omega)) (by decide) (by decide) dL_law_8 (fun qm H hP hD hS => ?_)
  have hP : va_P D am_cl (am_X ad dB 0 (fun _ => 0) (fun _ => 0) (fun _ => 0) 0 (fun _ => 0) (fun _ => 0) (fun _ => 0) ++ am_X1w qm) H := hP
  have hD : va_D (fun q => s.heap.size ≤ q) (am_X ad dB 0 (fun _ => 0) (fun _ => 0) (fun _ => 0) 0 (fun _ => 0) (fun _ => 0) (fun _ => 0) ++ am_X1w qm) := hD
  refine W.widen (k := 8) (n := 214) (by decide) (by decide) ?_
  refine lv_dup hx hb dL_law_11 rfl ?_
  have hPc := hP.sub (ws' := am_X1w qm) [7] rfl
  have hDc := hD.sub (ws' := am_X1w qm) [7] (by decide) rfl
  have hKc := hK.sub (tys' := []) [] rfl
  have hFc := va_free (wc := am_X1w qm) hD hS hA [7] rfl
  refine va_callv (va_runI (As := []) (rest := [.ref qm]) ⟨hx, hb, hml, hown, hts⟩ (mt_X1_init l D qm H.size) (cwI 0 hts (lw_meth q155) rfl rfl rfl (hts _ q17) (hts _ q153) (hts _ q154) rfl (by decide +kernel) ⟨Nat.le_of_ble_eq_true rfl, Nat.le_of_ble_eq_true rfl⟩) ⟨fun a U g mk q => by obtain ⟨q0, q1, qP, qK, qD⟩ := q; exact ⟨q0, q1, qP, va_K.moved (u := U) (U := U.calling g mk a) (Vm.Alike.refl U.vm) qK, qD⟩, fun U hU hW => ⟨rfl, by rw [hU], by rw [hU]; exact hPc, va_K.moved hW.alike hKc, hDc.weaken (fun _ _ _ _ => trivial)⟩⟩ rfl rfl hl.1 rfl (lv_room (Nat.le_of_ble_eq_true rfl)) dL_law_12 ⟨Nat.le_of_ble_eq_true rfl, Nat.le_of_ble_eq_true rfl⟩) hS (fun q _ h => hFc q h) hFc (fun u t H1 locs ht hvm hw1 hB hz1 hk1 hS => ?_)
  obtain ⟨bd, dN⟩ := u
  have hw1 : bd 0 = qm := hw1
  subst hw1
  obtain ⟨hP1, hK1, hD1⟩ := hB
  rw [ht] at hP1
  have hK1 := va_K.moved hvm.symm hK1
  obtain ⟨hP, hD⟩ := va_join (wr := am_X ad dB 0 (fun _ => 0) (fun _ => 0) (fun _ => 0) 0 (fun _ => 0) (fun _ => 0) (fun _ => 0)) hP hD [7] [0, 1, 2, 3, 4, 5, 6] rfl rfl (by decide) (by decide) hk1 hFc hP1 hD1
  generalize H1 = H at hP hS ⊢
  have hK : va_K D am_cl [(dB, .byte), (dN, .int)] s := hK.app hK1
  refine W.widen (k := 10) (n := 342) (by decide) (by decide) ?_
  refine lv_astore_n (lv' := [(2, .ref (bd 0)), (1, .ref (ad 0)), (0, .ref b)]) hx hb dL_law_15 rfl hl (by decide) rfl (fun ls hl => ?_)
  refine lv_iconst (v := nI 0) hx hb dL_law_16 (by decide +kernel) ?_
  refine lv_istore_n (lv' := [(3, .int (nI 0)), (2, .ref (bd 0)), (1, .ref (ad 0)), (0, .ref b)]) hx hb dL_law_17 rfl hl (by decide) rfl (fun ls hl => ?_)
  exact lc_loop X hX hbl hK hL 261 0 (by omega) (by omega) H locs ls ⟨0, (fun _ => 0), (fun _ => 0), (fun _ => 0), 0, (fun _ => 0), (fun _ => 0), (fun _ => 0), (fun _ => 0), (fun _ => 0), ⟨by omega, fun i h => absurd h (Nat.not_lt_zero i), Nat.zero_le _, fun _ _ _ => rfl⟩, hP, hD, hS, lv_sub hl [3, 2, 1, 0] rfl⟩
end
section
set_option maxHeartbeats 4000000 in
theorem lw_walk (l : Launch) (b : Addr) (xs : List Int32) : MetFree l x (headSpec (Jvm.Cond.code x code maxLocals ret :: tables_1) room_1) (lw_P b xs) (fun _ _ _ _ _ => True) lw_Q := by
  refine MetFree.of_bodyS (code := code) (maxLocals := maxLocals) (ret := ret) (by decide) ?_ ?_
  · intro args s m h hn
    obtain ⟨meth, c, h1, h2, h3, h4, h5, h6, -, -⟩ := Cond.code_spec hn (atoms_spec (ws := Jvm.Cond.code x code maxLocals ret :: tables_1) h _ List.mem_cons_self)
    exact ⟨meth, c, h1, h2, h3, h4, h5, h6⟩
  · intro p e s m args below meth c s₁ B hml0 hP _
    obtain ⟨rfl, hx, hbd, hgv⟩ := hP
    obtain ⟨scr, harrAt, hlist, hof, hsmall⟩ := hx
    obtain ⟨hcb, hkn, -, -⟩ := State.arrayAt?_spec harrAt
    have hown : s.vm.findClass R_law = some m.cls := findClass_of_methodNamed B.named
    have hts0 : ∀ c ∈ (Jvm.Cond.code x code maxLocals ret :: tables_1), c.before #[Value.ref b] s = true := atoms_spec (ws := Jvm.Cond.code x code maxLocals ret :: tables_1) B.pre
    have hts : ∀ w ∈ lw_tbl, w.before #[Value.ref b] s = true := k2_hts_sels lw_privs (fun w hw => hts0 w (List.mem_cons_of_mem _ hw)) lw_privs_ok
    have hml : c.maxLocals = 4 := B.maxLocals_eq (hts0 _ List.mem_cons_self)
    have X₀ : Stand p l e room_1 s m #[Value.ref b] below meth c s₁ [] 0 0 := Stand.of_body B
    have hh0 : s₁.heap = s.heap := by rw [B.state]; rfl
    have hsz : scr.slots.size = xs.length := by rw [← Array.length_toList, hlist, List.length_map]
    have hval : ∀ j : Nat, j < xs.length → scr.slots[j]? = some (.int (xs.getD j 0)) := fun j hj => by
      rw [← Array.getElem?_toList, hlist]
      simp [hj]
    have hbl : b < s.heap.size := (Array.getElem?_eq_some_iff.mp hcb).1
    have hX : va_X b xs.length (fun j => xs.getD j 0) s s.heap := ⟨scr, hcb, hof, hkn, hsz, hval⟩
    have K : W p l e room_1 s m #[Value.ref b] below meth c s₁.heap [] 0 0 (lw_Z below #[Value.ref b] s) (entryFrame m ([Value.ref b] : List Value).toArray 4) := by
      rw [hh0]
      exact whole_start l hbd ⟨B.exec, B.bytes, B.returns, hml, hown, hts, hX, hbl, B.notSynchronized, hgv⟩
    obtain ⟨t, a1, o, b1, b2, b3⟩ := K s₁ rfl X₀
    exact ⟨t, o, a1, b1, b2, b3⟩
theorem lw_pre_spec {args : Array Value} {s : State} (h : (Jvm.Cond.and given_1 narrow_1).before args s = true) (hr : rest_1_c.before args s = true) : ∃ (b : Addr) (xs : List Int32), lw_P b xs args s := by
  have hs := flat_of_before _ h
  have hq := flat_of_before _ hr
  have hc : (Cond.count 1).before args s = true := hs _ (by decide +kernel)
  have harr : (Cond.arrayOf (.arg 0) .int).before args s = true := hs _ (by decide +kernel)
  have hle : (Cond.le (.length (.arg 0)) (.int 256)).before args s = true := hs _ (by decide +kernel)
  have hlen : (Cond.isInt (.length (.arg 0))).before args s = true := hq _ (by decide +kernel)
  have hall : (Cond.all (.arg 0) (.isInt (.elem (.arg 0) (.index 0)))).before args s = true := hq _ (by decide +kernel)
  obtain ⟨b, xs, hb, hx⟩ := State.ints_of_pre rfl harr hlen hall
  have hsm : xs.length < 2 ^ 31 := hx.choose_spec.2.2.2
  have hev : (Term.length (.arg 0)).eval args s none [] s = some (.int xs.length.toInt32) := hx.length_eval hb
  have hv := Cond.le_ints hev (show (Term.int 256).eval args s none [] s = some (.int 256) from rfl)
  have hd : xs.length.toInt32 ≤ 256 := by
    simpa [Cond.before, Cond.holds, hv] using hle
  have hN : xs.length ≤ 256 := (Int32.ofNat_le_ofNat hsm (by decide)).mp (show Int32.ofNat xs.length ≤ Int32.ofNat 256 from hd)
  exact ⟨b, xs, Cond.one_arg hc (show args[0]? = some (.ref b) from hb), hx, hN, h⟩
theorem lw_comes (l : Launch) : Comes l x (Jvm.Cond.code x code maxLocals ret :: tables_1) room_1 (fun tb e args s => Calls_1 tb e args s ∧ rest_1 tb e args s ∧ Pre_1 tb e args s)
    (fun _ _ args s o t => lw_Q args s o t) := by
  intro p e ha hc hk s m args below hf hfit hheap happ hpre
  obtain ⟨b, xs, hP⟩ := lw_pre_spec hpre.2.2 hpre.2.1
  obtain ⟨k, o, h1, h2, h3, hQ⟩ := lw_walk l b xs p e ha hc hk s m args below hf ((Spec.applies_iff_loose hf).mp happ).1 hP trivial
  exact ⟨k, o, h1, h2, h3, hQ⟩
theorem lw_frame {s t : State} {o : Outcome} {args : Array Value} (h : Framed s o t [] 600000 7290000) :
    Framed s o t (fieldLocs frame_1_writes args s ++ arrayLocs frame_1_arrays args s ++ staticLocs frame_1_statics s) 600000 7290000 := h
theorem lw_limb (L : Cond) (hL : ∀ (args : Array Value) (s t : State), L.after args s (.returned (some (.int 1))) t = true) :
    ArmFor flags0 classFile x code maxLocals ret World_1 tables_1 room_1 Calls_1 rest_1 Pre_1
      (fun tb e a s o t => postC L tb e a s o t ∧ Framed s o t (fieldLocs frame_1_writes a s ++ arrayLocs frame_1_arrays a s ++ staticLocs frame_1_statics s) 600000 7290000) := by
  intro l _ _ _ p e ha hc hk s m args below hf hfit hheap happ hpre
  obtain ⟨k, o, h1, h2, h3, rfl, hF⟩ := lw_comes l p e ha hc hk s m args below hf hfit hheap happ hpre
  exact ⟨k, _, h1, h2, h3, hL args s _, lw_frame hF⟩
theorem i_vc : Claimed_1_1 ∧ Claimed_1_2 := ⟨lw_limb limb_1_1 (fun args s t => by simp [limb_1_1, Cond.after, Cond.holds, Cond.value]), lw_limb limb_1_2 (fun args s t => Cond.after_iff.mpr (by
  first | (rw [show limb_1_2 = Cond.eq .result (.int 1) from rfl, Cond.eq_ints (x := 1) (y := 1) rfl rfl]; simp; done) | (simp [limb_1_2, Cond.value, Term.eval]; done)))⟩
end
