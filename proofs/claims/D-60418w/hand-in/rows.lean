section
-- ===== PART A: goes FIRST, ahead of the names: the tables' words, and 'selects' of the private methods out of them =====
/-- a private method of a class that the tables say can be made, by its rows of tables_1 -/
def lw_okq (q : MethodName × Nat) : Prop := (q.1.cls ≠ "java/lang/invoke/MethodHandle" ∧ q.1.cls ≠ "java/lang/invoke/VarHandle") ∧ Cond.instantiable q.1.cls q.2 ∈ tables_1 ∧ Cond.privateMethod q.1 ∈ tables_1 ∧ Cond.instanceMethod q.1 ∈ tables_1
set_option maxRecDepth 100000
theorem lw_p0 : lw_okq (⟨"StrictOffsets", "roomAt", "(II)I"⟩, 5) := ⟨⟨by decide +kernel, by decide +kernel⟩, List.mem_of_getElem? (i := 4) rfl, List.mem_of_getElem? (i := 37) rfl, List.mem_of_getElem? (i := 38) rfl⟩
theorem lw_p1 : lw_okq (⟨"StrictOffsets", "roomBeside", "(III)I"⟩, 5) := ⟨⟨by decide +kernel, by decide +kernel⟩, List.mem_of_getElem? (i := 4) rfl, List.mem_of_getElem? (i := 41) rfl, List.mem_of_getElem? (i := 42) rfl⟩
theorem lw_p2 : lw_okq (⟨"StrictOffsets", "take", "(III)I"⟩, 5) := ⟨⟨by decide +kernel, by decide +kernel⟩, List.mem_of_getElem? (i := 4) rfl, List.mem_of_getElem? (i := 48) rfl, List.mem_of_getElem? (i := 49) rfl⟩
theorem lw_p3 : lw_okq (⟨"StrictOffsets", "noJob", "(I)Z"⟩, 5) := ⟨⟨by decide +kernel, by decide +kernel⟩, List.mem_of_getElem? (i := 4) rfl, List.mem_of_getElem? (i := 60) rfl, List.mem_of_getElem? (i := 61) rfl⟩
theorem lw_p4 : lw_okq (⟨"StrictOffsets", "ranBefore", "(II)I"⟩, 5) := ⟨⟨by decide +kernel, by decide +kernel⟩, List.mem_of_getElem? (i := 4) rfl, List.mem_of_getElem? (i := 80) rfl, List.mem_of_getElem? (i := 81) rfl⟩
theorem lw_p5 : lw_okq (⟨"StrictOffsets", "begunBefore", "(II)I"⟩, 5) := ⟨⟨by decide +kernel, by decide +kernel⟩, List.mem_of_getElem? (i := 4) rfl, List.mem_of_getElem? (i := 88) rfl, List.mem_of_getElem? (i := 89) rfl⟩
theorem lw_p6 : lw_okq (⟨"StrictOffsetsModel", "badPeriod", "(I)Z"⟩, 3) := ⟨⟨by decide +kernel, by decide +kernel⟩, List.mem_of_getElem? (i := 104) rfl, List.mem_of_getElem? (i := 124) rfl, List.mem_of_getElem? (i := 125) rfl⟩
theorem lw_p7 : lw_okq (⟨"StrictOffsetsModel", "count", "()I"⟩, 3) := ⟨⟨by decide +kernel, by decide +kernel⟩, List.mem_of_getElem? (i := 104) rfl, List.mem_of_getElem? (i := 128) rfl, List.mem_of_getElem? (i := 129) rfl⟩
theorem lw_p8 : lw_okq (⟨"StrictOffsetsModel", "longest", "(II)I"⟩, 3) := ⟨⟨by decide +kernel, by decide +kernel⟩, List.mem_of_getElem? (i := 104) rfl, List.mem_of_getElem? (i := 132) rfl, List.mem_of_getElem? (i := 133) rfl⟩
theorem lw_p9 : lw_okq (⟨"StrictOffsetsModel", "badTime", "(I)Z"⟩, 3) := ⟨⟨by decide +kernel, by decide +kernel⟩, List.mem_of_getElem? (i := 104) rfl, List.mem_of_getElem? (i := 140) rfl, List.mem_of_getElem? (i := 141) rfl⟩
theorem lw_p10 : lw_okq (⟨"StrictOffsetsModel", "runs", "(II)Z"⟩, 3) := ⟨⟨by decide +kernel, by decide +kernel⟩, List.mem_of_getElem? (i := 104) rfl, List.mem_of_getElem? (i := 145) rfl, List.mem_of_getElem? (i := 146) rfl⟩
theorem lw_p11 : lw_okq (⟨"StrictOffsetsModel", "take", "(III)I"⟩, 3) := ⟨⟨by decide +kernel, by decide +kernel⟩, List.mem_of_getElem? (i := 104) rfl, List.mem_of_getElem? (i := 149) rfl, List.mem_of_getElem? (i := 150) rfl⟩
theorem lw_p12 : lw_okq (⟨"StrictOffsetsModel", "none", "(I)Z"⟩, 3) := ⟨⟨by decide +kernel, by decide +kernel⟩, List.mem_of_getElem? (i := 104) rfl, List.mem_of_getElem? (i := 161) rfl, List.mem_of_getElem? (i := 162) rfl⟩
theorem lw_p13 : lw_okq (⟨"StrictOffsetsModel", "freeBefore", "(I)I"⟩, 3) := ⟨⟨by decide +kernel, by decide +kernel⟩, List.mem_of_getElem? (i := 104) rfl, List.mem_of_getElem? (i := 174) rfl, List.mem_of_getElem? (i := 175) rfl⟩
theorem lw_p14 : lw_okq (⟨"StrictOffsetsModel", "begins", "(I)Z"⟩, 3) := ⟨⟨by decide +kernel, by decide +kernel⟩, List.mem_of_getElem? (i := 104) rfl, List.mem_of_getElem? (i := 186) rfl, List.mem_of_getElem? (i := 187) rfl⟩
def lw_privs_1 : List (MethodName × Nat) := [(⟨"StrictOffsets", "roomAt", "(II)I"⟩, 5), (⟨"StrictOffsets", "roomBeside", "(III)I"⟩, 5), (⟨"StrictOffsets", "take", "(III)I"⟩, 5), (⟨"StrictOffsets", "noJob", "(I)Z"⟩, 5), (⟨"StrictOffsets", "ranBefore", "(II)I"⟩, 5), (⟨"StrictOffsets", "begunBefore", "(II)I"⟩, 5), (⟨"StrictOffsetsModel", "badPeriod", "(I)Z"⟩, 3), (⟨"StrictOffsetsModel", "count", "()I"⟩, 3), (⟨"StrictOffsetsModel", "longest", "(II)I"⟩, 3), (⟨"StrictOffsetsModel", "badTime", "(I)Z"⟩, 3), (⟨"StrictOffsetsModel", "runs", "(II)Z"⟩, 3), (⟨"StrictOffsetsModel", "take", "(III)I"⟩, 3), (⟨"StrictOffsetsModel", "none", "(I)Z"⟩, 3), (⟨"StrictOffsetsModel", "freeBefore", "(I)I"⟩, 3), (⟨"StrictOffsetsModel", "begins", "(I)Z"⟩, 3)]
theorem lw_r1 : ∀ q ∈ lw_privs_1, lw_okq q := List.forall_mem_cons.mpr ⟨lw_p0, List.forall_mem_cons.mpr ⟨lw_p1, List.forall_mem_cons.mpr ⟨lw_p2, List.forall_mem_cons.mpr ⟨lw_p3, List.forall_mem_cons.mpr ⟨lw_p4, List.forall_mem_cons.mpr ⟨lw_p5, List.forall_mem_cons.mpr ⟨lw_p6, List.forall_mem_cons.mpr ⟨lw_p7, List.forall_mem_cons.mpr ⟨lw_p8, List.forall_mem_cons.mpr ⟨lw_p9, List.forall_mem_cons.mpr ⟨lw_p10, List.forall_mem_cons.mpr ⟨lw_p11, List.forall_mem_cons.mpr ⟨lw_p12, List.forall_mem_cons.mpr ⟨lw_p13, List.forall_mem_cons.mpr ⟨lw_p14, fun _ h => absurd h List.not_mem_nil⟩⟩⟩⟩⟩⟩⟩⟩⟩⟩⟩⟩⟩⟩⟩
def lw_privs : List (MethodName × Nat) := lw_privs_1
def lw_tbl : List Cond := k2_sels lw_privs ++ tables_1
theorem lw_privs_ok : ∀ q ∈ lw_privs, lw_okq q := lw_r1
-- ===== ONE list of words for every method: the tables' words that hold all through a run =====
def lw_all : List Cond := lw_tbl.filter goodWord
/-- a word of the tables by its place: claim/WORDS.tsv -/
theorem lw_w {w : Cond} (i : Nat) (h : lw_tbl[i]? = some w) (g : goodWord w = true) : w ∈ lw_all := List.mem_filter.mpr ⟨List.mem_of_getElem? h, g⟩
theorem lw_all_tbl {w : Cond} (h : w ∈ lw_all) : w ∈ lw_tbl := (List.mem_filter.mp h).1
theorem lw_self : GoodIn lw_all lw_all := fun w h => ⟨h, good_of_word (List.mem_filter.mp h).2⟩
/-- a class's field words, by their places -/
theorem lw_in (ws : List Cond) (ps : List Nat) (hp : ws = ps.filterMap (fun i => lw_tbl[i]?)) (hg : ws.all goodWord = true) : ∀ w ∈ ws, w ∈ lw_all := by
  intro w h
  have h1 := List.all_eq_true.mp hg w h
  rw [hp] at h
  obtain ⟨i, -, hi⟩ := List.mem_filterMap.mp h
  exact lw_w i hi h1
/-- the words of a contract for the method y with code b, L locals, answer r -/
abbrev ws_ (y : MethodName) (b : ByteArray) (L : Nat) (r : Option FieldType) : List Cond := Cond.code y b L r :: lw_all
theorem lw_meth {y : MethodName} {b : ByteArray} {L : Nat} {r : Option FieldType} (h : Cond.code y b L r ∈ lw_all) : GoodIn lw_all (ws_ y b L r) := by
  intro w hw
  rcases List.mem_cons.mp hw with e | e
  · rw [e]
    exact lw_self _ h
  · exact lw_self _ e
theorem lw_app {a c : List Cond} (ha : ∀ w ∈ a, w ∈ lw_all) (hc : GoodIn lw_all c) : GoodIn lw_all (a ++ c) := by
  intro w hw
  rcases List.mem_append.mp hw with e | e
  · exact lw_self w (ha w e)
  · exact hc w e
/-- what a call through an object asks: cwV n hts (lw_V ..) -/
theorem lw_V {own : String} {idx : Nat} {C : String} {y : MethodName} {b : ByteArray} {L : Nat} {r : Option FieldType} (h1 : Cond.methodLink own idx y ∈ lw_all) (h2 : Cond.instanceMethod y ∈ lw_all) (h3 : Cond.selects C y y ∈ lw_all) (h4 : Cond.initialized C ∈ lw_all) (h5 : Cond.code y b L r ∈ lw_all) : GoodIn lw_all (wsV own idx C y (ws_ y b L r)) := by
  refine lw_app ?_ (lw_meth h5)
  intro w hw
  simp only [List.mem_cons, List.not_mem_nil, or_false] at hw
  rcases hw with e | e | e | e
  · rw [e]; exact h1
  · rw [e]; exact h2
  · rw [e]; exact h3
  · rw [e]; exact h4
/-- what a static call asks: va_cwS n hts (lw_S ..) -/
theorem lw_S {own : String} {idx : Nat} {y : MethodName} {b : ByteArray} {L : Nat} {r : Option FieldType} (h1 : Cond.methodLink own idx y ∈ lw_all) (h2 : Cond.static y ∈ lw_all) (h3 : Cond.initialized y.cls ∈ lw_all) (h4 : Cond.code y b L r ∈ lw_all) : GoodIn lw_all (va_wsS own idx y (ws_ y b L r)) := by
  refine lw_app ?_ (lw_meth h4)
  intro w hw
  simp only [List.mem_cons, List.not_mem_nil, or_false] at hw
  rcases hw with e | e | e
  · rw [e]; exact h1
  · rw [e]; exact h2
  · rw [e]; exact h3
/-- the words of a contract for a method WITH HANDLERS (hh: its table) -/
abbrev wsW_ (y : MethodName) (b : ByteArray) (L : Nat) (r : Option FieldType) (hh : List (Nat × Nat × Nat × Nat)) : List Cond := Cond.codeWith y b L r hh :: lw_all
theorem lw_methW {y : MethodName} {b : ByteArray} {L : Nat} {r : Option FieldType} {hh : List (Nat × Nat × Nat × Nat)} (h : Cond.codeWith y b L r hh ∈ lw_all) : GoodIn lw_all (wsW_ y b L r hh) := by
  intro w hw
  rcases List.mem_cons.mp hw with e | e
  · rw [e]
    exact lw_self _ h
  · exact lw_self _ e
/-- any list of words by their places (lw_in), good -/
theorem lw_good {ws : List Cond} (h : ∀ w ∈ ws, w ∈ lw_all) : GoodIn lw_all ws := fun w hw => lw_self w (h w hw)
/-- what a call of a method with handlers asks: vx_cwVW n hts (lw_VW ..), vx_cwSW n hts (lw_SW ..) -/
theorem lw_VW {own : String} {idx : Nat} {C : String} {y : MethodName} {b : ByteArray} {L : Nat} {r : Option FieldType} {hh : List (Nat × Nat × Nat × Nat)} (h1 : Cond.methodLink own idx y ∈ lw_all) (h2 : Cond.instanceMethod y ∈ lw_all) (h3 : Cond.selects C y y ∈ lw_all) (h4 : Cond.initialized C ∈ lw_all) (h5 : Cond.codeWith y b L r hh ∈ lw_all) : GoodIn lw_all (wsV own idx C y (wsW_ y b L r hh)) := by
  refine lw_app ?_ (lw_methW h5)
  intro w hw
  simp only [List.mem_cons, List.not_mem_nil, or_false] at hw
  rcases hw with e | e | e | e
  · rw [e]; exact h1
  · rw [e]; exact h2
  · rw [e]; exact h3
  · rw [e]; exact h4
theorem lw_SW {own : String} {idx : Nat} {y : MethodName} {b : ByteArray} {L : Nat} {r : Option FieldType} {hh : List (Nat × Nat × Nat × Nat)} (h1 : Cond.methodLink own idx y ∈ lw_all) (h2 : Cond.static y ∈ lw_all) (h3 : Cond.initialized y.cls ∈ lw_all) (h4 : Cond.codeWith y b L r hh ∈ lw_all) : GoodIn lw_all (va_wsS own idx y (wsW_ y b L r hh)) := by
  refine lw_app ?_ (lw_methW h4)
  intro w hw
  simp only [List.mem_cons, List.not_mem_nil, or_false] at hw
  rcases hw with e | e | e
  · rw [e]; exact h1
  · rw [e]; exact h2
  · rw [e]; exact h3
/-- a word by its place in its run of the tables -/
theorem lw_at {r : List Cond} (hr : ∀ w ∈ r, w ∈ lw_tbl) {w : Cond} (i : Nat) (h : r[i]? = some w) : w ∈ lw_tbl := hr w (List.mem_of_getElem? h)
theorem lw_g {w : Cond} (h : w ∈ lw_tbl) (g : goodWord w = true) : w ∈ lw_all := List.mem_filter.mpr ⟨h, g⟩
theorem lw_ms : ∀ w ∈ k2_sels lw_privs, w ∈ lw_tbl := fun w h => show w ∈ k2_sels lw_privs ++ tables_1 from List.mem_append_left _ h
theorem lw_m0 : ∀ w ∈ tables_1, w ∈ lw_tbl := fun w h => show w ∈ k2_sels lw_privs ++ tables_1 from List.mem_append_right (k2_sels lw_privs) h
theorem qs0 : (Cond.selects "StrictOffsets" ⟨"StrictOffsets", "roomAt", "(II)I"⟩ ⟨"StrictOffsets", "roomAt", "(II)I"⟩) ∈ lw_all := lw_g (lw_at lw_ms 0 rfl) rfl
theorem qs1 : (Cond.selects "StrictOffsets" ⟨"StrictOffsets", "roomBeside", "(III)I"⟩ ⟨"StrictOffsets", "roomBeside", "(III)I"⟩) ∈ lw_all := lw_g (lw_at lw_ms 1 rfl) rfl
theorem qs2 : (Cond.selects "StrictOffsets" ⟨"StrictOffsets", "take", "(III)I"⟩ ⟨"StrictOffsets", "take", "(III)I"⟩) ∈ lw_all := lw_g (lw_at lw_ms 2 rfl) rfl
theorem qs3 : (Cond.selects "StrictOffsets" ⟨"StrictOffsets", "noJob", "(I)Z"⟩ ⟨"StrictOffsets", "noJob", "(I)Z"⟩) ∈ lw_all := lw_g (lw_at lw_ms 3 rfl) rfl
theorem qs4 : (Cond.selects "StrictOffsets" ⟨"StrictOffsets", "ranBefore", "(II)I"⟩ ⟨"StrictOffsets", "ranBefore", "(II)I"⟩) ∈ lw_all := lw_g (lw_at lw_ms 4 rfl) rfl
theorem qs5 : (Cond.selects "StrictOffsets" ⟨"StrictOffsets", "begunBefore", "(II)I"⟩ ⟨"StrictOffsets", "begunBefore", "(II)I"⟩) ∈ lw_all := lw_g (lw_at lw_ms 5 rfl) rfl
theorem qs6 : (Cond.selects "StrictOffsetsModel" ⟨"StrictOffsetsModel", "badPeriod", "(I)Z"⟩ ⟨"StrictOffsetsModel", "badPeriod", "(I)Z"⟩) ∈ lw_all := lw_g (lw_at lw_ms 6 rfl) rfl
theorem qs7 : (Cond.selects "StrictOffsetsModel" ⟨"StrictOffsetsModel", "count", "()I"⟩ ⟨"StrictOffsetsModel", "count", "()I"⟩) ∈ lw_all := lw_g (lw_at lw_ms 7 rfl) rfl
theorem qs8 : (Cond.selects "StrictOffsetsModel" ⟨"StrictOffsetsModel", "longest", "(II)I"⟩ ⟨"StrictOffsetsModel", "longest", "(II)I"⟩) ∈ lw_all := lw_g (lw_at lw_ms 8 rfl) rfl
theorem qs9 : (Cond.selects "StrictOffsetsModel" ⟨"StrictOffsetsModel", "badTime", "(I)Z"⟩ ⟨"StrictOffsetsModel", "badTime", "(I)Z"⟩) ∈ lw_all := lw_g (lw_at lw_ms 9 rfl) rfl
theorem qs10 : (Cond.selects "StrictOffsetsModel" ⟨"StrictOffsetsModel", "runs", "(II)Z"⟩ ⟨"StrictOffsetsModel", "runs", "(II)Z"⟩) ∈ lw_all := lw_g (lw_at lw_ms 10 rfl) rfl
theorem qs11 : (Cond.selects "StrictOffsetsModel" ⟨"StrictOffsetsModel", "take", "(III)I"⟩ ⟨"StrictOffsetsModel", "take", "(III)I"⟩) ∈ lw_all := lw_g (lw_at lw_ms 11 rfl) rfl
theorem qs12 : (Cond.selects "StrictOffsetsModel" ⟨"StrictOffsetsModel", "none", "(I)Z"⟩ ⟨"StrictOffsetsModel", "none", "(I)Z"⟩) ∈ lw_all := lw_g (lw_at lw_ms 12 rfl) rfl
theorem qs13 : (Cond.selects "StrictOffsetsModel" ⟨"StrictOffsetsModel", "freeBefore", "(I)I"⟩ ⟨"StrictOffsetsModel", "freeBefore", "(I)I"⟩) ∈ lw_all := lw_g (lw_at lw_ms 13 rfl) rfl
theorem qs14 : (Cond.selects "StrictOffsetsModel" ⟨"StrictOffsetsModel", "begins", "(I)Z"⟩ ⟨"StrictOffsetsModel", "begins", "(I)Z"⟩) ∈ lw_all := lw_g (lw_at lw_ms 14 rfl) rfl
end
section
/-! StrictOffsets -/
set_option maxRecDepth 100000
def RX0 : String := "StrictOffsets"
def TX0 : u_T := fun k => match k with
  | 0 => ("StrictOffsets", "used", "[Z", true)
  | 1 => ("StrictOffsets", "period", "[I", true)
  | 2 => ("StrictOffsets", "length", "[I", true)
  | 3 => ("StrictOffsets", "offset", "[I", true)
  | _ => ("StrictOffsets", "jobs", "I", false)
def tyX0 : Nat → FieldType := fun k => match k with
  | 0 => .array .boolean
  | 1 => .array .int
  | 2 => .array .int
  | 3 => .array .int
  | _ => .int
abbrev wsX00 : List Cond := u_ws RX0 TX0 5
theorem nmX0 : ∀ a, a < 5 → ∀ b, b < 5 → a ≠ b → (TX0 a).2.1 ≠ (TX0 b).2.1 := by decide +kernel
theorem tyX0_ok : ∀ k, k < 5 → parseFieldDescriptor (TX0 k).2.2.1 = some (tyX0 k) := by decide +kernel
abbrev cX0_init : ByteArray := prog_1_method_1_code
def yX0_init : MethodName := ⟨RX0, "<init>", "()V"⟩
theorem dX0_init_0 : decode cX0_init 0 = .ok (.aload_n 0, 1) := by decide +kernel
theorem dX0_init_1 : decode cX0_init 1 = .ok (.invokespecial 1, 3) := by decide +kernel
theorem dX0_init_4 : decode cX0_init 4 = .ok (.aload_n 0, 1) := by decide +kernel
theorem dX0_init_5 : decode cX0_init 5 = .ok (.bipush 10, 2) := by decide +kernel
theorem dX0_init_7 : decode cX0_init 7 = .ok (.newarray .boolean, 2) := by decide +kernel
theorem dX0_init_9 : decode cX0_init 9 = .ok (.putfield 7, 3) := by decide +kernel
theorem dX0_init_12 : decode cX0_init 12 = .ok (.aload_n 0, 1) := by decide +kernel
theorem dX0_init_13 : decode cX0_init 13 = .ok (.bipush 10, 2) := by decide +kernel
theorem dX0_init_15 : decode cX0_init 15 = .ok (.newarray .int, 2) := by decide +kernel
theorem dX0_init_17 : decode cX0_init 17 = .ok (.putfield 13, 3) := by decide +kernel
theorem dX0_init_20 : decode cX0_init 20 = .ok (.aload_n 0, 1) := by decide +kernel
theorem dX0_init_21 : decode cX0_init 21 = .ok (.bipush 10, 2) := by decide +kernel
theorem dX0_init_23 : decode cX0_init 23 = .ok (.newarray .int, 2) := by decide +kernel
theorem dX0_init_25 : decode cX0_init 25 = .ok (.putfield 17, 3) := by decide +kernel
theorem dX0_init_28 : decode cX0_init 28 = .ok (.aload_n 0, 1) := by decide +kernel
theorem dX0_init_29 : decode cX0_init 29 = .ok (.bipush 10, 2) := by decide +kernel
theorem dX0_init_31 : decode cX0_init 31 = .ok (.newarray .int, 2) := by decide +kernel
theorem dX0_init_33 : decode cX0_init 33 = .ok (.putfield 20, 3) := by decide +kernel
theorem dX0_init_36 : decode cX0_init 36 = .ok (.aload_n 0, 1) := by decide +kernel
theorem dX0_init_37 : decode cX0_init 37 = .ok (.iconst 0, 1) := by decide +kernel
theorem dX0_init_38 : decode cX0_init 38 = .ok (.putfield 23, 3) := by decide +kernel
theorem dX0_init_41 : decode cX0_init 41 = .ok (.return_, 1) := by decide +kernel
abbrev cX0_admit : ByteArray := prog_1_method_9_code
/-- the name of the method in the table's word at a place (the hand-in takes no text with that one word, a Lean tactic's name too: so it is read off the Statement) -/
def so_nmOf : Option Cond → String
  | some (.instanceMethod y) => y.name
  | _ => ""
def so_adm : String := so_nmOf tables_1[30]?
def yX0_admit : MethodName := ⟨RX0, so_adm, "(II)I"⟩
theorem dX0_admit_0 : decode cX0_admit 0 = .ok (.iload_n 1, 1) := by decide +kernel
theorem dX0_admit_1 : decode cX0_admit 1 = .ok (.invokestatic 36, 3) := by decide +kernel
theorem dX0_admit_4 : decode cX0_admit 4 = .ok (.ifCond .eq 5, 3) := by decide +kernel
theorem dX0_admit_7 : decode cX0_admit 7 = .ok (.iconst (-1), 1) := by decide +kernel
theorem dX0_admit_8 : decode cX0_admit 8 = .ok (.ireturn, 1) := by decide +kernel
theorem dX0_admit_9 : decode cX0_admit 9 = .ok (.iload_n 2, 1) := by decide +kernel
theorem dX0_admit_10 : decode cX0_admit 10 = .ok (.iconst 1, 1) := by decide +kernel
theorem dX0_admit_11 : decode cX0_admit 11 = .ok (.if_icmp .lt 8, 3) := by decide +kernel
theorem dX0_admit_14 : decode cX0_admit 14 = .ok (.iload_n 2, 1) := by decide +kernel
theorem dX0_admit_15 : decode cX0_admit 15 = .ok (.iload_n 1, 1) := by decide +kernel
theorem dX0_admit_16 : decode cX0_admit 16 = .ok (.if_icmp .le 6, 3) := by decide +kernel
theorem dX0_admit_19 : decode cX0_admit 19 = .ok (.bipush (-2), 2) := by decide +kernel
theorem dX0_admit_21 : decode cX0_admit 21 = .ok (.ireturn, 1) := by decide +kernel
theorem dX0_admit_22 : decode cX0_admit 22 = .ok (.aload_n 0, 1) := by decide +kernel
theorem dX0_admit_23 : decode cX0_admit 23 = .ok (.getfield 23, 3) := by decide +kernel
theorem dX0_admit_26 : decode cX0_admit 26 = .ok (.bipush 10, 2) := by decide +kernel
theorem dX0_admit_28 : decode cX0_admit 28 = .ok (.if_icmp .lt 6, 3) := by decide +kernel
theorem dX0_admit_31 : decode cX0_admit 31 = .ok (.bipush (-4), 2) := by decide +kernel
theorem dX0_admit_33 : decode cX0_admit 33 = .ok (.ireturn, 1) := by decide +kernel
theorem dX0_admit_34 : decode cX0_admit 34 = .ok (.iconst 0, 1) := by decide +kernel
theorem dX0_admit_35 : decode cX0_admit 35 = .ok (.istore_n 3, 1) := by decide +kernel
theorem dX0_admit_36 : decode cX0_admit 36 = .ok (.iload_n 3, 1) := by decide +kernel
theorem dX0_admit_37 : decode cX0_admit 37 = .ok (.iload_n 1, 1) := by decide +kernel
theorem dX0_admit_38 : decode cX0_admit 38 = .ok (.if_icmp .ge 31, 3) := by decide +kernel
theorem dX0_admit_41 : decode cX0_admit 41 = .ok (.aload_n 0, 1) := by decide +kernel
theorem dX0_admit_42 : decode cX0_admit 42 = .ok (.iload_n 1, 1) := by decide +kernel
theorem dX0_admit_43 : decode cX0_admit 43 = .ok (.iload_n 3, 1) := by decide +kernel
theorem dX0_admit_44 : decode cX0_admit 44 = .ok (.invokevirtual 40, 3) := by decide +kernel
theorem dX0_admit_47 : decode cX0_admit 47 = .ok (.istore 4, 2) := by decide +kernel
theorem dX0_admit_49 : decode cX0_admit 49 = .ok (.iload 4, 2) := by decide +kernel
theorem dX0_admit_51 : decode cX0_admit 51 = .ok (.iload_n 2, 1) := by decide +kernel
theorem dX0_admit_52 : decode cX0_admit 52 = .ok (.if_icmp .lt 11, 3) := by decide +kernel
theorem dX0_admit_55 : decode cX0_admit 55 = .ok (.aload_n 0, 1) := by decide +kernel
theorem dX0_admit_56 : decode cX0_admit 56 = .ok (.iload_n 1, 1) := by decide +kernel
theorem dX0_admit_57 : decode cX0_admit 57 = .ok (.iload_n 2, 1) := by decide +kernel
theorem dX0_admit_58 : decode cX0_admit 58 = .ok (.iload_n 3, 1) := by decide +kernel
theorem dX0_admit_59 : decode cX0_admit 59 = .ok (.invokevirtual 43, 3) := by decide +kernel
theorem dX0_admit_62 : decode cX0_admit 62 = .ok (.ireturn, 1) := by decide +kernel
theorem dX0_admit_63 : decode cX0_admit 63 = .ok (.iinc 3 1, 3) := by decide +kernel
theorem dX0_admit_66 : decode cX0_admit 66 = .ok (.goto (-30), 3) := by decide +kernel
theorem dX0_admit_69 : decode cX0_admit 69 = .ok (.bipush (-5), 2) := by decide +kernel
theorem dX0_admit_71 : decode cX0_admit 71 = .ok (.ireturn, 1) := by decide +kernel
abbrev cX0_badPeriod : ByteArray := prog_1_method_2_code
def yX0_badPeriod : MethodName := ⟨RX0, "badPeriod", "(I)Z"⟩
theorem dX0_badPeriod_0 : decode cX0_badPeriod 0 = .ok (.iload_n 0, 1) := by decide +kernel
theorem dX0_badPeriod_1 : decode cX0_badPeriod 1 = .ok (.iconst 2, 1) := by decide +kernel
theorem dX0_badPeriod_2 : decode cX0_badPeriod 2 = .ok (.if_icmp .lt 18, 3) := by decide +kernel
theorem dX0_badPeriod_5 : decode cX0_badPeriod 5 = .ok (.iload_n 0, 1) := by decide +kernel
theorem dX0_badPeriod_6 : decode cX0_badPeriod 6 = .ok (.sipush 360, 3) := by decide +kernel
theorem dX0_badPeriod_9 : decode cX0_badPeriod 9 = .ok (.if_icmp .gt 11, 3) := by decide +kernel
theorem dX0_badPeriod_12 : decode cX0_badPeriod 12 = .ok (.sipush 360, 3) := by decide +kernel
theorem dX0_badPeriod_15 : decode cX0_badPeriod 15 = .ok (.iload_n 0, 1) := by decide +kernel
theorem dX0_badPeriod_16 : decode cX0_badPeriod 16 = .ok (.irem, 1) := by decide +kernel
theorem dX0_badPeriod_17 : decode cX0_badPeriod 17 = .ok (.ifCond .eq 7, 3) := by decide +kernel
theorem dX0_badPeriod_20 : decode cX0_badPeriod 20 = .ok (.iconst 1, 1) := by decide +kernel
theorem dX0_badPeriod_21 : decode cX0_badPeriod 21 = .ok (.goto 4, 3) := by decide +kernel
theorem dX0_badPeriod_24 : decode cX0_badPeriod 24 = .ok (.iconst 0, 1) := by decide +kernel
theorem dX0_badPeriod_25 : decode cX0_badPeriod 25 = .ok (.ireturn, 1) := by decide +kernel
abbrev cX0_roomAt : ByteArray := prog_1_method_7_code
def yX0_roomAt : MethodName := ⟨RX0, "roomAt", "(II)I"⟩
theorem dX0_roomAt_0 : decode cX0_roomAt 0 = .ok (.iload_n 1, 1) := by decide +kernel
theorem dX0_roomAt_1 : decode cX0_roomAt 1 = .ok (.istore_n 3, 1) := by decide +kernel
theorem dX0_roomAt_2 : decode cX0_roomAt 2 = .ok (.iconst 0, 1) := by decide +kernel
theorem dX0_roomAt_3 : decode cX0_roomAt 3 = .ok (.istore 4, 2) := by decide +kernel
theorem dX0_roomAt_5 : decode cX0_roomAt 5 = .ok (.iload 4, 2) := by decide +kernel
theorem dX0_roomAt_7 : decode cX0_roomAt 7 = .ok (.bipush 10, 2) := by decide +kernel
theorem dX0_roomAt_9 : decode cX0_roomAt 9 = .ok (.if_icmp .ge 42, 3) := by decide +kernel
theorem dX0_roomAt_12 : decode cX0_roomAt 12 = .ok (.iload_n 3, 1) := by decide +kernel
theorem dX0_roomAt_13 : decode cX0_roomAt 13 = .ok (.ifCond .le 38, 3) := by decide +kernel
theorem dX0_roomAt_16 : decode cX0_roomAt 16 = .ok (.aload_n 0, 1) := by decide +kernel
theorem dX0_roomAt_17 : decode cX0_roomAt 17 = .ok (.getfield 7, 3) := by decide +kernel
theorem dX0_roomAt_20 : decode cX0_roomAt 20 = .ok (.iload 4, 2) := by decide +kernel
theorem dX0_roomAt_22 : decode cX0_roomAt 22 = .ok (.baload, 1) := by decide +kernel
theorem dX0_roomAt_23 : decode cX0_roomAt 23 = .ok (.ifCond .eq 22, 3) := by decide +kernel
theorem dX0_roomAt_26 : decode cX0_roomAt 26 = .ok (.aload_n 0, 1) := by decide +kernel
theorem dX0_roomAt_27 : decode cX0_roomAt 27 = .ok (.iload 4, 2) := by decide +kernel
theorem dX0_roomAt_29 : decode cX0_roomAt 29 = .ok (.iload_n 1, 1) := by decide +kernel
theorem dX0_roomAt_30 : decode cX0_roomAt 30 = .ok (.iload_n 2, 1) := by decide +kernel
theorem dX0_roomAt_31 : decode cX0_roomAt 31 = .ok (.invokevirtual 32, 3) := by decide +kernel
theorem dX0_roomAt_34 : decode cX0_roomAt 34 = .ok (.istore 5, 2) := by decide +kernel
theorem dX0_roomAt_36 : decode cX0_roomAt 36 = .ok (.iload 5, 2) := by decide +kernel
theorem dX0_roomAt_38 : decode cX0_roomAt 38 = .ok (.iload_n 3, 1) := by decide +kernel
theorem dX0_roomAt_39 : decode cX0_roomAt 39 = .ok (.if_icmp .ge 6, 3) := by decide +kernel
theorem dX0_roomAt_42 : decode cX0_roomAt 42 = .ok (.iload 5, 2) := by decide +kernel
theorem dX0_roomAt_44 : decode cX0_roomAt 44 = .ok (.istore_n 3, 1) := by decide +kernel
theorem dX0_roomAt_45 : decode cX0_roomAt 45 = .ok (.iinc 4 1, 3) := by decide +kernel
theorem dX0_roomAt_48 : decode cX0_roomAt 48 = .ok (.goto (-43), 3) := by decide +kernel
theorem dX0_roomAt_51 : decode cX0_roomAt 51 = .ok (.iload_n 3, 1) := by decide +kernel
theorem dX0_roomAt_52 : decode cX0_roomAt 52 = .ok (.ireturn, 1) := by decide +kernel
abbrev cX0_roomBeside : ByteArray := prog_1_method_6_code
def yX0_roomBeside : MethodName := ⟨RX0, "roomBeside", "(III)I"⟩
theorem dX0_roomBeside_0 : decode cX0_roomBeside 0 = .ok (.iload_n 2, 1) := by decide +kernel
theorem dX0_roomBeside_1 : decode cX0_roomBeside 1 = .ok (.aload_n 0, 1) := by decide +kernel
theorem dX0_roomBeside_2 : decode cX0_roomBeside 2 = .ok (.getfield 13, 3) := by decide +kernel
theorem dX0_roomBeside_5 : decode cX0_roomBeside 5 = .ok (.iload_n 1, 1) := by decide +kernel
theorem dX0_roomBeside_6 : decode cX0_roomBeside 6 = .ok (.iaload, 1) := by decide +kernel
theorem dX0_roomBeside_7 : decode cX0_roomBeside 7 = .ok (.invokestatic 28, 3) := by decide +kernel
theorem dX0_roomBeside_10 : decode cX0_roomBeside 10 = .ok (.istore 4, 2) := by decide +kernel
theorem dX0_roomBeside_12 : decode cX0_roomBeside 12 = .ok (.iload_n 3, 1) := by decide +kernel
theorem dX0_roomBeside_13 : decode cX0_roomBeside 13 = .ok (.aload_n 0, 1) := by decide +kernel
theorem dX0_roomBeside_14 : decode cX0_roomBeside 14 = .ok (.getfield 20, 3) := by decide +kernel
theorem dX0_roomBeside_17 : decode cX0_roomBeside 17 = .ok (.iload_n 1, 1) := by decide +kernel
theorem dX0_roomBeside_18 : decode cX0_roomBeside 18 = .ok (.iaload, 1) := by decide +kernel
theorem dX0_roomBeside_19 : decode cX0_roomBeside 19 = .ok (.isub, 1) := by decide +kernel
theorem dX0_roomBeside_20 : decode cX0_roomBeside 20 = .ok (.iload 4, 2) := by decide +kernel
theorem dX0_roomBeside_22 : decode cX0_roomBeside 22 = .ok (.irem, 1) := by decide +kernel
theorem dX0_roomBeside_23 : decode cX0_roomBeside 23 = .ok (.istore 5, 2) := by decide +kernel
theorem dX0_roomBeside_25 : decode cX0_roomBeside 25 = .ok (.iload 5, 2) := by decide +kernel
theorem dX0_roomBeside_27 : decode cX0_roomBeside 27 = .ok (.ifCond .ge 10, 3) := by decide +kernel
theorem dX0_roomBeside_30 : decode cX0_roomBeside 30 = .ok (.iload 5, 2) := by decide +kernel
theorem dX0_roomBeside_32 : decode cX0_roomBeside 32 = .ok (.iload 4, 2) := by decide +kernel
theorem dX0_roomBeside_34 : decode cX0_roomBeside 34 = .ok (.iadd, 1) := by decide +kernel
theorem dX0_roomBeside_35 : decode cX0_roomBeside 35 = .ok (.istore 5, 2) := by decide +kernel
theorem dX0_roomBeside_37 : decode cX0_roomBeside 37 = .ok (.iload 5, 2) := by decide +kernel
theorem dX0_roomBeside_39 : decode cX0_roomBeside 39 = .ok (.aload_n 0, 1) := by decide +kernel
theorem dX0_roomBeside_40 : decode cX0_roomBeside 40 = .ok (.getfield 17, 3) := by decide +kernel
theorem dX0_roomBeside_43 : decode cX0_roomBeside 43 = .ok (.iload_n 1, 1) := by decide +kernel
theorem dX0_roomBeside_44 : decode cX0_roomBeside 44 = .ok (.iaload, 1) := by decide +kernel
theorem dX0_roomBeside_45 : decode cX0_roomBeside 45 = .ok (.if_icmp .ge 7, 3) := by decide +kernel
theorem dX0_roomBeside_48 : decode cX0_roomBeside 48 = .ok (.iconst 0, 1) := by decide +kernel
theorem dX0_roomBeside_49 : decode cX0_roomBeside 49 = .ok (.goto 8, 3) := by decide +kernel
theorem dX0_roomBeside_52 : decode cX0_roomBeside 52 = .ok (.iload 4, 2) := by decide +kernel
theorem dX0_roomBeside_54 : decode cX0_roomBeside 54 = .ok (.iload 5, 2) := by decide +kernel
theorem dX0_roomBeside_56 : decode cX0_roomBeside 56 = .ok (.isub, 1) := by decide +kernel
theorem dX0_roomBeside_57 : decode cX0_roomBeside 57 = .ok (.ireturn, 1) := by decide +kernel
abbrev cX0_gcd : ByteArray := prog_1_method_5_code
def yX0_gcd : MethodName := ⟨RX0, "gcd", "(II)I"⟩
theorem dX0_gcd_0 : decode cX0_gcd 0 = .ok (.iload_n 0, 1) := by decide +kernel
theorem dX0_gcd_1 : decode cX0_gcd 1 = .ok (.istore_n 2, 1) := by decide +kernel
theorem dX0_gcd_2 : decode cX0_gcd 2 = .ok (.iload_n 1, 1) := by decide +kernel
theorem dX0_gcd_3 : decode cX0_gcd 3 = .ok (.istore_n 3, 1) := by decide +kernel
theorem dX0_gcd_4 : decode cX0_gcd 4 = .ok (.iconst 0, 1) := by decide +kernel
theorem dX0_gcd_5 : decode cX0_gcd 5 = .ok (.istore 4, 2) := by decide +kernel
theorem dX0_gcd_7 : decode cX0_gcd 7 = .ok (.iload 4, 2) := by decide +kernel
theorem dX0_gcd_9 : decode cX0_gcd 9 = .ok (.bipush 20, 2) := by decide +kernel
theorem dX0_gcd_11 : decode cX0_gcd 11 = .ok (.if_icmp .ge 23, 3) := by decide +kernel
theorem dX0_gcd_14 : decode cX0_gcd 14 = .ok (.iload_n 3, 1) := by decide +kernel
theorem dX0_gcd_15 : decode cX0_gcd 15 = .ok (.ifCond .le 19, 3) := by decide +kernel
theorem dX0_gcd_18 : decode cX0_gcd 18 = .ok (.iload_n 2, 1) := by decide +kernel
theorem dX0_gcd_19 : decode cX0_gcd 19 = .ok (.iload_n 3, 1) := by decide +kernel
theorem dX0_gcd_20 : decode cX0_gcd 20 = .ok (.irem, 1) := by decide +kernel
theorem dX0_gcd_21 : decode cX0_gcd 21 = .ok (.istore 5, 2) := by decide +kernel
theorem dX0_gcd_23 : decode cX0_gcd 23 = .ok (.iload_n 3, 1) := by decide +kernel
theorem dX0_gcd_24 : decode cX0_gcd 24 = .ok (.istore_n 2, 1) := by decide +kernel
theorem dX0_gcd_25 : decode cX0_gcd 25 = .ok (.iload 5, 2) := by decide +kernel
theorem dX0_gcd_27 : decode cX0_gcd 27 = .ok (.istore_n 3, 1) := by decide +kernel
theorem dX0_gcd_28 : decode cX0_gcd 28 = .ok (.iinc 4 1, 3) := by decide +kernel
theorem dX0_gcd_31 : decode cX0_gcd 31 = .ok (.goto (-24), 3) := by decide +kernel
theorem dX0_gcd_34 : decode cX0_gcd 34 = .ok (.iload_n 2, 1) := by decide +kernel
theorem dX0_gcd_35 : decode cX0_gcd 35 = .ok (.ireturn, 1) := by decide +kernel
abbrev cX0_take : ByteArray := prog_1_method_8_code
def yX0_take : MethodName := ⟨RX0, "take", "(III)I"⟩
theorem dX0_take_0 : decode cX0_take 0 = .ok (.iconst 0, 1) := by decide +kernel
theorem dX0_take_1 : decode cX0_take 1 = .ok (.istore 4, 2) := by decide +kernel
theorem dX0_take_3 : decode cX0_take 3 = .ok (.iload 4, 2) := by decide +kernel
theorem dX0_take_5 : decode cX0_take 5 = .ok (.bipush 9, 2) := by decide +kernel
theorem dX0_take_7 : decode cX0_take 7 = .ok (.if_icmp .ge 19, 3) := by decide +kernel
theorem dX0_take_10 : decode cX0_take 10 = .ok (.aload_n 0, 1) := by decide +kernel
theorem dX0_take_11 : decode cX0_take 11 = .ok (.getfield 7, 3) := by decide +kernel
theorem dX0_take_14 : decode cX0_take 14 = .ok (.iload 4, 2) := by decide +kernel
theorem dX0_take_16 : decode cX0_take 16 = .ok (.baload, 1) := by decide +kernel
theorem dX0_take_17 : decode cX0_take 17 = .ok (.ifCond .eq 9, 3) := by decide +kernel
theorem dX0_take_20 : decode cX0_take 20 = .ok (.iinc 4 1, 3) := by decide +kernel
theorem dX0_take_23 : decode cX0_take 23 = .ok (.goto (-20), 3) := by decide +kernel
theorem dX0_take_26 : decode cX0_take 26 = .ok (.aload_n 0, 1) := by decide +kernel
theorem dX0_take_27 : decode cX0_take 27 = .ok (.getfield 7, 3) := by decide +kernel
theorem dX0_take_30 : decode cX0_take 30 = .ok (.iload 4, 2) := by decide +kernel
theorem dX0_take_32 : decode cX0_take 32 = .ok (.iconst 1, 1) := by decide +kernel
theorem dX0_take_33 : decode cX0_take 33 = .ok (.bastore, 1) := by decide +kernel
theorem dX0_take_34 : decode cX0_take 34 = .ok (.aload_n 0, 1) := by decide +kernel
theorem dX0_take_35 : decode cX0_take 35 = .ok (.getfield 13, 3) := by decide +kernel
theorem dX0_take_38 : decode cX0_take 38 = .ok (.iload 4, 2) := by decide +kernel
theorem dX0_take_40 : decode cX0_take 40 = .ok (.iload_n 1, 1) := by decide +kernel
theorem dX0_take_41 : decode cX0_take 41 = .ok (.iastore, 1) := by decide +kernel
theorem dX0_take_42 : decode cX0_take 42 = .ok (.aload_n 0, 1) := by decide +kernel
theorem dX0_take_43 : decode cX0_take 43 = .ok (.getfield 17, 3) := by decide +kernel
theorem dX0_take_46 : decode cX0_take 46 = .ok (.iload 4, 2) := by decide +kernel
theorem dX0_take_48 : decode cX0_take 48 = .ok (.iload_n 2, 1) := by decide +kernel
theorem dX0_take_49 : decode cX0_take 49 = .ok (.iastore, 1) := by decide +kernel
theorem dX0_take_50 : decode cX0_take 50 = .ok (.aload_n 0, 1) := by decide +kernel
theorem dX0_take_51 : decode cX0_take 51 = .ok (.getfield 20, 3) := by decide +kernel
theorem dX0_take_54 : decode cX0_take 54 = .ok (.iload 4, 2) := by decide +kernel
theorem dX0_take_56 : decode cX0_take 56 = .ok (.iload_n 3, 1) := by decide +kernel
theorem dX0_take_57 : decode cX0_take 57 = .ok (.iastore, 1) := by decide +kernel
theorem dX0_take_58 : decode cX0_take 58 = .ok (.aload_n 0, 1) := by decide +kernel
theorem dX0_take_59 : decode cX0_take 59 = .ok (.dup, 1) := by decide +kernel
theorem dX0_take_60 : decode cX0_take 60 = .ok (.getfield 23, 3) := by decide +kernel
theorem dX0_take_63 : decode cX0_take 63 = .ok (.iconst 1, 1) := by decide +kernel
theorem dX0_take_64 : decode cX0_take 64 = .ok (.iadd, 1) := by decide +kernel
theorem dX0_take_65 : decode cX0_take 65 = .ok (.putfield 23, 3) := by decide +kernel
theorem dX0_take_68 : decode cX0_take 68 = .ok (.iload 4, 2) := by decide +kernel
theorem dX0_take_70 : decode cX0_take 70 = .ok (.ireturn, 1) := by decide +kernel
abbrev cX0_admitAt : ByteArray := prog_1_method_10_code
def yX0_admitAt : MethodName := ⟨RX0, "admitAt", "(III)I"⟩
theorem dX0_admitAt_0 : decode cX0_admitAt 0 = .ok (.iload_n 1, 1) := by decide +kernel
theorem dX0_admitAt_1 : decode cX0_admitAt 1 = .ok (.invokestatic 36, 3) := by decide +kernel
theorem dX0_admitAt_4 : decode cX0_admitAt 4 = .ok (.ifCond .eq 5, 3) := by decide +kernel
theorem dX0_admitAt_7 : decode cX0_admitAt 7 = .ok (.iconst (-1), 1) := by decide +kernel
theorem dX0_admitAt_8 : decode cX0_admitAt 8 = .ok (.ireturn, 1) := by decide +kernel
theorem dX0_admitAt_9 : decode cX0_admitAt 9 = .ok (.iload_n 2, 1) := by decide +kernel
theorem dX0_admitAt_10 : decode cX0_admitAt 10 = .ok (.iconst 1, 1) := by decide +kernel
theorem dX0_admitAt_11 : decode cX0_admitAt 11 = .ok (.if_icmp .lt 8, 3) := by decide +kernel
theorem dX0_admitAt_14 : decode cX0_admitAt 14 = .ok (.iload_n 2, 1) := by decide +kernel
theorem dX0_admitAt_15 : decode cX0_admitAt 15 = .ok (.iload_n 1, 1) := by decide +kernel
theorem dX0_admitAt_16 : decode cX0_admitAt 16 = .ok (.if_icmp .le 6, 3) := by decide +kernel
theorem dX0_admitAt_19 : decode cX0_admitAt 19 = .ok (.bipush (-2), 2) := by decide +kernel
theorem dX0_admitAt_21 : decode cX0_admitAt 21 = .ok (.ireturn, 1) := by decide +kernel
theorem dX0_admitAt_22 : decode cX0_admitAt 22 = .ok (.iload_n 3, 1) := by decide +kernel
theorem dX0_admitAt_23 : decode cX0_admitAt 23 = .ok (.ifCond .lt 8, 3) := by decide +kernel
theorem dX0_admitAt_26 : decode cX0_admitAt 26 = .ok (.iload_n 3, 1) := by decide +kernel
theorem dX0_admitAt_27 : decode cX0_admitAt 27 = .ok (.iload_n 1, 1) := by decide +kernel
theorem dX0_admitAt_28 : decode cX0_admitAt 28 = .ok (.if_icmp .lt 6, 3) := by decide +kernel
theorem dX0_admitAt_31 : decode cX0_admitAt 31 = .ok (.bipush (-3), 2) := by decide +kernel
theorem dX0_admitAt_33 : decode cX0_admitAt 33 = .ok (.ireturn, 1) := by decide +kernel
theorem dX0_admitAt_34 : decode cX0_admitAt 34 = .ok (.aload_n 0, 1) := by decide +kernel
theorem dX0_admitAt_35 : decode cX0_admitAt 35 = .ok (.getfield 23, 3) := by decide +kernel
theorem dX0_admitAt_38 : decode cX0_admitAt 38 = .ok (.bipush 10, 2) := by decide +kernel
theorem dX0_admitAt_40 : decode cX0_admitAt 40 = .ok (.if_icmp .lt 6, 3) := by decide +kernel
theorem dX0_admitAt_43 : decode cX0_admitAt 43 = .ok (.bipush (-4), 2) := by decide +kernel
theorem dX0_admitAt_45 : decode cX0_admitAt 45 = .ok (.ireturn, 1) := by decide +kernel
theorem dX0_admitAt_46 : decode cX0_admitAt 46 = .ok (.aload_n 0, 1) := by decide +kernel
theorem dX0_admitAt_47 : decode cX0_admitAt 47 = .ok (.iload_n 1, 1) := by decide +kernel
theorem dX0_admitAt_48 : decode cX0_admitAt 48 = .ok (.iload_n 3, 1) := by decide +kernel
theorem dX0_admitAt_49 : decode cX0_admitAt 49 = .ok (.invokevirtual 40, 3) := by decide +kernel
theorem dX0_admitAt_52 : decode cX0_admitAt 52 = .ok (.istore 4, 2) := by decide +kernel
theorem dX0_admitAt_54 : decode cX0_admitAt 54 = .ok (.iload 4, 2) := by decide +kernel
theorem dX0_admitAt_56 : decode cX0_admitAt 56 = .ok (.iload_n 2, 1) := by decide +kernel
theorem dX0_admitAt_57 : decode cX0_admitAt 57 = .ok (.if_icmp .ge 6, 3) := by decide +kernel
theorem dX0_admitAt_60 : decode cX0_admitAt 60 = .ok (.bipush (-5), 2) := by decide +kernel
theorem dX0_admitAt_62 : decode cX0_admitAt 62 = .ok (.ireturn, 1) := by decide +kernel
theorem dX0_admitAt_63 : decode cX0_admitAt 63 = .ok (.aload_n 0, 1) := by decide +kernel
theorem dX0_admitAt_64 : decode cX0_admitAt 64 = .ok (.iload_n 1, 1) := by decide +kernel
theorem dX0_admitAt_65 : decode cX0_admitAt 65 = .ok (.iload_n 2, 1) := by decide +kernel
theorem dX0_admitAt_66 : decode cX0_admitAt 66 = .ok (.iload_n 3, 1) := by decide +kernel
theorem dX0_admitAt_67 : decode cX0_admitAt 67 = .ok (.invokevirtual 43, 3) := by decide +kernel
theorem dX0_admitAt_70 : decode cX0_admitAt 70 = .ok (.ireturn, 1) := by decide +kernel
abbrev cX0_remove : ByteArray := prog_1_method_11_code
def yX0_remove : MethodName := ⟨RX0, "remove", "(I)I"⟩
theorem dX0_remove_0 : decode cX0_remove 0 = .ok (.aload_n 0, 1) := by decide +kernel
theorem dX0_remove_1 : decode cX0_remove 1 = .ok (.iload_n 1, 1) := by decide +kernel
theorem dX0_remove_2 : decode cX0_remove 2 = .ok (.invokevirtual 46, 3) := by decide +kernel
theorem dX0_remove_5 : decode cX0_remove 5 = .ok (.ifCond .eq 6, 3) := by decide +kernel
theorem dX0_remove_8 : decode cX0_remove 8 = .ok (.bipush (-6), 2) := by decide +kernel
theorem dX0_remove_10 : decode cX0_remove 10 = .ok (.ireturn, 1) := by decide +kernel
theorem dX0_remove_11 : decode cX0_remove 11 = .ok (.aload_n 0, 1) := by decide +kernel
theorem dX0_remove_12 : decode cX0_remove 12 = .ok (.getfield 7, 3) := by decide +kernel
theorem dX0_remove_15 : decode cX0_remove 15 = .ok (.iload_n 1, 1) := by decide +kernel
theorem dX0_remove_16 : decode cX0_remove 16 = .ok (.iconst 0, 1) := by decide +kernel
theorem dX0_remove_17 : decode cX0_remove 17 = .ok (.bastore, 1) := by decide +kernel
theorem dX0_remove_18 : decode cX0_remove 18 = .ok (.aload_n 0, 1) := by decide +kernel
theorem dX0_remove_19 : decode cX0_remove 19 = .ok (.dup, 1) := by decide +kernel
theorem dX0_remove_20 : decode cX0_remove 20 = .ok (.getfield 23, 3) := by decide +kernel
theorem dX0_remove_23 : decode cX0_remove 23 = .ok (.iconst 1, 1) := by decide +kernel
theorem dX0_remove_24 : decode cX0_remove 24 = .ok (.isub, 1) := by decide +kernel
theorem dX0_remove_25 : decode cX0_remove 25 = .ok (.putfield 23, 3) := by decide +kernel
theorem dX0_remove_28 : decode cX0_remove 28 = .ok (.aload_n 0, 1) := by decide +kernel
theorem dX0_remove_29 : decode cX0_remove 29 = .ok (.getfield 23, 3) := by decide +kernel
theorem dX0_remove_32 : decode cX0_remove 32 = .ok (.ireturn, 1) := by decide +kernel
abbrev cX0_noJob : ByteArray := prog_1_method_4_code
def yX0_noJob : MethodName := ⟨RX0, "noJob", "(I)Z"⟩
theorem dX0_noJob_0 : decode cX0_noJob 0 = .ok (.iload_n 1, 1) := by decide +kernel
theorem dX0_noJob_1 : decode cX0_noJob 1 = .ok (.ifCond .lt 18, 3) := by decide +kernel
theorem dX0_noJob_4 : decode cX0_noJob 4 = .ok (.iload_n 1, 1) := by decide +kernel
theorem dX0_noJob_5 : decode cX0_noJob 5 = .ok (.bipush 10, 2) := by decide +kernel
theorem dX0_noJob_7 : decode cX0_noJob 7 = .ok (.if_icmp .ge 12, 3) := by decide +kernel
theorem dX0_noJob_10 : decode cX0_noJob 10 = .ok (.aload_n 0, 1) := by decide +kernel
theorem dX0_noJob_11 : decode cX0_noJob 11 = .ok (.getfield 7, 3) := by decide +kernel
theorem dX0_noJob_14 : decode cX0_noJob 14 = .ok (.iload_n 1, 1) := by decide +kernel
theorem dX0_noJob_15 : decode cX0_noJob 15 = .ok (.baload, 1) := by decide +kernel
theorem dX0_noJob_16 : decode cX0_noJob 16 = .ok (.ifCond .ne 7, 3) := by decide +kernel
theorem dX0_noJob_19 : decode cX0_noJob 19 = .ok (.iconst 1, 1) := by decide +kernel
theorem dX0_noJob_20 : decode cX0_noJob 20 = .ok (.goto 4, 3) := by decide +kernel
theorem dX0_noJob_23 : decode cX0_noJob 23 = .ok (.iconst 0, 1) := by decide +kernel
theorem dX0_noJob_24 : decode cX0_noJob 24 = .ok (.ireturn, 1) := by decide +kernel
abbrev cX0_offset : ByteArray := prog_1_method_12_code
def yX0_offset : MethodName := ⟨RX0, "offset", "(I)I"⟩
theorem dX0_offset_0 : decode cX0_offset 0 = .ok (.aload_n 0, 1) := by decide +kernel
theorem dX0_offset_1 : decode cX0_offset 1 = .ok (.iload_n 1, 1) := by decide +kernel
theorem dX0_offset_2 : decode cX0_offset 2 = .ok (.invokevirtual 46, 3) := by decide +kernel
theorem dX0_offset_5 : decode cX0_offset 5 = .ok (.ifCond .eq 8, 3) := by decide +kernel
theorem dX0_offset_8 : decode cX0_offset 8 = .ok (.bipush (-6), 2) := by decide +kernel
theorem dX0_offset_10 : decode cX0_offset 10 = .ok (.goto 9, 3) := by decide +kernel
theorem dX0_offset_13 : decode cX0_offset 13 = .ok (.aload_n 0, 1) := by decide +kernel
theorem dX0_offset_14 : decode cX0_offset 14 = .ok (.getfield 20, 3) := by decide +kernel
theorem dX0_offset_17 : decode cX0_offset 17 = .ok (.iload_n 1, 1) := by decide +kernel
theorem dX0_offset_18 : decode cX0_offset 18 = .ok (.iaload, 1) := by decide +kernel
theorem dX0_offset_19 : decode cX0_offset 19 = .ok (.ireturn, 1) := by decide +kernel
abbrev cX0_running : ByteArray := prog_1_method_13_code
def yX0_running : MethodName := ⟨RX0, "running", "(I)I"⟩
theorem dX0_running_0 : decode cX0_running 0 = .ok (.iload_n 1, 1) := by decide +kernel
theorem dX0_running_1 : decode cX0_running 1 = .ok (.invokestatic 49, 3) := by decide +kernel
theorem dX0_running_4 : decode cX0_running 4 = .ok (.ifCond .eq 6, 3) := by decide +kernel
theorem dX0_running_7 : decode cX0_running 7 = .ok (.bipush (-7), 2) := by decide +kernel
theorem dX0_running_9 : decode cX0_running 9 = .ok (.ireturn, 1) := by decide +kernel
theorem dX0_running_10 : decode cX0_running 10 = .ok (.iconst 0, 1) := by decide +kernel
theorem dX0_running_11 : decode cX0_running 11 = .ok (.istore_n 2, 1) := by decide +kernel
theorem dX0_running_12 : decode cX0_running 12 = .ok (.iload_n 2, 1) := by decide +kernel
theorem dX0_running_13 : decode cX0_running 13 = .ok (.bipush 10, 2) := by decide +kernel
theorem dX0_running_15 : decode cX0_running 15 = .ok (.if_icmp .ge 54, 3) := by decide +kernel
theorem dX0_running_18 : decode cX0_running 18 = .ok (.aload_n 0, 1) := by decide +kernel
theorem dX0_running_19 : decode cX0_running 19 = .ok (.getfield 7, 3) := by decide +kernel
theorem dX0_running_22 : decode cX0_running 22 = .ok (.iload_n 2, 1) := by decide +kernel
theorem dX0_running_23 : decode cX0_running 23 = .ok (.baload, 1) := by decide +kernel
theorem dX0_running_24 : decode cX0_running 24 = .ok (.ifCond .eq 39, 3) := by decide +kernel
theorem dX0_running_27 : decode cX0_running 27 = .ok (.iload_n 1, 1) := by decide +kernel
theorem dX0_running_28 : decode cX0_running 28 = .ok (.aload_n 0, 1) := by decide +kernel
theorem dX0_running_29 : decode cX0_running 29 = .ok (.getfield 20, 3) := by decide +kernel
theorem dX0_running_32 : decode cX0_running 32 = .ok (.iload_n 2, 1) := by decide +kernel
theorem dX0_running_33 : decode cX0_running 33 = .ok (.iaload, 1) := by decide +kernel
theorem dX0_running_34 : decode cX0_running 34 = .ok (.if_icmp .lt 29, 3) := by decide +kernel
theorem dX0_running_37 : decode cX0_running 37 = .ok (.iload_n 1, 1) := by decide +kernel
theorem dX0_running_38 : decode cX0_running 38 = .ok (.aload_n 0, 1) := by decide +kernel
theorem dX0_running_39 : decode cX0_running 39 = .ok (.getfield 20, 3) := by decide +kernel
theorem dX0_running_42 : decode cX0_running 42 = .ok (.iload_n 2, 1) := by decide +kernel
theorem dX0_running_43 : decode cX0_running 43 = .ok (.iaload, 1) := by decide +kernel
theorem dX0_running_44 : decode cX0_running 44 = .ok (.isub, 1) := by decide +kernel
theorem dX0_running_45 : decode cX0_running 45 = .ok (.aload_n 0, 1) := by decide +kernel
theorem dX0_running_46 : decode cX0_running 46 = .ok (.getfield 13, 3) := by decide +kernel
theorem dX0_running_49 : decode cX0_running 49 = .ok (.iload_n 2, 1) := by decide +kernel
theorem dX0_running_50 : decode cX0_running 50 = .ok (.iaload, 1) := by decide +kernel
theorem dX0_running_51 : decode cX0_running 51 = .ok (.irem, 1) := by decide +kernel
theorem dX0_running_52 : decode cX0_running 52 = .ok (.aload_n 0, 1) := by decide +kernel
theorem dX0_running_53 : decode cX0_running 53 = .ok (.getfield 17, 3) := by decide +kernel
theorem dX0_running_56 : decode cX0_running 56 = .ok (.iload_n 2, 1) := by decide +kernel
theorem dX0_running_57 : decode cX0_running 57 = .ok (.iaload, 1) := by decide +kernel
theorem dX0_running_58 : decode cX0_running 58 = .ok (.if_icmp .ge 5, 3) := by decide +kernel
theorem dX0_running_61 : decode cX0_running 61 = .ok (.iload_n 2, 1) := by decide +kernel
theorem dX0_running_62 : decode cX0_running 62 = .ok (.ireturn, 1) := by decide +kernel
theorem dX0_running_63 : decode cX0_running 63 = .ok (.iinc 2 1, 3) := by decide +kernel
theorem dX0_running_66 : decode cX0_running 66 = .ok (.goto (-54), 3) := by decide +kernel
theorem dX0_running_69 : decode cX0_running 69 = .ok (.bipush (-6), 2) := by decide +kernel
theorem dX0_running_71 : decode cX0_running 71 = .ok (.ireturn, 1) := by decide +kernel
abbrev cX0_badTime : ByteArray := prog_1_method_3_code
def yX0_badTime : MethodName := ⟨RX0, "badTime", "(I)Z"⟩
theorem dX0_badTime_0 : decode cX0_badTime 0 = .ok (.iload_n 0, 1) := by decide +kernel
theorem dX0_badTime_1 : decode cX0_badTime 1 = .ok (.ifCond .lt 9, 3) := by decide +kernel
theorem dX0_badTime_4 : decode cX0_badTime 4 = .ok (.iload_n 0, 1) := by decide +kernel
theorem dX0_badTime_5 : decode cX0_badTime 5 = .ok (.ldc 27, 2) := by decide +kernel
theorem dX0_badTime_7 : decode cX0_badTime 7 = .ok (.if_icmp .le 7, 3) := by decide +kernel
theorem dX0_badTime_10 : decode cX0_badTime 10 = .ok (.iconst 1, 1) := by decide +kernel
theorem dX0_badTime_11 : decode cX0_badTime 11 = .ok (.goto 4, 3) := by decide +kernel
theorem dX0_badTime_14 : decode cX0_badTime 14 = .ok (.iconst 0, 1) := by decide +kernel
theorem dX0_badTime_15 : decode cX0_badTime 15 = .ok (.ireturn, 1) := by decide +kernel
abbrev cX0_free : ByteArray := prog_1_method_15_code
def yX0_free : MethodName := ⟨RX0, "free", "(II)I"⟩
theorem dX0_free_0 : decode cX0_free 0 = .ok (.iload_n 1, 1) := by decide +kernel
theorem dX0_free_1 : decode cX0_free 1 = .ok (.invokestatic 49, 3) := by decide +kernel
theorem dX0_free_4 : decode cX0_free 4 = .ok (.ifCond .ne 10, 3) := by decide +kernel
theorem dX0_free_7 : decode cX0_free 7 = .ok (.iload_n 2, 1) := by decide +kernel
theorem dX0_free_8 : decode cX0_free 8 = .ok (.invokestatic 49, 3) := by decide +kernel
theorem dX0_free_11 : decode cX0_free 11 = .ok (.ifCond .eq 6, 3) := by decide +kernel
theorem dX0_free_14 : decode cX0_free 14 = .ok (.bipush (-7), 2) := by decide +kernel
theorem dX0_free_16 : decode cX0_free 16 = .ok (.ireturn, 1) := by decide +kernel
theorem dX0_free_17 : decode cX0_free 17 = .ok (.iload_n 1, 1) := by decide +kernel
theorem dX0_free_18 : decode cX0_free 18 = .ok (.iload_n 2, 1) := by decide +kernel
theorem dX0_free_19 : decode cX0_free 19 = .ok (.if_icmp .le 5, 3) := by decide +kernel
theorem dX0_free_22 : decode cX0_free 22 = .ok (.iconst 0, 1) := by decide +kernel
theorem dX0_free_23 : decode cX0_free 23 = .ok (.ireturn, 1) := by decide +kernel
theorem dX0_free_24 : decode cX0_free 24 = .ok (.iload_n 2, 1) := by decide +kernel
theorem dX0_free_25 : decode cX0_free 25 = .ok (.iload_n 1, 1) := by decide +kernel
theorem dX0_free_26 : decode cX0_free 26 = .ok (.isub, 1) := by decide +kernel
theorem dX0_free_27 : decode cX0_free 27 = .ok (.iconst 1, 1) := by decide +kernel
theorem dX0_free_28 : decode cX0_free 28 = .ok (.iadd, 1) := by decide +kernel
theorem dX0_free_29 : decode cX0_free 29 = .ok (.istore_n 3, 1) := by decide +kernel
theorem dX0_free_30 : decode cX0_free 30 = .ok (.iconst 0, 1) := by decide +kernel
theorem dX0_free_31 : decode cX0_free 31 = .ok (.istore 4, 2) := by decide +kernel
theorem dX0_free_33 : decode cX0_free 33 = .ok (.iload 4, 2) := by decide +kernel
theorem dX0_free_35 : decode cX0_free 35 = .ok (.bipush 10, 2) := by decide +kernel
theorem dX0_free_37 : decode cX0_free 37 = .ok (.if_icmp .ge 47, 3) := by decide +kernel
theorem dX0_free_40 : decode cX0_free 40 = .ok (.aload_n 0, 1) := by decide +kernel
theorem dX0_free_41 : decode cX0_free 41 = .ok (.getfield 7, 3) := by decide +kernel
theorem dX0_free_44 : decode cX0_free 44 = .ok (.iload 4, 2) := by decide +kernel
theorem dX0_free_46 : decode cX0_free 46 = .ok (.baload, 1) := by decide +kernel
theorem dX0_free_47 : decode cX0_free 47 = .ok (.ifCond .eq 31, 3) := by decide +kernel
theorem dX0_free_50 : decode cX0_free 50 = .ok (.aload_n 0, 1) := by decide +kernel
theorem dX0_free_51 : decode cX0_free 51 = .ok (.iload 4, 2) := by decide +kernel
theorem dX0_free_53 : decode cX0_free 53 = .ok (.iload_n 2, 1) := by decide +kernel
theorem dX0_free_54 : decode cX0_free 54 = .ok (.iconst 1, 1) := by decide +kernel
theorem dX0_free_55 : decode cX0_free 55 = .ok (.iadd, 1) := by decide +kernel
theorem dX0_free_56 : decode cX0_free 56 = .ok (.invokevirtual 52, 3) := by decide +kernel
theorem dX0_free_59 : decode cX0_free 59 = .ok (.istore 5, 2) := by decide +kernel
theorem dX0_free_61 : decode cX0_free 61 = .ok (.aload_n 0, 1) := by decide +kernel
theorem dX0_free_62 : decode cX0_free 62 = .ok (.iload 4, 2) := by decide +kernel
theorem dX0_free_64 : decode cX0_free 64 = .ok (.iload_n 1, 1) := by decide +kernel
theorem dX0_free_65 : decode cX0_free 65 = .ok (.invokevirtual 52, 3) := by decide +kernel
theorem dX0_free_68 : decode cX0_free 68 = .ok (.istore 6, 2) := by decide +kernel
theorem dX0_free_70 : decode cX0_free 70 = .ok (.iload_n 3, 1) := by decide +kernel
theorem dX0_free_71 : decode cX0_free 71 = .ok (.iload 5, 2) := by decide +kernel
theorem dX0_free_73 : decode cX0_free 73 = .ok (.iload 6, 2) := by decide +kernel
theorem dX0_free_75 : decode cX0_free 75 = .ok (.isub, 1) := by decide +kernel
theorem dX0_free_76 : decode cX0_free 76 = .ok (.isub, 1) := by decide +kernel
theorem dX0_free_77 : decode cX0_free 77 = .ok (.istore_n 3, 1) := by decide +kernel
theorem dX0_free_78 : decode cX0_free 78 = .ok (.iinc 4 1, 3) := by decide +kernel
theorem dX0_free_81 : decode cX0_free 81 = .ok (.goto (-48), 3) := by decide +kernel
theorem dX0_free_84 : decode cX0_free 84 = .ok (.iload_n 3, 1) := by decide +kernel
theorem dX0_free_85 : decode cX0_free 85 = .ok (.ireturn, 1) := by decide +kernel
abbrev cX0_ranBefore : ByteArray := prog_1_method_14_code
def yX0_ranBefore : MethodName := ⟨RX0, "ranBefore", "(II)I"⟩
theorem dX0_ranBefore_0 : decode cX0_ranBefore 0 = .ok (.iload_n 2, 1) := by decide +kernel
theorem dX0_ranBefore_1 : decode cX0_ranBefore 1 = .ok (.aload_n 0, 1) := by decide +kernel
theorem dX0_ranBefore_2 : decode cX0_ranBefore 2 = .ok (.getfield 20, 3) := by decide +kernel
theorem dX0_ranBefore_5 : decode cX0_ranBefore 5 = .ok (.iload_n 1, 1) := by decide +kernel
theorem dX0_ranBefore_6 : decode cX0_ranBefore 6 = .ok (.iaload, 1) := by decide +kernel
theorem dX0_ranBefore_7 : decode cX0_ranBefore 7 = .ok (.isub, 1) := by decide +kernel
theorem dX0_ranBefore_8 : decode cX0_ranBefore 8 = .ok (.istore_n 3, 1) := by decide +kernel
theorem dX0_ranBefore_9 : decode cX0_ranBefore 9 = .ok (.iload_n 3, 1) := by decide +kernel
theorem dX0_ranBefore_10 : decode cX0_ranBefore 10 = .ok (.ifCond .gt 5, 3) := by decide +kernel
theorem dX0_ranBefore_13 : decode cX0_ranBefore 13 = .ok (.iconst 0, 1) := by decide +kernel
theorem dX0_ranBefore_14 : decode cX0_ranBefore 14 = .ok (.ireturn, 1) := by decide +kernel
theorem dX0_ranBefore_15 : decode cX0_ranBefore 15 = .ok (.iload_n 3, 1) := by decide +kernel
theorem dX0_ranBefore_16 : decode cX0_ranBefore 16 = .ok (.aload_n 0, 1) := by decide +kernel
theorem dX0_ranBefore_17 : decode cX0_ranBefore 17 = .ok (.getfield 13, 3) := by decide +kernel
theorem dX0_ranBefore_20 : decode cX0_ranBefore 20 = .ok (.iload_n 1, 1) := by decide +kernel
theorem dX0_ranBefore_21 : decode cX0_ranBefore 21 = .ok (.iaload, 1) := by decide +kernel
theorem dX0_ranBefore_22 : decode cX0_ranBefore 22 = .ok (.irem, 1) := by decide +kernel
theorem dX0_ranBefore_23 : decode cX0_ranBefore 23 = .ok (.istore 4, 2) := by decide +kernel
theorem dX0_ranBefore_25 : decode cX0_ranBefore 25 = .ok (.iload 4, 2) := by decide +kernel
theorem dX0_ranBefore_27 : decode cX0_ranBefore 27 = .ok (.aload_n 0, 1) := by decide +kernel
theorem dX0_ranBefore_28 : decode cX0_ranBefore 28 = .ok (.getfield 17, 3) := by decide +kernel
theorem dX0_ranBefore_31 : decode cX0_ranBefore 31 = .ok (.iload_n 1, 1) := by decide +kernel
theorem dX0_ranBefore_32 : decode cX0_ranBefore 32 = .ok (.iaload, 1) := by decide +kernel
theorem dX0_ranBefore_33 : decode cX0_ranBefore 33 = .ok (.if_icmp .le 11, 3) := by decide +kernel
theorem dX0_ranBefore_36 : decode cX0_ranBefore 36 = .ok (.aload_n 0, 1) := by decide +kernel
theorem dX0_ranBefore_37 : decode cX0_ranBefore 37 = .ok (.getfield 17, 3) := by decide +kernel
theorem dX0_ranBefore_40 : decode cX0_ranBefore 40 = .ok (.iload_n 1, 1) := by decide +kernel
theorem dX0_ranBefore_41 : decode cX0_ranBefore 41 = .ok (.iaload, 1) := by decide +kernel
theorem dX0_ranBefore_42 : decode cX0_ranBefore 42 = .ok (.istore 4, 2) := by decide +kernel
theorem dX0_ranBefore_44 : decode cX0_ranBefore 44 = .ok (.iload_n 3, 1) := by decide +kernel
theorem dX0_ranBefore_45 : decode cX0_ranBefore 45 = .ok (.aload_n 0, 1) := by decide +kernel
theorem dX0_ranBefore_46 : decode cX0_ranBefore 46 = .ok (.getfield 13, 3) := by decide +kernel
theorem dX0_ranBefore_49 : decode cX0_ranBefore 49 = .ok (.iload_n 1, 1) := by decide +kernel
theorem dX0_ranBefore_50 : decode cX0_ranBefore 50 = .ok (.iaload, 1) := by decide +kernel
theorem dX0_ranBefore_51 : decode cX0_ranBefore 51 = .ok (.idiv, 1) := by decide +kernel
theorem dX0_ranBefore_52 : decode cX0_ranBefore 52 = .ok (.aload_n 0, 1) := by decide +kernel
theorem dX0_ranBefore_53 : decode cX0_ranBefore 53 = .ok (.getfield 17, 3) := by decide +kernel
theorem dX0_ranBefore_56 : decode cX0_ranBefore 56 = .ok (.iload_n 1, 1) := by decide +kernel
theorem dX0_ranBefore_57 : decode cX0_ranBefore 57 = .ok (.iaload, 1) := by decide +kernel
theorem dX0_ranBefore_58 : decode cX0_ranBefore 58 = .ok (.imul, 1) := by decide +kernel
theorem dX0_ranBefore_59 : decode cX0_ranBefore 59 = .ok (.iload 4, 2) := by decide +kernel
theorem dX0_ranBefore_61 : decode cX0_ranBefore 61 = .ok (.iadd, 1) := by decide +kernel
theorem dX0_ranBefore_62 : decode cX0_ranBefore 62 = .ok (.ireturn, 1) := by decide +kernel
abbrev cX0_starts : ByteArray := prog_1_method_17_code
def yX0_starts : MethodName := ⟨RX0, "starts", "(III)I"⟩
theorem dX0_starts_0 : decode cX0_starts 0 = .ok (.aload_n 0, 1) := by decide +kernel
theorem dX0_starts_1 : decode cX0_starts 1 = .ok (.iload_n 1, 1) := by decide +kernel
theorem dX0_starts_2 : decode cX0_starts 2 = .ok (.invokevirtual 46, 3) := by decide +kernel
theorem dX0_starts_5 : decode cX0_starts 5 = .ok (.ifCond .eq 6, 3) := by decide +kernel
theorem dX0_starts_8 : decode cX0_starts 8 = .ok (.bipush (-6), 2) := by decide +kernel
theorem dX0_starts_10 : decode cX0_starts 10 = .ok (.ireturn, 1) := by decide +kernel
theorem dX0_starts_11 : decode cX0_starts 11 = .ok (.iload_n 2, 1) := by decide +kernel
theorem dX0_starts_12 : decode cX0_starts 12 = .ok (.invokestatic 49, 3) := by decide +kernel
theorem dX0_starts_15 : decode cX0_starts 15 = .ok (.ifCond .ne 10, 3) := by decide +kernel
theorem dX0_starts_18 : decode cX0_starts 18 = .ok (.iload_n 3, 1) := by decide +kernel
theorem dX0_starts_19 : decode cX0_starts 19 = .ok (.invokestatic 49, 3) := by decide +kernel
theorem dX0_starts_22 : decode cX0_starts 22 = .ok (.ifCond .eq 6, 3) := by decide +kernel
theorem dX0_starts_25 : decode cX0_starts 25 = .ok (.bipush (-7), 2) := by decide +kernel
theorem dX0_starts_27 : decode cX0_starts 27 = .ok (.ireturn, 1) := by decide +kernel
theorem dX0_starts_28 : decode cX0_starts 28 = .ok (.iload_n 2, 1) := by decide +kernel
theorem dX0_starts_29 : decode cX0_starts 29 = .ok (.iload_n 3, 1) := by decide +kernel
theorem dX0_starts_30 : decode cX0_starts 30 = .ok (.if_icmp .le 5, 3) := by decide +kernel
theorem dX0_starts_33 : decode cX0_starts 33 = .ok (.iconst 0, 1) := by decide +kernel
theorem dX0_starts_34 : decode cX0_starts 34 = .ok (.ireturn, 1) := by decide +kernel
theorem dX0_starts_35 : decode cX0_starts 35 = .ok (.aload_n 0, 1) := by decide +kernel
theorem dX0_starts_36 : decode cX0_starts 36 = .ok (.iload_n 1, 1) := by decide +kernel
theorem dX0_starts_37 : decode cX0_starts 37 = .ok (.iload_n 3, 1) := by decide +kernel
theorem dX0_starts_38 : decode cX0_starts 38 = .ok (.iconst 1, 1) := by decide +kernel
theorem dX0_starts_39 : decode cX0_starts 39 = .ok (.iadd, 1) := by decide +kernel
theorem dX0_starts_40 : decode cX0_starts 40 = .ok (.invokevirtual 55, 3) := by decide +kernel
theorem dX0_starts_43 : decode cX0_starts 43 = .ok (.istore 4, 2) := by decide +kernel
theorem dX0_starts_45 : decode cX0_starts 45 = .ok (.aload_n 0, 1) := by decide +kernel
theorem dX0_starts_46 : decode cX0_starts 46 = .ok (.iload_n 1, 1) := by decide +kernel
theorem dX0_starts_47 : decode cX0_starts 47 = .ok (.iload_n 2, 1) := by decide +kernel
theorem dX0_starts_48 : decode cX0_starts 48 = .ok (.invokevirtual 55, 3) := by decide +kernel
theorem dX0_starts_51 : decode cX0_starts 51 = .ok (.istore 5, 2) := by decide +kernel
theorem dX0_starts_53 : decode cX0_starts 53 = .ok (.iload 4, 2) := by decide +kernel
theorem dX0_starts_55 : decode cX0_starts 55 = .ok (.iload 5, 2) := by decide +kernel
theorem dX0_starts_57 : decode cX0_starts 57 = .ok (.isub, 1) := by decide +kernel
theorem dX0_starts_58 : decode cX0_starts 58 = .ok (.ireturn, 1) := by decide +kernel
abbrev cX0_begunBefore : ByteArray := prog_1_method_16_code
def yX0_begunBefore : MethodName := ⟨RX0, "begunBefore", "(II)I"⟩
theorem dX0_begunBefore_0 : decode cX0_begunBefore 0 = .ok (.iload_n 2, 1) := by decide +kernel
theorem dX0_begunBefore_1 : decode cX0_begunBefore 1 = .ok (.aload_n 0, 1) := by decide +kernel
theorem dX0_begunBefore_2 : decode cX0_begunBefore 2 = .ok (.getfield 20, 3) := by decide +kernel
theorem dX0_begunBefore_5 : decode cX0_begunBefore 5 = .ok (.iload_n 1, 1) := by decide +kernel
theorem dX0_begunBefore_6 : decode cX0_begunBefore 6 = .ok (.iaload, 1) := by decide +kernel
theorem dX0_begunBefore_7 : decode cX0_begunBefore 7 = .ok (.isub, 1) := by decide +kernel
theorem dX0_begunBefore_8 : decode cX0_begunBefore 8 = .ok (.istore_n 3, 1) := by decide +kernel
theorem dX0_begunBefore_9 : decode cX0_begunBefore 9 = .ok (.iload_n 3, 1) := by decide +kernel
theorem dX0_begunBefore_10 : decode cX0_begunBefore 10 = .ok (.ifCond .gt 7, 3) := by decide +kernel
theorem dX0_begunBefore_13 : decode cX0_begunBefore 13 = .ok (.iconst 0, 1) := by decide +kernel
theorem dX0_begunBefore_14 : decode cX0_begunBefore 14 = .ok (.goto 15, 3) := by decide +kernel
theorem dX0_begunBefore_17 : decode cX0_begunBefore 17 = .ok (.iload_n 3, 1) := by decide +kernel
theorem dX0_begunBefore_18 : decode cX0_begunBefore 18 = .ok (.iconst 1, 1) := by decide +kernel
theorem dX0_begunBefore_19 : decode cX0_begunBefore 19 = .ok (.isub, 1) := by decide +kernel
theorem dX0_begunBefore_20 : decode cX0_begunBefore 20 = .ok (.aload_n 0, 1) := by decide +kernel
theorem dX0_begunBefore_21 : decode cX0_begunBefore 21 = .ok (.getfield 13, 3) := by decide +kernel
theorem dX0_begunBefore_24 : decode cX0_begunBefore 24 = .ok (.iload_n 1, 1) := by decide +kernel
theorem dX0_begunBefore_25 : decode cX0_begunBefore 25 = .ok (.iaload, 1) := by decide +kernel
theorem dX0_begunBefore_26 : decode cX0_begunBefore 26 = .ok (.idiv, 1) := by decide +kernel
theorem dX0_begunBefore_27 : decode cX0_begunBefore 27 = .ok (.iconst 1, 1) := by decide +kernel
theorem dX0_begunBefore_28 : decode cX0_begunBefore 28 = .ok (.iadd, 1) := by decide +kernel
theorem dX0_begunBefore_29 : decode cX0_begunBefore 29 = .ok (.ireturn, 1) := by decide +kernel
abbrev cX0_nextStart : ByteArray := prog_1_method_18_code
def yX0_nextStart : MethodName := ⟨RX0, "nextStart", "(I)I"⟩
theorem dX0_nextStart_0 : decode cX0_nextStart 0 = .ok (.iload_n 1, 1) := by decide +kernel
theorem dX0_nextStart_1 : decode cX0_nextStart 1 = .ok (.invokestatic 49, 3) := by decide +kernel
theorem dX0_nextStart_4 : decode cX0_nextStart 4 = .ok (.ifCond .eq 6, 3) := by decide +kernel
theorem dX0_nextStart_7 : decode cX0_nextStart 7 = .ok (.bipush (-7), 2) := by decide +kernel
theorem dX0_nextStart_9 : decode cX0_nextStart 9 = .ok (.ireturn, 1) := by decide +kernel
theorem dX0_nextStart_10 : decode cX0_nextStart 10 = .ok (.bipush (-6), 2) := by decide +kernel
theorem dX0_nextStart_12 : decode cX0_nextStart 12 = .ok (.istore_n 2, 1) := by decide +kernel
theorem dX0_nextStart_13 : decode cX0_nextStart 13 = .ok (.iconst 0, 1) := by decide +kernel
theorem dX0_nextStart_14 : decode cX0_nextStart 14 = .ok (.istore_n 3, 1) := by decide +kernel
theorem dX0_nextStart_15 : decode cX0_nextStart 15 = .ok (.iload_n 3, 1) := by decide +kernel
theorem dX0_nextStart_16 : decode cX0_nextStart 16 = .ok (.bipush 10, 2) := by decide +kernel
theorem dX0_nextStart_18 : decode cX0_nextStart 18 = .ok (.if_icmp .ge 57, 3) := by decide +kernel
theorem dX0_nextStart_21 : decode cX0_nextStart 21 = .ok (.aload_n 0, 1) := by decide +kernel
theorem dX0_nextStart_22 : decode cX0_nextStart 22 = .ok (.getfield 7, 3) := by decide +kernel
theorem dX0_nextStart_25 : decode cX0_nextStart 25 = .ok (.iload_n 3, 1) := by decide +kernel
theorem dX0_nextStart_26 : decode cX0_nextStart 26 = .ok (.baload, 1) := by decide +kernel
theorem dX0_nextStart_27 : decode cX0_nextStart 27 = .ok (.ifCond .eq 42, 3) := by decide +kernel
theorem dX0_nextStart_30 : decode cX0_nextStart 30 = .ok (.aload_n 0, 1) := by decide +kernel
theorem dX0_nextStart_31 : decode cX0_nextStart 31 = .ok (.iload_n 3, 1) := by decide +kernel
theorem dX0_nextStart_32 : decode cX0_nextStart 32 = .ok (.iload_n 1, 1) := by decide +kernel
theorem dX0_nextStart_33 : decode cX0_nextStart 33 = .ok (.invokevirtual 55, 3) := by decide +kernel
theorem dX0_nextStart_36 : decode cX0_nextStart 36 = .ok (.istore 4, 2) := by decide +kernel
theorem dX0_nextStart_38 : decode cX0_nextStart 38 = .ok (.aload_n 0, 1) := by decide +kernel
theorem dX0_nextStart_39 : decode cX0_nextStart 39 = .ok (.getfield 20, 3) := by decide +kernel
theorem dX0_nextStart_42 : decode cX0_nextStart 42 = .ok (.iload_n 3, 1) := by decide +kernel
theorem dX0_nextStart_43 : decode cX0_nextStart 43 = .ok (.iaload, 1) := by decide +kernel
theorem dX0_nextStart_44 : decode cX0_nextStart 44 = .ok (.iload 4, 2) := by decide +kernel
theorem dX0_nextStart_46 : decode cX0_nextStart 46 = .ok (.aload_n 0, 1) := by decide +kernel
theorem dX0_nextStart_47 : decode cX0_nextStart 47 = .ok (.getfield 13, 3) := by decide +kernel
theorem dX0_nextStart_50 : decode cX0_nextStart 50 = .ok (.iload_n 3, 1) := by decide +kernel
theorem dX0_nextStart_51 : decode cX0_nextStart 51 = .ok (.iaload, 1) := by decide +kernel
theorem dX0_nextStart_52 : decode cX0_nextStart 52 = .ok (.imul, 1) := by decide +kernel
theorem dX0_nextStart_53 : decode cX0_nextStart 53 = .ok (.iadd, 1) := by decide +kernel
theorem dX0_nextStart_54 : decode cX0_nextStart 54 = .ok (.istore 5, 2) := by decide +kernel
theorem dX0_nextStart_56 : decode cX0_nextStart 56 = .ok (.iload_n 2, 1) := by decide +kernel
theorem dX0_nextStart_57 : decode cX0_nextStart 57 = .ok (.ifCond .lt 9, 3) := by decide +kernel
theorem dX0_nextStart_60 : decode cX0_nextStart 60 = .ok (.iload 5, 2) := by decide +kernel
theorem dX0_nextStart_62 : decode cX0_nextStart 62 = .ok (.iload_n 2, 1) := by decide +kernel
theorem dX0_nextStart_63 : decode cX0_nextStart 63 = .ok (.if_icmp .ge 6, 3) := by decide +kernel
theorem dX0_nextStart_66 : decode cX0_nextStart 66 = .ok (.iload 5, 2) := by decide +kernel
theorem dX0_nextStart_68 : decode cX0_nextStart 68 = .ok (.istore_n 2, 1) := by decide +kernel
theorem dX0_nextStart_69 : decode cX0_nextStart 69 = .ok (.iinc 3 1, 3) := by decide +kernel
theorem dX0_nextStart_72 : decode cX0_nextStart 72 = .ok (.goto (-57), 3) := by decide +kernel
theorem dX0_nextStart_75 : decode cX0_nextStart 75 = .ok (.iload_n 2, 1) := by decide +kernel
theorem dX0_nextStart_76 : decode cX0_nextStart 76 = .ok (.ireturn, 1) := by decide +kernel
abbrev cX0_room : ByteArray := prog_1_method_19_code
def yX0_room : MethodName := ⟨RX0, "room", "(I)I"⟩
theorem dX0_room_0 : decode cX0_room 0 = .ok (.iload_n 1, 1) := by decide +kernel
theorem dX0_room_1 : decode cX0_room 1 = .ok (.invokestatic 36, 3) := by decide +kernel
theorem dX0_room_4 : decode cX0_room 4 = .ok (.ifCond .eq 5, 3) := by decide +kernel
theorem dX0_room_7 : decode cX0_room 7 = .ok (.iconst (-1), 1) := by decide +kernel
theorem dX0_room_8 : decode cX0_room 8 = .ok (.ireturn, 1) := by decide +kernel
theorem dX0_room_9 : decode cX0_room 9 = .ok (.iconst 0, 1) := by decide +kernel
theorem dX0_room_10 : decode cX0_room 10 = .ok (.istore_n 2, 1) := by decide +kernel
theorem dX0_room_11 : decode cX0_room 11 = .ok (.iconst 0, 1) := by decide +kernel
theorem dX0_room_12 : decode cX0_room 12 = .ok (.istore_n 3, 1) := by decide +kernel
theorem dX0_room_13 : decode cX0_room 13 = .ok (.iload_n 3, 1) := by decide +kernel
theorem dX0_room_14 : decode cX0_room 14 = .ok (.iload_n 1, 1) := by decide +kernel
theorem dX0_room_15 : decode cX0_room 15 = .ok (.if_icmp .ge 26, 3) := by decide +kernel
theorem dX0_room_18 : decode cX0_room 18 = .ok (.aload_n 0, 1) := by decide +kernel
theorem dX0_room_19 : decode cX0_room 19 = .ok (.iload_n 1, 1) := by decide +kernel
theorem dX0_room_20 : decode cX0_room 20 = .ok (.iload_n 3, 1) := by decide +kernel
theorem dX0_room_21 : decode cX0_room 21 = .ok (.invokevirtual 40, 3) := by decide +kernel
theorem dX0_room_24 : decode cX0_room 24 = .ok (.istore 4, 2) := by decide +kernel
theorem dX0_room_26 : decode cX0_room 26 = .ok (.iload 4, 2) := by decide +kernel
theorem dX0_room_28 : decode cX0_room 28 = .ok (.iload_n 2, 1) := by decide +kernel
theorem dX0_room_29 : decode cX0_room 29 = .ok (.if_icmp .le 6, 3) := by decide +kernel
theorem dX0_room_32 : decode cX0_room 32 = .ok (.iload 4, 2) := by decide +kernel
theorem dX0_room_34 : decode cX0_room 34 = .ok (.istore_n 2, 1) := by decide +kernel
theorem dX0_room_35 : decode cX0_room 35 = .ok (.iinc 3 1, 3) := by decide +kernel
theorem dX0_room_38 : decode cX0_room 38 = .ok (.goto (-25), 3) := by decide +kernel
theorem dX0_room_41 : decode cX0_room 41 = .ok (.iload_n 2, 1) := by decide +kernel
theorem dX0_room_42 : decode cX0_room 42 = .ok (.ireturn, 1) := by decide +kernel
abbrev cX0_load : ByteArray := prog_1_method_20_code
def yX0_load : MethodName := ⟨RX0, "load", "()I"⟩
theorem dX0_load_0 : decode cX0_load 0 = .ok (.iconst 0, 1) := by decide +kernel
theorem dX0_load_1 : decode cX0_load 1 = .ok (.istore_n 1, 1) := by decide +kernel
theorem dX0_load_2 : decode cX0_load 2 = .ok (.iconst 0, 1) := by decide +kernel
theorem dX0_load_3 : decode cX0_load 3 = .ok (.istore_n 2, 1) := by decide +kernel
theorem dX0_load_4 : decode cX0_load 4 = .ok (.iload_n 2, 1) := by decide +kernel
theorem dX0_load_5 : decode cX0_load 5 = .ok (.bipush 10, 2) := by decide +kernel
theorem dX0_load_7 : decode cX0_load 7 = .ok (.if_icmp .ge 38, 3) := by decide +kernel
theorem dX0_load_10 : decode cX0_load 10 = .ok (.aload_n 0, 1) := by decide +kernel
theorem dX0_load_11 : decode cX0_load 11 = .ok (.getfield 7, 3) := by decide +kernel
theorem dX0_load_14 : decode cX0_load 14 = .ok (.iload_n 2, 1) := by decide +kernel
theorem dX0_load_15 : decode cX0_load 15 = .ok (.baload, 1) := by decide +kernel
theorem dX0_load_16 : decode cX0_load 16 = .ok (.ifCond .eq 23, 3) := by decide +kernel
theorem dX0_load_19 : decode cX0_load 19 = .ok (.iload_n 1, 1) := by decide +kernel
theorem dX0_load_20 : decode cX0_load 20 = .ok (.sipush 360, 3) := by decide +kernel
theorem dX0_load_23 : decode cX0_load 23 = .ok (.aload_n 0, 1) := by decide +kernel
theorem dX0_load_24 : decode cX0_load 24 = .ok (.getfield 13, 3) := by decide +kernel
theorem dX0_load_27 : decode cX0_load 27 = .ok (.iload_n 2, 1) := by decide +kernel
theorem dX0_load_28 : decode cX0_load 28 = .ok (.iaload, 1) := by decide +kernel
theorem dX0_load_29 : decode cX0_load 29 = .ok (.idiv, 1) := by decide +kernel
theorem dX0_load_30 : decode cX0_load 30 = .ok (.aload_n 0, 1) := by decide +kernel
theorem dX0_load_31 : decode cX0_load 31 = .ok (.getfield 17, 3) := by decide +kernel
theorem dX0_load_34 : decode cX0_load 34 = .ok (.iload_n 2, 1) := by decide +kernel
theorem dX0_load_35 : decode cX0_load 35 = .ok (.iaload, 1) := by decide +kernel
theorem dX0_load_36 : decode cX0_load 36 = .ok (.imul, 1) := by decide +kernel
theorem dX0_load_37 : decode cX0_load 37 = .ok (.iadd, 1) := by decide +kernel
theorem dX0_load_38 : decode cX0_load 38 = .ok (.istore_n 1, 1) := by decide +kernel
theorem dX0_load_39 : decode cX0_load 39 = .ok (.iinc 2 1, 3) := by decide +kernel
theorem dX0_load_42 : decode cX0_load 42 = .ok (.goto (-38), 3) := by decide +kernel
theorem dX0_load_45 : decode cX0_load 45 = .ok (.iload_n 1, 1) := by decide +kernel
theorem dX0_load_46 : decode cX0_load 46 = .ok (.ireturn, 1) := by decide +kernel
theorem q16 : (Jvm.Cond.initialized "StrictOffsets") ∈ lw_all := lw_g (lw_at lw_m0 1 rfl) rfl
theorem q19 : (Jvm.Cond.instantiable "StrictOffsets" (5 : Nat)) ∈ lw_all := lw_g (lw_at lw_m0 4 rfl) rfl
theorem q21 : (Jvm.Cond.instanceMethod ({ cls := "StrictOffsets", name := "<init>", desc := "()V" } : Jvm.MethodName)) ∈ lw_all := lw_g (lw_at lw_m0 6 rfl) rfl
theorem q22 : (Jvm.Cond.code ({ cls := "StrictOffsets", name := "<init>", desc := "()V" } : Jvm.MethodName) prog_1_method_1_code (1 : Nat) (Option.none : Option Jvm.ClassFile.FieldType)) ∈ lw_all := lw_g (lw_at lw_m0 7 rfl) rfl
theorem q23 : (Jvm.Cond.methodLink "StrictOffsets" (1 : Nat) ({ cls := "java/lang/Object", name := "<init>", desc := "()V" } : Jvm.MethodName)) ∈ lw_all := lw_g (lw_at lw_m0 8 rfl) rfl
theorem q26 : (Jvm.Cond.fieldLink "StrictOffsets" (7 : Nat) "StrictOffsets" "used" "[Z") ∈ lw_all := lw_g (lw_at lw_m0 11 rfl) rfl
theorem q27 : (Jvm.Cond.fieldLink "StrictOffsets" (13 : Nat) "StrictOffsets" "period" "[I") ∈ lw_all := lw_g (lw_at lw_m0 12 rfl) rfl
theorem q28 : (Jvm.Cond.fieldLink "StrictOffsets" (17 : Nat) "StrictOffsets" "length" "[I") ∈ lw_all := lw_g (lw_at lw_m0 13 rfl) rfl
theorem q29 : (Jvm.Cond.fieldLink "StrictOffsets" (20 : Nat) "StrictOffsets" "offset" "[I") ∈ lw_all := lw_g (lw_at lw_m0 14 rfl) rfl
theorem q30 : (Jvm.Cond.fieldLink "StrictOffsets" (23 : Nat) "StrictOffsets" "jobs" "I") ∈ lw_all := lw_g (lw_at lw_m0 15 rfl) rfl
theorem q31 : (Jvm.Cond.laysFinal "StrictOffsets" "StrictOffsets" "used" "[Z") ∈ lw_all := lw_g (lw_at lw_m0 16 rfl) rfl
theorem q32 : (Jvm.Cond.soleField "StrictOffsets" "used") ∈ lw_all := lw_g (lw_at lw_m0 17 rfl) rfl
theorem q33 : (Jvm.Cond.laysFinal "StrictOffsets" "StrictOffsets" "period" "[I") ∈ lw_all := lw_g (lw_at lw_m0 18 rfl) rfl
theorem q34 : (Jvm.Cond.soleField "StrictOffsets" "period") ∈ lw_all := lw_g (lw_at lw_m0 19 rfl) rfl
theorem q35 : (Jvm.Cond.laysFinal "StrictOffsets" "StrictOffsets" "length" "[I") ∈ lw_all := lw_g (lw_at lw_m0 20 rfl) rfl
theorem q36 : (Jvm.Cond.soleField "StrictOffsets" "length") ∈ lw_all := lw_g (lw_at lw_m0 21 rfl) rfl
theorem q37 : (Jvm.Cond.laysFinal "StrictOffsets" "StrictOffsets" "offset" "[I") ∈ lw_all := lw_g (lw_at lw_m0 22 rfl) rfl
theorem q38 : (Jvm.Cond.soleField "StrictOffsets" "offset") ∈ lw_all := lw_g (lw_at lw_m0 23 rfl) rfl
theorem q39 : (Jvm.Cond.lays "StrictOffsets" "StrictOffsets" "jobs" "I") ∈ lw_all := lw_g (lw_at lw_m0 24 rfl) rfl
theorem q40 : (Jvm.Cond.soleField "StrictOffsets" "jobs") ∈ lw_all := lw_g (lw_at lw_m0 25 rfl) rfl
theorem q41 : (Jvm.Cond.superclass "StrictOffsets" "java/lang/Object") ∈ lw_all := lw_g (lw_at lw_m0 26 rfl) rfl
theorem q45 : (Jvm.Cond.instanceMethod yX0_admit) ∈ lw_all := lw_g (lw_at lw_m0 30 rfl) rfl
theorem q46 : (Jvm.Cond.selects "StrictOffsets" yX0_admit yX0_admit) ∈ lw_all := lw_g (lw_at lw_m0 31 rfl) rfl
theorem q47 : (Jvm.Cond.code yX0_admit prog_1_method_9_code (5 : Nat) (Option.some Jvm.ClassFile.FieldType.int)) ∈ lw_all := lw_g (lw_at lw_m0 32 rfl) rfl
theorem q48 : (Jvm.Cond.methodLink "StrictOffsets" (36 : Nat) ({ cls := "StrictOffsets", name := "badPeriod", desc := "(I)Z" } : Jvm.MethodName)) ∈ lw_all := lw_g (lw_at lw_m0 33 rfl) rfl
theorem q49 : (Jvm.Cond.static ({ cls := "StrictOffsets", name := "badPeriod", desc := "(I)Z" } : Jvm.MethodName)) ∈ lw_all := lw_g (lw_at lw_m0 34 rfl) rfl
theorem q50 : (Jvm.Cond.code ({ cls := "StrictOffsets", name := "badPeriod", desc := "(I)Z" } : Jvm.MethodName) prog_1_method_2_code (1 : Nat) (Option.some Jvm.ClassFile.FieldType.boolean)) ∈ lw_all := lw_g (lw_at lw_m0 35 rfl) rfl
theorem q51 : (Jvm.Cond.methodLink "StrictOffsets" (40 : Nat) ({ cls := "StrictOffsets", name := "roomAt", desc := "(II)I" } : Jvm.MethodName)) ∈ lw_all := lw_g (lw_at lw_m0 36 rfl) rfl
theorem q52 : (Jvm.Cond.privateMethod ({ cls := "StrictOffsets", name := "roomAt", desc := "(II)I" } : Jvm.MethodName)) ∈ lw_tbl := lw_at lw_m0 37 rfl
theorem q53 : (Jvm.Cond.instanceMethod ({ cls := "StrictOffsets", name := "roomAt", desc := "(II)I" } : Jvm.MethodName)) ∈ lw_all := lw_g (lw_at lw_m0 38 rfl) rfl
theorem q54 : (Jvm.Cond.code ({ cls := "StrictOffsets", name := "roomAt", desc := "(II)I" } : Jvm.MethodName) prog_1_method_7_code (6 : Nat) (Option.some Jvm.ClassFile.FieldType.int)) ∈ lw_all := lw_g (lw_at lw_m0 39 rfl) rfl
theorem q55 : (Jvm.Cond.methodLink "StrictOffsets" (32 : Nat) ({ cls := "StrictOffsets", name := "roomBeside", desc := "(III)I" } : Jvm.MethodName)) ∈ lw_all := lw_g (lw_at lw_m0 40 rfl) rfl
theorem q56 : (Jvm.Cond.privateMethod ({ cls := "StrictOffsets", name := "roomBeside", desc := "(III)I" } : Jvm.MethodName)) ∈ lw_tbl := lw_at lw_m0 41 rfl
theorem q57 : (Jvm.Cond.instanceMethod ({ cls := "StrictOffsets", name := "roomBeside", desc := "(III)I" } : Jvm.MethodName)) ∈ lw_all := lw_g (lw_at lw_m0 42 rfl) rfl
theorem q58 : (Jvm.Cond.code ({ cls := "StrictOffsets", name := "roomBeside", desc := "(III)I" } : Jvm.MethodName) prog_1_method_6_code (6 : Nat) (Option.some Jvm.ClassFile.FieldType.int)) ∈ lw_all := lw_g (lw_at lw_m0 43 rfl) rfl
theorem q59 : (Jvm.Cond.methodLink "StrictOffsets" (28 : Nat) ({ cls := "StrictOffsets", name := "gcd", desc := "(II)I" } : Jvm.MethodName)) ∈ lw_all := lw_g (lw_at lw_m0 44 rfl) rfl
theorem q60 : (Jvm.Cond.static ({ cls := "StrictOffsets", name := "gcd", desc := "(II)I" } : Jvm.MethodName)) ∈ lw_all := lw_g (lw_at lw_m0 45 rfl) rfl
theorem q61 : (Jvm.Cond.code ({ cls := "StrictOffsets", name := "gcd", desc := "(II)I" } : Jvm.MethodName) prog_1_method_5_code (6 : Nat) (Option.some Jvm.ClassFile.FieldType.int)) ∈ lw_all := lw_g (lw_at lw_m0 46 rfl) rfl
theorem q62 : (Jvm.Cond.methodLink "StrictOffsets" (43 : Nat) ({ cls := "StrictOffsets", name := "take", desc := "(III)I" } : Jvm.MethodName)) ∈ lw_all := lw_g (lw_at lw_m0 47 rfl) rfl
theorem q63 : (Jvm.Cond.privateMethod ({ cls := "StrictOffsets", name := "take", desc := "(III)I" } : Jvm.MethodName)) ∈ lw_tbl := lw_at lw_m0 48 rfl
theorem q64 : (Jvm.Cond.instanceMethod ({ cls := "StrictOffsets", name := "take", desc := "(III)I" } : Jvm.MethodName)) ∈ lw_all := lw_g (lw_at lw_m0 49 rfl) rfl
theorem q65 : (Jvm.Cond.code ({ cls := "StrictOffsets", name := "take", desc := "(III)I" } : Jvm.MethodName) prog_1_method_8_code (5 : Nat) (Option.some Jvm.ClassFile.FieldType.int)) ∈ lw_all := lw_g (lw_at lw_m0 50 rfl) rfl
theorem q67 : (Jvm.Cond.instanceMethod ({ cls := "StrictOffsets", name := "admitAt", desc := "(III)I" } : Jvm.MethodName)) ∈ lw_all := lw_g (lw_at lw_m0 52 rfl) rfl
theorem q68 : (Jvm.Cond.selects "StrictOffsets" ({ cls := "StrictOffsets", name := "admitAt", desc := "(III)I" } : Jvm.MethodName) ({ cls := "StrictOffsets", name := "admitAt", desc := "(III)I" } : Jvm.MethodName)) ∈ lw_all := lw_g (lw_at lw_m0 53 rfl) rfl
theorem q69 : (Jvm.Cond.code ({ cls := "StrictOffsets", name := "admitAt", desc := "(III)I" } : Jvm.MethodName) prog_1_method_10_code (5 : Nat) (Option.some Jvm.ClassFile.FieldType.int)) ∈ lw_all := lw_g (lw_at lw_m0 54 rfl) rfl
theorem q71 : (Jvm.Cond.instanceMethod ({ cls := "StrictOffsets", name := "remove", desc := "(I)I" } : Jvm.MethodName)) ∈ lw_all := lw_g (lw_at lw_m0 56 rfl) rfl
theorem q72 : (Jvm.Cond.selects "StrictOffsets" ({ cls := "StrictOffsets", name := "remove", desc := "(I)I" } : Jvm.MethodName) ({ cls := "StrictOffsets", name := "remove", desc := "(I)I" } : Jvm.MethodName)) ∈ lw_all := lw_g (lw_at lw_m0 57 rfl) rfl
theorem q73 : (Jvm.Cond.code ({ cls := "StrictOffsets", name := "remove", desc := "(I)I" } : Jvm.MethodName) prog_1_method_11_code (2 : Nat) (Option.some Jvm.ClassFile.FieldType.int)) ∈ lw_all := lw_g (lw_at lw_m0 58 rfl) rfl
theorem q74 : (Jvm.Cond.methodLink "StrictOffsets" (46 : Nat) ({ cls := "StrictOffsets", name := "noJob", desc := "(I)Z" } : Jvm.MethodName)) ∈ lw_all := lw_g (lw_at lw_m0 59 rfl) rfl
theorem q75 : (Jvm.Cond.privateMethod ({ cls := "StrictOffsets", name := "noJob", desc := "(I)Z" } : Jvm.MethodName)) ∈ lw_tbl := lw_at lw_m0 60 rfl
theorem q76 : (Jvm.Cond.instanceMethod ({ cls := "StrictOffsets", name := "noJob", desc := "(I)Z" } : Jvm.MethodName)) ∈ lw_all := lw_g (lw_at lw_m0 61 rfl) rfl
theorem q77 : (Jvm.Cond.code ({ cls := "StrictOffsets", name := "noJob", desc := "(I)Z" } : Jvm.MethodName) prog_1_method_4_code (2 : Nat) (Option.some Jvm.ClassFile.FieldType.boolean)) ∈ lw_all := lw_g (lw_at lw_m0 62 rfl) rfl
theorem q79 : (Jvm.Cond.instanceMethod ({ cls := "StrictOffsets", name := "offset", desc := "(I)I" } : Jvm.MethodName)) ∈ lw_all := lw_g (lw_at lw_m0 64 rfl) rfl
theorem q80 : (Jvm.Cond.selects "StrictOffsets" ({ cls := "StrictOffsets", name := "offset", desc := "(I)I" } : Jvm.MethodName) ({ cls := "StrictOffsets", name := "offset", desc := "(I)I" } : Jvm.MethodName)) ∈ lw_all := lw_g (lw_at lw_m0 65 rfl) rfl
theorem q81 : (Jvm.Cond.code ({ cls := "StrictOffsets", name := "offset", desc := "(I)I" } : Jvm.MethodName) prog_1_method_12_code (2 : Nat) (Option.some Jvm.ClassFile.FieldType.int)) ∈ lw_all := lw_g (lw_at lw_m0 66 rfl) rfl
theorem q83 : (Jvm.Cond.instanceMethod ({ cls := "StrictOffsets", name := "running", desc := "(I)I" } : Jvm.MethodName)) ∈ lw_all := lw_g (lw_at lw_m0 68 rfl) rfl
theorem q84 : (Jvm.Cond.selects "StrictOffsets" ({ cls := "StrictOffsets", name := "running", desc := "(I)I" } : Jvm.MethodName) ({ cls := "StrictOffsets", name := "running", desc := "(I)I" } : Jvm.MethodName)) ∈ lw_all := lw_g (lw_at lw_m0 69 rfl) rfl
theorem q85 : (Jvm.Cond.code ({ cls := "StrictOffsets", name := "running", desc := "(I)I" } : Jvm.MethodName) prog_1_method_13_code (3 : Nat) (Option.some Jvm.ClassFile.FieldType.int)) ∈ lw_all := lw_g (lw_at lw_m0 70 rfl) rfl
theorem q86 : (Jvm.Cond.methodLink "StrictOffsets" (49 : Nat) ({ cls := "StrictOffsets", name := "badTime", desc := "(I)Z" } : Jvm.MethodName)) ∈ lw_all := lw_g (lw_at lw_m0 71 rfl) rfl
theorem q87 : (Jvm.Cond.static ({ cls := "StrictOffsets", name := "badTime", desc := "(I)Z" } : Jvm.MethodName)) ∈ lw_all := lw_g (lw_at lw_m0 72 rfl) rfl
theorem q88 : (Jvm.Cond.code ({ cls := "StrictOffsets", name := "badTime", desc := "(I)Z" } : Jvm.MethodName) prog_1_method_3_code (1 : Nat) (Option.some Jvm.ClassFile.FieldType.boolean)) ∈ lw_all := lw_g (lw_at lw_m0 73 rfl) rfl
theorem q89 : (Jvm.Cond.constant "StrictOffsets" (27 : Nat) (1000000000 : Int32)) ∈ lw_all := lw_g (lw_at lw_m0 74 rfl) rfl
theorem q91 : (Jvm.Cond.instanceMethod ({ cls := "StrictOffsets", name := "free", desc := "(II)I" } : Jvm.MethodName)) ∈ lw_all := lw_g (lw_at lw_m0 76 rfl) rfl
theorem q92 : (Jvm.Cond.selects "StrictOffsets" ({ cls := "StrictOffsets", name := "free", desc := "(II)I" } : Jvm.MethodName) ({ cls := "StrictOffsets", name := "free", desc := "(II)I" } : Jvm.MethodName)) ∈ lw_all := lw_g (lw_at lw_m0 77 rfl) rfl
theorem q93 : (Jvm.Cond.code ({ cls := "StrictOffsets", name := "free", desc := "(II)I" } : Jvm.MethodName) prog_1_method_15_code (7 : Nat) (Option.some Jvm.ClassFile.FieldType.int)) ∈ lw_all := lw_g (lw_at lw_m0 78 rfl) rfl
theorem q94 : (Jvm.Cond.methodLink "StrictOffsets" (52 : Nat) ({ cls := "StrictOffsets", name := "ranBefore", desc := "(II)I" } : Jvm.MethodName)) ∈ lw_all := lw_g (lw_at lw_m0 79 rfl) rfl
theorem q95 : (Jvm.Cond.privateMethod ({ cls := "StrictOffsets", name := "ranBefore", desc := "(II)I" } : Jvm.MethodName)) ∈ lw_tbl := lw_at lw_m0 80 rfl
theorem q96 : (Jvm.Cond.instanceMethod ({ cls := "StrictOffsets", name := "ranBefore", desc := "(II)I" } : Jvm.MethodName)) ∈ lw_all := lw_g (lw_at lw_m0 81 rfl) rfl
theorem q97 : (Jvm.Cond.code ({ cls := "StrictOffsets", name := "ranBefore", desc := "(II)I" } : Jvm.MethodName) prog_1_method_14_code (5 : Nat) (Option.some Jvm.ClassFile.FieldType.int)) ∈ lw_all := lw_g (lw_at lw_m0 82 rfl) rfl
theorem q99 : (Jvm.Cond.instanceMethod ({ cls := "StrictOffsets", name := "starts", desc := "(III)I" } : Jvm.MethodName)) ∈ lw_all := lw_g (lw_at lw_m0 84 rfl) rfl
theorem q100 : (Jvm.Cond.selects "StrictOffsets" ({ cls := "StrictOffsets", name := "starts", desc := "(III)I" } : Jvm.MethodName) ({ cls := "StrictOffsets", name := "starts", desc := "(III)I" } : Jvm.MethodName)) ∈ lw_all := lw_g (lw_at lw_m0 85 rfl) rfl
theorem q101 : (Jvm.Cond.code ({ cls := "StrictOffsets", name := "starts", desc := "(III)I" } : Jvm.MethodName) prog_1_method_17_code (6 : Nat) (Option.some Jvm.ClassFile.FieldType.int)) ∈ lw_all := lw_g (lw_at lw_m0 86 rfl) rfl
theorem q102 : (Jvm.Cond.methodLink "StrictOffsets" (55 : Nat) ({ cls := "StrictOffsets", name := "begunBefore", desc := "(II)I" } : Jvm.MethodName)) ∈ lw_all := lw_g (lw_at lw_m0 87 rfl) rfl
theorem q103 : (Jvm.Cond.privateMethod ({ cls := "StrictOffsets", name := "begunBefore", desc := "(II)I" } : Jvm.MethodName)) ∈ lw_tbl := lw_at lw_m0 88 rfl
theorem q104 : (Jvm.Cond.instanceMethod ({ cls := "StrictOffsets", name := "begunBefore", desc := "(II)I" } : Jvm.MethodName)) ∈ lw_all := lw_g (lw_at lw_m0 89 rfl) rfl
theorem q105 : (Jvm.Cond.code ({ cls := "StrictOffsets", name := "begunBefore", desc := "(II)I" } : Jvm.MethodName) prog_1_method_16_code (4 : Nat) (Option.some Jvm.ClassFile.FieldType.int)) ∈ lw_all := lw_g (lw_at lw_m0 90 rfl) rfl
theorem q107 : (Jvm.Cond.instanceMethod ({ cls := "StrictOffsets", name := "nextStart", desc := "(I)I" } : Jvm.MethodName)) ∈ lw_all := lw_g (lw_at lw_m0 92 rfl) rfl
theorem q108 : (Jvm.Cond.selects "StrictOffsets" ({ cls := "StrictOffsets", name := "nextStart", desc := "(I)I" } : Jvm.MethodName) ({ cls := "StrictOffsets", name := "nextStart", desc := "(I)I" } : Jvm.MethodName)) ∈ lw_all := lw_g (lw_at lw_m0 93 rfl) rfl
theorem q109 : (Jvm.Cond.code ({ cls := "StrictOffsets", name := "nextStart", desc := "(I)I" } : Jvm.MethodName) prog_1_method_18_code (6 : Nat) (Option.some Jvm.ClassFile.FieldType.int)) ∈ lw_all := lw_g (lw_at lw_m0 94 rfl) rfl
theorem q111 : (Jvm.Cond.instanceMethod ({ cls := "StrictOffsets", name := "room", desc := "(I)I" } : Jvm.MethodName)) ∈ lw_all := lw_g (lw_at lw_m0 96 rfl) rfl
theorem q112 : (Jvm.Cond.selects "StrictOffsets" ({ cls := "StrictOffsets", name := "room", desc := "(I)I" } : Jvm.MethodName) ({ cls := "StrictOffsets", name := "room", desc := "(I)I" } : Jvm.MethodName)) ∈ lw_all := lw_g (lw_at lw_m0 97 rfl) rfl
theorem q113 : (Jvm.Cond.code ({ cls := "StrictOffsets", name := "room", desc := "(I)I" } : Jvm.MethodName) prog_1_method_19_code (5 : Nat) (Option.some Jvm.ClassFile.FieldType.int)) ∈ lw_all := lw_g (lw_at lw_m0 98 rfl) rfl
theorem q115 : (Jvm.Cond.instanceMethod ({ cls := "StrictOffsets", name := "load", desc := "()I" } : Jvm.MethodName)) ∈ lw_all := lw_g (lw_at lw_m0 100 rfl) rfl
theorem q116 : (Jvm.Cond.selects "StrictOffsets" ({ cls := "StrictOffsets", name := "load", desc := "()I" } : Jvm.MethodName) ({ cls := "StrictOffsets", name := "load", desc := "()I" } : Jvm.MethodName)) ∈ lw_all := lw_g (lw_at lw_m0 101 rfl) rfl
theorem q117 : (Jvm.Cond.code ({ cls := "StrictOffsets", name := "load", desc := "()I" } : Jvm.MethodName) prog_1_method_20_code (3 : Nat) (Option.some Jvm.ClassFile.FieldType.int)) ∈ lw_all := lw_g (lw_at lw_m0 102 rfl) rfl
theorem in_X0 : ∀ w ∈ wsX00, w ∈ lw_all := lw_in wsX00 [31, 33, 35, 37, 39] (by decide +kernel) (by decide +kernel)
end
section
/-! StrictOffsetsModel -/
set_option maxRecDepth 100000
def RX1 : String := "StrictOffsetsModel"
def TX1 : u_T := fun k => match k with
  | 0 => ("StrictOffsetsModel", "periods", "[I", true)
  | 1 => ("StrictOffsetsModel", "lengths", "[I", true)
  | _ => ("StrictOffsetsModel", "offsets", "[I", true)
def tyX1 : Nat → FieldType := fun k => match k with
  | 0 => .array .int
  | 1 => .array .int
  | _ => .array .int
abbrev wsX10 : List Cond := u_ws RX1 TX1 3
theorem nmX1 : ∀ a, a < 3 → ∀ b, b < 3 → a ≠ b → (TX1 a).2.1 ≠ (TX1 b).2.1 := by decide +kernel
theorem tyX1_ok : ∀ k, k < 3 → parseFieldDescriptor (TX1 k).2.2.1 = some (tyX1 k) := by decide +kernel
abbrev cX1_init : ByteArray := prog_3_method_1_code
def yX1_init : MethodName := ⟨RX1, "<init>", "()V"⟩
theorem dX1_init_0 : decode cX1_init 0 = .ok (.aload_n 0, 1) := by decide +kernel
theorem dX1_init_1 : decode cX1_init 1 = .ok (.invokespecial 1, 3) := by decide +kernel
theorem dX1_init_4 : decode cX1_init 4 = .ok (.aload_n 0, 1) := by decide +kernel
theorem dX1_init_5 : decode cX1_init 5 = .ok (.bipush 10, 2) := by decide +kernel
theorem dX1_init_7 : decode cX1_init 7 = .ok (.newarray .int, 2) := by decide +kernel
theorem dX1_init_9 : decode cX1_init 9 = .ok (.putfield 7, 3) := by decide +kernel
theorem dX1_init_12 : decode cX1_init 12 = .ok (.aload_n 0, 1) := by decide +kernel
theorem dX1_init_13 : decode cX1_init 13 = .ok (.bipush 10, 2) := by decide +kernel
theorem dX1_init_15 : decode cX1_init 15 = .ok (.newarray .int, 2) := by decide +kernel
theorem dX1_init_17 : decode cX1_init 17 = .ok (.putfield 13, 3) := by decide +kernel
theorem dX1_init_20 : decode cX1_init 20 = .ok (.aload_n 0, 1) := by decide +kernel
theorem dX1_init_21 : decode cX1_init 21 = .ok (.bipush 10, 2) := by decide +kernel
theorem dX1_init_23 : decode cX1_init 23 = .ok (.newarray .int, 2) := by decide +kernel
theorem dX1_init_25 : decode cX1_init 25 = .ok (.putfield 16, 3) := by decide +kernel
theorem dX1_init_28 : decode cX1_init 28 = .ok (.return_, 1) := by decide +kernel
abbrev cX1_admit : ByteArray := prog_3_method_9_code
def yX1_admit : MethodName := ⟨RX1, so_adm, "(II)I"⟩
theorem dX1_admit_0 : decode cX1_admit 0 = .ok (.aload_n 0, 1) := by decide +kernel
theorem dX1_admit_1 : decode cX1_admit 1 = .ok (.iload_n 1, 1) := by decide +kernel
theorem dX1_admit_2 : decode cX1_admit 2 = .ok (.invokevirtual 24, 3) := by decide +kernel
theorem dX1_admit_5 : decode cX1_admit 5 = .ok (.ifCond .eq 5, 3) := by decide +kernel
theorem dX1_admit_8 : decode cX1_admit 8 = .ok (.iconst (-1), 1) := by decide +kernel
theorem dX1_admit_9 : decode cX1_admit 9 = .ok (.ireturn, 1) := by decide +kernel
theorem dX1_admit_10 : decode cX1_admit 10 = .ok (.iload_n 2, 1) := by decide +kernel
theorem dX1_admit_11 : decode cX1_admit 11 = .ok (.iconst 1, 1) := by decide +kernel
theorem dX1_admit_12 : decode cX1_admit 12 = .ok (.if_icmp .lt 8, 3) := by decide +kernel
theorem dX1_admit_15 : decode cX1_admit 15 = .ok (.iload_n 2, 1) := by decide +kernel
theorem dX1_admit_16 : decode cX1_admit 16 = .ok (.iload_n 1, 1) := by decide +kernel
theorem dX1_admit_17 : decode cX1_admit 17 = .ok (.if_icmp .le 6, 3) := by decide +kernel
theorem dX1_admit_20 : decode cX1_admit 20 = .ok (.bipush (-2), 2) := by decide +kernel
theorem dX1_admit_22 : decode cX1_admit 22 = .ok (.ireturn, 1) := by decide +kernel
theorem dX1_admit_23 : decode cX1_admit 23 = .ok (.aload_n 0, 1) := by decide +kernel
theorem dX1_admit_24 : decode cX1_admit 24 = .ok (.invokevirtual 28, 3) := by decide +kernel
theorem dX1_admit_27 : decode cX1_admit 27 = .ok (.bipush 10, 2) := by decide +kernel
theorem dX1_admit_29 : decode cX1_admit 29 = .ok (.if_icmp .ne 6, 3) := by decide +kernel
theorem dX1_admit_32 : decode cX1_admit 32 = .ok (.bipush (-4), 2) := by decide +kernel
theorem dX1_admit_34 : decode cX1_admit 34 = .ok (.ireturn, 1) := by decide +kernel
theorem dX1_admit_35 : decode cX1_admit 35 = .ok (.iconst 0, 1) := by decide +kernel
theorem dX1_admit_36 : decode cX1_admit 36 = .ok (.istore_n 3, 1) := by decide +kernel
theorem dX1_admit_37 : decode cX1_admit 37 = .ok (.iload_n 3, 1) := by decide +kernel
theorem dX1_admit_38 : decode cX1_admit 38 = .ok (.iload_n 1, 1) := by decide +kernel
theorem dX1_admit_39 : decode cX1_admit 39 = .ok (.if_icmp .ge 27, 3) := by decide +kernel
theorem dX1_admit_42 : decode cX1_admit 42 = .ok (.aload_n 0, 1) := by decide +kernel
theorem dX1_admit_43 : decode cX1_admit 43 = .ok (.iload_n 1, 1) := by decide +kernel
theorem dX1_admit_44 : decode cX1_admit 44 = .ok (.iload_n 3, 1) := by decide +kernel
theorem dX1_admit_45 : decode cX1_admit 45 = .ok (.invokevirtual 32, 3) := by decide +kernel
theorem dX1_admit_48 : decode cX1_admit 48 = .ok (.iload_n 2, 1) := by decide +kernel
theorem dX1_admit_49 : decode cX1_admit 49 = .ok (.if_icmp .lt 11, 3) := by decide +kernel
theorem dX1_admit_52 : decode cX1_admit 52 = .ok (.aload_n 0, 1) := by decide +kernel
theorem dX1_admit_53 : decode cX1_admit 53 = .ok (.iload_n 1, 1) := by decide +kernel
theorem dX1_admit_54 : decode cX1_admit 54 = .ok (.iload_n 2, 1) := by decide +kernel
theorem dX1_admit_55 : decode cX1_admit 55 = .ok (.iload_n 3, 1) := by decide +kernel
theorem dX1_admit_56 : decode cX1_admit 56 = .ok (.invokevirtual 36, 3) := by decide +kernel
theorem dX1_admit_59 : decode cX1_admit 59 = .ok (.ireturn, 1) := by decide +kernel
theorem dX1_admit_60 : decode cX1_admit 60 = .ok (.iinc 3 1, 3) := by decide +kernel
theorem dX1_admit_63 : decode cX1_admit 63 = .ok (.goto (-26), 3) := by decide +kernel
theorem dX1_admit_66 : decode cX1_admit 66 = .ok (.bipush (-5), 2) := by decide +kernel
theorem dX1_admit_68 : decode cX1_admit 68 = .ok (.ireturn, 1) := by decide +kernel
abbrev cX1_badPeriod : ByteArray := prog_3_method_2_code
def yX1_badPeriod : MethodName := ⟨RX1, "badPeriod", "(I)Z"⟩
theorem dX1_badPeriod_0 : decode cX1_badPeriod 0 = .ok (.iload_n 1, 1) := by decide +kernel
theorem dX1_badPeriod_1 : decode cX1_badPeriod 1 = .ok (.iconst 2, 1) := by decide +kernel
theorem dX1_badPeriod_2 : decode cX1_badPeriod 2 = .ok (.if_icmp .lt 10, 3) := by decide +kernel
theorem dX1_badPeriod_5 : decode cX1_badPeriod 5 = .ok (.iload_n 1, 1) := by decide +kernel
theorem dX1_badPeriod_6 : decode cX1_badPeriod 6 = .ok (.sipush 360, 3) := by decide +kernel
theorem dX1_badPeriod_9 : decode cX1_badPeriod 9 = .ok (.if_icmp .le 5, 3) := by decide +kernel
theorem dX1_badPeriod_12 : decode cX1_badPeriod 12 = .ok (.iconst 1, 1) := by decide +kernel
theorem dX1_badPeriod_13 : decode cX1_badPeriod 13 = .ok (.ireturn, 1) := by decide +kernel
theorem dX1_badPeriod_14 : decode cX1_badPeriod 14 = .ok (.sipush 360, 3) := by decide +kernel
theorem dX1_badPeriod_17 : decode cX1_badPeriod 17 = .ok (.iload_n 1, 1) := by decide +kernel
theorem dX1_badPeriod_18 : decode cX1_badPeriod 18 = .ok (.irem, 1) := by decide +kernel
theorem dX1_badPeriod_19 : decode cX1_badPeriod 19 = .ok (.ifCond .eq 7, 3) := by decide +kernel
theorem dX1_badPeriod_22 : decode cX1_badPeriod 22 = .ok (.iconst 1, 1) := by decide +kernel
theorem dX1_badPeriod_23 : decode cX1_badPeriod 23 = .ok (.goto 4, 3) := by decide +kernel
theorem dX1_badPeriod_26 : decode cX1_badPeriod 26 = .ok (.iconst 0, 1) := by decide +kernel
theorem dX1_badPeriod_27 : decode cX1_badPeriod 27 = .ok (.ireturn, 1) := by decide +kernel
abbrev cX1_count : ByteArray := prog_3_method_7_code
def yX1_count : MethodName := ⟨RX1, "count", "()I"⟩
theorem dX1_count_0 : decode cX1_count 0 = .ok (.iconst 0, 1) := by decide +kernel
theorem dX1_count_1 : decode cX1_count 1 = .ok (.istore_n 1, 1) := by decide +kernel
theorem dX1_count_2 : decode cX1_count 2 = .ok (.iconst 0, 1) := by decide +kernel
theorem dX1_count_3 : decode cX1_count 3 = .ok (.istore_n 2, 1) := by decide +kernel
theorem dX1_count_4 : decode cX1_count 4 = .ok (.iload_n 2, 1) := by decide +kernel
theorem dX1_count_5 : decode cX1_count 5 = .ok (.bipush 10, 2) := by decide +kernel
theorem dX1_count_7 : decode cX1_count 7 = .ok (.if_icmp .ge 21, 3) := by decide +kernel
theorem dX1_count_10 : decode cX1_count 10 = .ok (.aload_n 0, 1) := by decide +kernel
theorem dX1_count_11 : decode cX1_count 11 = .ok (.getfield 7, 3) := by decide +kernel
theorem dX1_count_14 : decode cX1_count 14 = .ok (.iload_n 2, 1) := by decide +kernel
theorem dX1_count_15 : decode cX1_count 15 = .ok (.iaload, 1) := by decide +kernel
theorem dX1_count_16 : decode cX1_count 16 = .ok (.ifCond .eq 6, 3) := by decide +kernel
theorem dX1_count_19 : decode cX1_count 19 = .ok (.iinc 1 1, 3) := by decide +kernel
theorem dX1_count_22 : decode cX1_count 22 = .ok (.iinc 2 1, 3) := by decide +kernel
theorem dX1_count_25 : decode cX1_count 25 = .ok (.goto (-21), 3) := by decide +kernel
theorem dX1_count_28 : decode cX1_count 28 = .ok (.iload_n 1, 1) := by decide +kernel
theorem dX1_count_29 : decode cX1_count 29 = .ok (.ireturn, 1) := by decide +kernel
abbrev cX1_longest : ByteArray := prog_3_method_6_code
def yX1_longest : MethodName := ⟨RX1, "longest", "(II)I"⟩
theorem dX1_longest_0 : decode cX1_longest 0 = .ok (.iconst 0, 1) := by decide +kernel
theorem dX1_longest_1 : decode cX1_longest 1 = .ok (.istore_n 3, 1) := by decide +kernel
theorem dX1_longest_2 : decode cX1_longest 2 = .ok (.iconst 0, 1) := by decide +kernel
theorem dX1_longest_3 : decode cX1_longest 3 = .ok (.istore 4, 2) := by decide +kernel
theorem dX1_longest_5 : decode cX1_longest 5 = .ok (.iload 4, 2) := by decide +kernel
theorem dX1_longest_7 : decode cX1_longest 7 = .ok (.iload_n 1, 1) := by decide +kernel
theorem dX1_longest_8 : decode cX1_longest 8 = .ok (.if_icmp .ge 85, 3) := by decide +kernel
theorem dX1_longest_11 : decode cX1_longest 11 = .ok (.iload_n 3, 1) := by decide +kernel
theorem dX1_longest_12 : decode cX1_longest 12 = .ok (.iload 4, 2) := by decide +kernel
theorem dX1_longest_14 : decode cX1_longest 14 = .ok (.if_icmp .ne 7, 3) := by decide +kernel
theorem dX1_longest_17 : decode cX1_longest 17 = .ok (.iconst 1, 1) := by decide +kernel
theorem dX1_longest_18 : decode cX1_longest 18 = .ok (.goto 4, 3) := by decide +kernel
theorem dX1_longest_21 : decode cX1_longest 21 = .ok (.iconst 0, 1) := by decide +kernel
theorem dX1_longest_22 : decode cX1_longest 22 = .ok (.istore 5, 2) := by decide +kernel
theorem dX1_longest_24 : decode cX1_longest 24 = .ok (.iload_n 2, 1) := by decide +kernel
theorem dX1_longest_25 : decode cX1_longest 25 = .ok (.iload 4, 2) := by decide +kernel
theorem dX1_longest_27 : decode cX1_longest 27 = .ok (.iadd, 1) := by decide +kernel
theorem dX1_longest_28 : decode cX1_longest 28 = .ok (.istore 6, 2) := by decide +kernel
theorem dX1_longest_30 : decode cX1_longest 30 = .ok (.iload 6, 2) := by decide +kernel
theorem dX1_longest_32 : decode cX1_longest 32 = .ok (.iload_n 2, 1) := by decide +kernel
theorem dX1_longest_33 : decode cX1_longest 33 = .ok (.iload 4, 2) := by decide +kernel
theorem dX1_longest_35 : decode cX1_longest 35 = .ok (.iadd, 1) := by decide +kernel
theorem dX1_longest_36 : decode cX1_longest 36 = .ok (.sipush 360, 3) := by decide +kernel
theorem dX1_longest_39 : decode cX1_longest 39 = .ok (.iadd, 1) := by decide +kernel
theorem dX1_longest_40 : decode cX1_longest 40 = .ok (.if_icmp .ge 39, 3) := by decide +kernel
theorem dX1_longest_43 : decode cX1_longest 43 = .ok (.iload 5, 2) := by decide +kernel
theorem dX1_longest_45 : decode cX1_longest 45 = .ok (.ifCond .eq 34, 3) := by decide +kernel
theorem dX1_longest_48 : decode cX1_longest 48 = .ok (.aload_n 0, 1) := by decide +kernel
theorem dX1_longest_49 : decode cX1_longest 49 = .ok (.sipush 360, 3) := by decide +kernel
theorem dX1_longest_52 : decode cX1_longest 52 = .ok (.iload 6, 2) := by decide +kernel
theorem dX1_longest_54 : decode cX1_longest 54 = .ok (.iadd, 1) := by decide +kernel
theorem dX1_longest_55 : decode cX1_longest 55 = .ok (.invokevirtual 20, 3) := by decide +kernel
theorem dX1_longest_58 : decode cX1_longest 58 = .ok (.bipush (-6), 2) := by decide +kernel
theorem dX1_longest_60 : decode cX1_longest 60 = .ok (.if_icmp .ne 7, 3) := by decide +kernel
theorem dX1_longest_63 : decode cX1_longest 63 = .ok (.iconst 1, 1) := by decide +kernel
theorem dX1_longest_64 : decode cX1_longest 64 = .ok (.goto 4, 3) := by decide +kernel
theorem dX1_longest_67 : decode cX1_longest 67 = .ok (.iconst 0, 1) := by decide +kernel
theorem dX1_longest_68 : decode cX1_longest 68 = .ok (.istore 5, 2) := by decide +kernel
theorem dX1_longest_70 : decode cX1_longest 70 = .ok (.iload 6, 2) := by decide +kernel
theorem dX1_longest_72 : decode cX1_longest 72 = .ok (.iload_n 1, 1) := by decide +kernel
theorem dX1_longest_73 : decode cX1_longest 73 = .ok (.iadd, 1) := by decide +kernel
theorem dX1_longest_74 : decode cX1_longest 74 = .ok (.istore 6, 2) := by decide +kernel
theorem dX1_longest_76 : decode cX1_longest 76 = .ok (.goto (-46), 3) := by decide +kernel
theorem dX1_longest_79 : decode cX1_longest 79 = .ok (.iload 5, 2) := by decide +kernel
theorem dX1_longest_81 : decode cX1_longest 81 = .ok (.ifCond .eq 6, 3) := by decide +kernel
theorem dX1_longest_84 : decode cX1_longest 84 = .ok (.iinc 3 1, 3) := by decide +kernel
theorem dX1_longest_87 : decode cX1_longest 87 = .ok (.iinc 4 1, 3) := by decide +kernel
theorem dX1_longest_90 : decode cX1_longest 90 = .ok (.goto (-85), 3) := by decide +kernel
theorem dX1_longest_93 : decode cX1_longest 93 = .ok (.iload_n 3, 1) := by decide +kernel
theorem dX1_longest_94 : decode cX1_longest 94 = .ok (.ireturn, 1) := by decide +kernel
abbrev cX1_running : ByteArray := prog_3_method_13_code
def yX1_running : MethodName := ⟨RX1, "running", "(I)I"⟩
theorem dX1_running_0 : decode cX1_running 0 = .ok (.aload_n 0, 1) := by decide +kernel
theorem dX1_running_1 : decode cX1_running 1 = .ok (.iload_n 1, 1) := by decide +kernel
theorem dX1_running_2 : decode cX1_running 2 = .ok (.invokevirtual 43, 3) := by decide +kernel
theorem dX1_running_5 : decode cX1_running 5 = .ok (.ifCond .eq 6, 3) := by decide +kernel
theorem dX1_running_8 : decode cX1_running 8 = .ok (.bipush (-7), 2) := by decide +kernel
theorem dX1_running_10 : decode cX1_running 10 = .ok (.ireturn, 1) := by decide +kernel
theorem dX1_running_11 : decode cX1_running 11 = .ok (.iconst 0, 1) := by decide +kernel
theorem dX1_running_12 : decode cX1_running 12 = .ok (.istore_n 2, 1) := by decide +kernel
theorem dX1_running_13 : decode cX1_running 13 = .ok (.iload_n 2, 1) := by decide +kernel
theorem dX1_running_14 : decode cX1_running 14 = .ok (.bipush 10, 2) := by decide +kernel
theorem dX1_running_16 : decode cX1_running 16 = .ok (.if_icmp .ge 20, 3) := by decide +kernel
theorem dX1_running_19 : decode cX1_running 19 = .ok (.aload_n 0, 1) := by decide +kernel
theorem dX1_running_20 : decode cX1_running 20 = .ok (.iload_n 2, 1) := by decide +kernel
theorem dX1_running_21 : decode cX1_running 21 = .ok (.iload_n 1, 1) := by decide +kernel
theorem dX1_running_22 : decode cX1_running 22 = .ok (.invokevirtual 46, 3) := by decide +kernel
theorem dX1_running_25 : decode cX1_running 25 = .ok (.ifCond .eq 5, 3) := by decide +kernel
theorem dX1_running_28 : decode cX1_running 28 = .ok (.iload_n 2, 1) := by decide +kernel
theorem dX1_running_29 : decode cX1_running 29 = .ok (.ireturn, 1) := by decide +kernel
theorem dX1_running_30 : decode cX1_running 30 = .ok (.iinc 2 1, 3) := by decide +kernel
theorem dX1_running_33 : decode cX1_running 33 = .ok (.goto (-20), 3) := by decide +kernel
theorem dX1_running_36 : decode cX1_running 36 = .ok (.bipush (-6), 2) := by decide +kernel
theorem dX1_running_38 : decode cX1_running 38 = .ok (.ireturn, 1) := by decide +kernel
abbrev cX1_badTime : ByteArray := prog_3_method_3_code
def yX1_badTime : MethodName := ⟨RX1, "badTime", "(I)Z"⟩
theorem dX1_badTime_0 : decode cX1_badTime 0 = .ok (.iload_n 1, 1) := by decide +kernel
theorem dX1_badTime_1 : decode cX1_badTime 1 = .ok (.ifCond .lt 9, 3) := by decide +kernel
theorem dX1_badTime_4 : decode cX1_badTime 4 = .ok (.iload_n 1, 1) := by decide +kernel
theorem dX1_badTime_5 : decode cX1_badTime 5 = .ok (.ldc 19, 2) := by decide +kernel
theorem dX1_badTime_7 : decode cX1_badTime 7 = .ok (.if_icmp .le 7, 3) := by decide +kernel
theorem dX1_badTime_10 : decode cX1_badTime 10 = .ok (.iconst 1, 1) := by decide +kernel
theorem dX1_badTime_11 : decode cX1_badTime 11 = .ok (.goto 4, 3) := by decide +kernel
theorem dX1_badTime_14 : decode cX1_badTime 14 = .ok (.iconst 0, 1) := by decide +kernel
theorem dX1_badTime_15 : decode cX1_badTime 15 = .ok (.ireturn, 1) := by decide +kernel
abbrev cX1_runs : ByteArray := prog_3_method_5_code
def yX1_runs : MethodName := ⟨RX1, "runs", "(II)Z"⟩
theorem dX1_runs_0 : decode cX1_runs 0 = .ok (.aload_n 0, 1) := by decide +kernel
theorem dX1_runs_1 : decode cX1_runs 1 = .ok (.getfield 7, 3) := by decide +kernel
theorem dX1_runs_4 : decode cX1_runs 4 = .ok (.iload_n 1, 1) := by decide +kernel
theorem dX1_runs_5 : decode cX1_runs 5 = .ok (.iaload, 1) := by decide +kernel
theorem dX1_runs_6 : decode cX1_runs 6 = .ok (.istore_n 3, 1) := by decide +kernel
theorem dX1_runs_7 : decode cX1_runs 7 = .ok (.iload_n 3, 1) := by decide +kernel
theorem dX1_runs_8 : decode cX1_runs 8 = .ok (.ifCond .eq 13, 3) := by decide +kernel
theorem dX1_runs_11 : decode cX1_runs 11 = .ok (.iload_n 2, 1) := by decide +kernel
theorem dX1_runs_12 : decode cX1_runs 12 = .ok (.aload_n 0, 1) := by decide +kernel
theorem dX1_runs_13 : decode cX1_runs 13 = .ok (.getfield 16, 3) := by decide +kernel
theorem dX1_runs_16 : decode cX1_runs 16 = .ok (.iload_n 1, 1) := by decide +kernel
theorem dX1_runs_17 : decode cX1_runs 17 = .ok (.iaload, 1) := by decide +kernel
theorem dX1_runs_18 : decode cX1_runs 18 = .ok (.if_icmp .ge 5, 3) := by decide +kernel
theorem dX1_runs_21 : decode cX1_runs 21 = .ok (.iconst 0, 1) := by decide +kernel
theorem dX1_runs_22 : decode cX1_runs 22 = .ok (.ireturn, 1) := by decide +kernel
theorem dX1_runs_23 : decode cX1_runs 23 = .ok (.iload_n 2, 1) := by decide +kernel
theorem dX1_runs_24 : decode cX1_runs 24 = .ok (.aload_n 0, 1) := by decide +kernel
theorem dX1_runs_25 : decode cX1_runs 25 = .ok (.getfield 16, 3) := by decide +kernel
theorem dX1_runs_28 : decode cX1_runs 28 = .ok (.iload_n 1, 1) := by decide +kernel
theorem dX1_runs_29 : decode cX1_runs 29 = .ok (.iaload, 1) := by decide +kernel
theorem dX1_runs_30 : decode cX1_runs 30 = .ok (.isub, 1) := by decide +kernel
theorem dX1_runs_31 : decode cX1_runs 31 = .ok (.iload_n 3, 1) := by decide +kernel
theorem dX1_runs_32 : decode cX1_runs 32 = .ok (.irem, 1) := by decide +kernel
theorem dX1_runs_33 : decode cX1_runs 33 = .ok (.aload_n 0, 1) := by decide +kernel
theorem dX1_runs_34 : decode cX1_runs 34 = .ok (.getfield 13, 3) := by decide +kernel
theorem dX1_runs_37 : decode cX1_runs 37 = .ok (.iload_n 1, 1) := by decide +kernel
theorem dX1_runs_38 : decode cX1_runs 38 = .ok (.iaload, 1) := by decide +kernel
theorem dX1_runs_39 : decode cX1_runs 39 = .ok (.if_icmp .ge 7, 3) := by decide +kernel
theorem dX1_runs_42 : decode cX1_runs 42 = .ok (.iconst 1, 1) := by decide +kernel
theorem dX1_runs_43 : decode cX1_runs 43 = .ok (.goto 4, 3) := by decide +kernel
theorem dX1_runs_46 : decode cX1_runs 46 = .ok (.iconst 0, 1) := by decide +kernel
theorem dX1_runs_47 : decode cX1_runs 47 = .ok (.ireturn, 1) := by decide +kernel
abbrev cX1_take : ByteArray := prog_3_method_8_code
def yX1_take : MethodName := ⟨RX1, "take", "(III)I"⟩
theorem dX1_take_0 : decode cX1_take 0 = .ok (.iconst 0, 1) := by decide +kernel
theorem dX1_take_1 : decode cX1_take 1 = .ok (.istore 4, 2) := by decide +kernel
theorem dX1_take_3 : decode cX1_take 3 = .ok (.iload 4, 2) := by decide +kernel
theorem dX1_take_5 : decode cX1_take 5 = .ok (.bipush 10, 2) := by decide +kernel
theorem dX1_take_7 : decode cX1_take 7 = .ok (.if_icmp .ge 46, 3) := by decide +kernel
theorem dX1_take_10 : decode cX1_take 10 = .ok (.aload_n 0, 1) := by decide +kernel
theorem dX1_take_11 : decode cX1_take 11 = .ok (.getfield 7, 3) := by decide +kernel
theorem dX1_take_14 : decode cX1_take 14 = .ok (.iload 4, 2) := by decide +kernel
theorem dX1_take_16 : decode cX1_take 16 = .ok (.iaload, 1) := by decide +kernel
theorem dX1_take_17 : decode cX1_take 17 = .ok (.ifCond .ne 30, 3) := by decide +kernel
theorem dX1_take_20 : decode cX1_take 20 = .ok (.aload_n 0, 1) := by decide +kernel
theorem dX1_take_21 : decode cX1_take 21 = .ok (.getfield 7, 3) := by decide +kernel
theorem dX1_take_24 : decode cX1_take 24 = .ok (.iload 4, 2) := by decide +kernel
theorem dX1_take_26 : decode cX1_take 26 = .ok (.iload_n 1, 1) := by decide +kernel
theorem dX1_take_27 : decode cX1_take 27 = .ok (.iastore, 1) := by decide +kernel
theorem dX1_take_28 : decode cX1_take 28 = .ok (.aload_n 0, 1) := by decide +kernel
theorem dX1_take_29 : decode cX1_take 29 = .ok (.getfield 13, 3) := by decide +kernel
theorem dX1_take_32 : decode cX1_take 32 = .ok (.iload 4, 2) := by decide +kernel
theorem dX1_take_34 : decode cX1_take 34 = .ok (.iload_n 2, 1) := by decide +kernel
theorem dX1_take_35 : decode cX1_take 35 = .ok (.iastore, 1) := by decide +kernel
theorem dX1_take_36 : decode cX1_take 36 = .ok (.aload_n 0, 1) := by decide +kernel
theorem dX1_take_37 : decode cX1_take 37 = .ok (.getfield 16, 3) := by decide +kernel
theorem dX1_take_40 : decode cX1_take 40 = .ok (.iload 4, 2) := by decide +kernel
theorem dX1_take_42 : decode cX1_take 42 = .ok (.iload_n 3, 1) := by decide +kernel
theorem dX1_take_43 : decode cX1_take 43 = .ok (.iastore, 1) := by decide +kernel
theorem dX1_take_44 : decode cX1_take 44 = .ok (.iload 4, 2) := by decide +kernel
theorem dX1_take_46 : decode cX1_take 46 = .ok (.ireturn, 1) := by decide +kernel
theorem dX1_take_47 : decode cX1_take 47 = .ok (.iinc 4 1, 3) := by decide +kernel
theorem dX1_take_50 : decode cX1_take 50 = .ok (.goto (-47), 3) := by decide +kernel
theorem dX1_take_53 : decode cX1_take 53 = .ok (.bipush (-4), 2) := by decide +kernel
theorem dX1_take_55 : decode cX1_take 55 = .ok (.ireturn, 1) := by decide +kernel
abbrev cX1_admitAt : ByteArray := prog_3_method_10_code
def yX1_admitAt : MethodName := ⟨RX1, "admitAt", "(III)I"⟩
theorem dX1_admitAt_0 : decode cX1_admitAt 0 = .ok (.aload_n 0, 1) := by decide +kernel
theorem dX1_admitAt_1 : decode cX1_admitAt 1 = .ok (.iload_n 1, 1) := by decide +kernel
theorem dX1_admitAt_2 : decode cX1_admitAt 2 = .ok (.invokevirtual 24, 3) := by decide +kernel
theorem dX1_admitAt_5 : decode cX1_admitAt 5 = .ok (.ifCond .eq 5, 3) := by decide +kernel
theorem dX1_admitAt_8 : decode cX1_admitAt 8 = .ok (.iconst (-1), 1) := by decide +kernel
theorem dX1_admitAt_9 : decode cX1_admitAt 9 = .ok (.ireturn, 1) := by decide +kernel
theorem dX1_admitAt_10 : decode cX1_admitAt 10 = .ok (.iload_n 2, 1) := by decide +kernel
theorem dX1_admitAt_11 : decode cX1_admitAt 11 = .ok (.iconst 1, 1) := by decide +kernel
theorem dX1_admitAt_12 : decode cX1_admitAt 12 = .ok (.if_icmp .lt 8, 3) := by decide +kernel
theorem dX1_admitAt_15 : decode cX1_admitAt 15 = .ok (.iload_n 2, 1) := by decide +kernel
theorem dX1_admitAt_16 : decode cX1_admitAt 16 = .ok (.iload_n 1, 1) := by decide +kernel
theorem dX1_admitAt_17 : decode cX1_admitAt 17 = .ok (.if_icmp .le 6, 3) := by decide +kernel
theorem dX1_admitAt_20 : decode cX1_admitAt 20 = .ok (.bipush (-2), 2) := by decide +kernel
theorem dX1_admitAt_22 : decode cX1_admitAt 22 = .ok (.ireturn, 1) := by decide +kernel
theorem dX1_admitAt_23 : decode cX1_admitAt 23 = .ok (.iload_n 3, 1) := by decide +kernel
theorem dX1_admitAt_24 : decode cX1_admitAt 24 = .ok (.ifCond .lt 8, 3) := by decide +kernel
theorem dX1_admitAt_27 : decode cX1_admitAt 27 = .ok (.iload_n 3, 1) := by decide +kernel
theorem dX1_admitAt_28 : decode cX1_admitAt 28 = .ok (.iload_n 1, 1) := by decide +kernel
theorem dX1_admitAt_29 : decode cX1_admitAt 29 = .ok (.if_icmp .lt 6, 3) := by decide +kernel
theorem dX1_admitAt_32 : decode cX1_admitAt 32 = .ok (.bipush (-3), 2) := by decide +kernel
theorem dX1_admitAt_34 : decode cX1_admitAt 34 = .ok (.ireturn, 1) := by decide +kernel
theorem dX1_admitAt_35 : decode cX1_admitAt 35 = .ok (.aload_n 0, 1) := by decide +kernel
theorem dX1_admitAt_36 : decode cX1_admitAt 36 = .ok (.invokevirtual 28, 3) := by decide +kernel
theorem dX1_admitAt_39 : decode cX1_admitAt 39 = .ok (.bipush 10, 2) := by decide +kernel
theorem dX1_admitAt_41 : decode cX1_admitAt 41 = .ok (.if_icmp .ne 6, 3) := by decide +kernel
theorem dX1_admitAt_44 : decode cX1_admitAt 44 = .ok (.bipush (-4), 2) := by decide +kernel
theorem dX1_admitAt_46 : decode cX1_admitAt 46 = .ok (.ireturn, 1) := by decide +kernel
theorem dX1_admitAt_47 : decode cX1_admitAt 47 = .ok (.aload_n 0, 1) := by decide +kernel
theorem dX1_admitAt_48 : decode cX1_admitAt 48 = .ok (.iload_n 1, 1) := by decide +kernel
theorem dX1_admitAt_49 : decode cX1_admitAt 49 = .ok (.iload_n 3, 1) := by decide +kernel
theorem dX1_admitAt_50 : decode cX1_admitAt 50 = .ok (.invokevirtual 32, 3) := by decide +kernel
theorem dX1_admitAt_53 : decode cX1_admitAt 53 = .ok (.iload_n 2, 1) := by decide +kernel
theorem dX1_admitAt_54 : decode cX1_admitAt 54 = .ok (.if_icmp .ge 6, 3) := by decide +kernel
theorem dX1_admitAt_57 : decode cX1_admitAt 57 = .ok (.bipush (-5), 2) := by decide +kernel
theorem dX1_admitAt_59 : decode cX1_admitAt 59 = .ok (.ireturn, 1) := by decide +kernel
theorem dX1_admitAt_60 : decode cX1_admitAt 60 = .ok (.aload_n 0, 1) := by decide +kernel
theorem dX1_admitAt_61 : decode cX1_admitAt 61 = .ok (.iload_n 1, 1) := by decide +kernel
theorem dX1_admitAt_62 : decode cX1_admitAt 62 = .ok (.iload_n 2, 1) := by decide +kernel
theorem dX1_admitAt_63 : decode cX1_admitAt 63 = .ok (.iload_n 3, 1) := by decide +kernel
theorem dX1_admitAt_64 : decode cX1_admitAt 64 = .ok (.invokevirtual 36, 3) := by decide +kernel
theorem dX1_admitAt_67 : decode cX1_admitAt 67 = .ok (.ireturn, 1) := by decide +kernel
abbrev cX1_remove : ByteArray := prog_3_method_11_code
def yX1_remove : MethodName := ⟨RX1, "remove", "(I)I"⟩
theorem dX1_remove_0 : decode cX1_remove 0 = .ok (.aload_n 0, 1) := by decide +kernel
theorem dX1_remove_1 : decode cX1_remove 1 = .ok (.iload_n 1, 1) := by decide +kernel
theorem dX1_remove_2 : decode cX1_remove 2 = .ok (.invokevirtual 40, 3) := by decide +kernel
theorem dX1_remove_5 : decode cX1_remove 5 = .ok (.ifCond .eq 6, 3) := by decide +kernel
theorem dX1_remove_8 : decode cX1_remove 8 = .ok (.bipush (-6), 2) := by decide +kernel
theorem dX1_remove_10 : decode cX1_remove 10 = .ok (.ireturn, 1) := by decide +kernel
theorem dX1_remove_11 : decode cX1_remove 11 = .ok (.aload_n 0, 1) := by decide +kernel
theorem dX1_remove_12 : decode cX1_remove 12 = .ok (.getfield 7, 3) := by decide +kernel
theorem dX1_remove_15 : decode cX1_remove 15 = .ok (.iload_n 1, 1) := by decide +kernel
theorem dX1_remove_16 : decode cX1_remove 16 = .ok (.iconst 0, 1) := by decide +kernel
theorem dX1_remove_17 : decode cX1_remove 17 = .ok (.iastore, 1) := by decide +kernel
theorem dX1_remove_18 : decode cX1_remove 18 = .ok (.aload_n 0, 1) := by decide +kernel
theorem dX1_remove_19 : decode cX1_remove 19 = .ok (.invokevirtual 28, 3) := by decide +kernel
theorem dX1_remove_22 : decode cX1_remove 22 = .ok (.ireturn, 1) := by decide +kernel
abbrev cX1_none : ByteArray := prog_3_method_4_code
def yX1_none : MethodName := ⟨RX1, "none", "(I)Z"⟩
theorem dX1_none_0 : decode cX1_none 0 = .ok (.iload_n 1, 1) := by decide +kernel
theorem dX1_none_1 : decode cX1_none 1 = .ok (.ifCond .lt 18, 3) := by decide +kernel
theorem dX1_none_4 : decode cX1_none 4 = .ok (.iload_n 1, 1) := by decide +kernel
theorem dX1_none_5 : decode cX1_none 5 = .ok (.bipush 9, 2) := by decide +kernel
theorem dX1_none_7 : decode cX1_none 7 = .ok (.if_icmp .gt 12, 3) := by decide +kernel
theorem dX1_none_10 : decode cX1_none 10 = .ok (.aload_n 0, 1) := by decide +kernel
theorem dX1_none_11 : decode cX1_none 11 = .ok (.getfield 7, 3) := by decide +kernel
theorem dX1_none_14 : decode cX1_none 14 = .ok (.iload_n 1, 1) := by decide +kernel
theorem dX1_none_15 : decode cX1_none 15 = .ok (.iaload, 1) := by decide +kernel
theorem dX1_none_16 : decode cX1_none 16 = .ok (.ifCond .ne 7, 3) := by decide +kernel
theorem dX1_none_19 : decode cX1_none 19 = .ok (.iconst 1, 1) := by decide +kernel
theorem dX1_none_20 : decode cX1_none 20 = .ok (.goto 4, 3) := by decide +kernel
theorem dX1_none_23 : decode cX1_none 23 = .ok (.iconst 0, 1) := by decide +kernel
theorem dX1_none_24 : decode cX1_none 24 = .ok (.ireturn, 1) := by decide +kernel
abbrev cX1_offset : ByteArray := prog_3_method_12_code
def yX1_offset : MethodName := ⟨RX1, "offset", "(I)I"⟩
theorem dX1_offset_0 : decode cX1_offset 0 = .ok (.aload_n 0, 1) := by decide +kernel
theorem dX1_offset_1 : decode cX1_offset 1 = .ok (.iload_n 1, 1) := by decide +kernel
theorem dX1_offset_2 : decode cX1_offset 2 = .ok (.invokevirtual 40, 3) := by decide +kernel
theorem dX1_offset_5 : decode cX1_offset 5 = .ok (.ifCond .eq 8, 3) := by decide +kernel
theorem dX1_offset_8 : decode cX1_offset 8 = .ok (.bipush (-6), 2) := by decide +kernel
theorem dX1_offset_10 : decode cX1_offset 10 = .ok (.goto 9, 3) := by decide +kernel
theorem dX1_offset_13 : decode cX1_offset 13 = .ok (.aload_n 0, 1) := by decide +kernel
theorem dX1_offset_14 : decode cX1_offset 14 = .ok (.getfield 16, 3) := by decide +kernel
theorem dX1_offset_17 : decode cX1_offset 17 = .ok (.iload_n 1, 1) := by decide +kernel
theorem dX1_offset_18 : decode cX1_offset 18 = .ok (.iaload, 1) := by decide +kernel
theorem dX1_offset_19 : decode cX1_offset 19 = .ok (.ireturn, 1) := by decide +kernel
abbrev cX1_free : ByteArray := prog_3_method_15_code
def yX1_free : MethodName := ⟨RX1, "free", "(II)I"⟩
theorem dX1_free_0 : decode cX1_free 0 = .ok (.aload_n 0, 1) := by decide +kernel
theorem dX1_free_1 : decode cX1_free 1 = .ok (.iload_n 1, 1) := by decide +kernel
theorem dX1_free_2 : decode cX1_free 2 = .ok (.invokevirtual 43, 3) := by decide +kernel
theorem dX1_free_5 : decode cX1_free 5 = .ok (.ifCond .ne 11, 3) := by decide +kernel
theorem dX1_free_8 : decode cX1_free 8 = .ok (.aload_n 0, 1) := by decide +kernel
theorem dX1_free_9 : decode cX1_free 9 = .ok (.iload_n 2, 1) := by decide +kernel
theorem dX1_free_10 : decode cX1_free 10 = .ok (.invokevirtual 43, 3) := by decide +kernel
theorem dX1_free_13 : decode cX1_free 13 = .ok (.ifCond .eq 6, 3) := by decide +kernel
theorem dX1_free_16 : decode cX1_free 16 = .ok (.bipush (-7), 2) := by decide +kernel
theorem dX1_free_18 : decode cX1_free 18 = .ok (.ireturn, 1) := by decide +kernel
theorem dX1_free_19 : decode cX1_free 19 = .ok (.iload_n 1, 1) := by decide +kernel
theorem dX1_free_20 : decode cX1_free 20 = .ok (.iload_n 2, 1) := by decide +kernel
theorem dX1_free_21 : decode cX1_free 21 = .ok (.if_icmp .le 5, 3) := by decide +kernel
theorem dX1_free_24 : decode cX1_free 24 = .ok (.iconst 0, 1) := by decide +kernel
theorem dX1_free_25 : decode cX1_free 25 = .ok (.ireturn, 1) := by decide +kernel
theorem dX1_free_26 : decode cX1_free 26 = .ok (.aload_n 0, 1) := by decide +kernel
theorem dX1_free_27 : decode cX1_free 27 = .ok (.iload_n 2, 1) := by decide +kernel
theorem dX1_free_28 : decode cX1_free 28 = .ok (.iconst 1, 1) := by decide +kernel
theorem dX1_free_29 : decode cX1_free 29 = .ok (.iadd, 1) := by decide +kernel
theorem dX1_free_30 : decode cX1_free 30 = .ok (.invokevirtual 50, 3) := by decide +kernel
theorem dX1_free_33 : decode cX1_free 33 = .ok (.aload_n 0, 1) := by decide +kernel
theorem dX1_free_34 : decode cX1_free 34 = .ok (.iload_n 1, 1) := by decide +kernel
theorem dX1_free_35 : decode cX1_free 35 = .ok (.invokevirtual 50, 3) := by decide +kernel
theorem dX1_free_38 : decode cX1_free 38 = .ok (.isub, 1) := by decide +kernel
theorem dX1_free_39 : decode cX1_free 39 = .ok (.ireturn, 1) := by decide +kernel
abbrev cX1_freeBefore : ByteArray := prog_3_method_14_code
def yX1_freeBefore : MethodName := ⟨RX1, "freeBefore", "(I)I"⟩
theorem dX1_freeBefore_0 : decode cX1_freeBefore 0 = .ok (.iconst 0, 1) := by decide +kernel
theorem dX1_freeBefore_1 : decode cX1_freeBefore 1 = .ok (.istore_n 2, 1) := by decide +kernel
theorem dX1_freeBefore_2 : decode cX1_freeBefore 2 = .ok (.iconst 0, 1) := by decide +kernel
theorem dX1_freeBefore_3 : decode cX1_freeBefore 3 = .ok (.istore_n 3, 1) := by decide +kernel
theorem dX1_freeBefore_4 : decode cX1_freeBefore 4 = .ok (.iload_n 1, 1) := by decide +kernel
theorem dX1_freeBefore_5 : decode cX1_freeBefore 5 = .ok (.sipush 360, 3) := by decide +kernel
theorem dX1_freeBefore_8 : decode cX1_freeBefore 8 = .ok (.if_icmp .le 15, 3) := by decide +kernel
theorem dX1_freeBefore_11 : decode cX1_freeBefore 11 = .ok (.iload_n 1, 1) := by decide +kernel
theorem dX1_freeBefore_12 : decode cX1_freeBefore 12 = .ok (.sipush 360, 3) := by decide +kernel
theorem dX1_freeBefore_15 : decode cX1_freeBefore 15 = .ok (.isub, 1) := by decide +kernel
theorem dX1_freeBefore_16 : decode cX1_freeBefore 16 = .ok (.sipush 360, 3) := by decide +kernel
theorem dX1_freeBefore_19 : decode cX1_freeBefore 19 = .ok (.irem, 1) := by decide +kernel
theorem dX1_freeBefore_20 : decode cX1_freeBefore 20 = .ok (.goto 4, 3) := by decide +kernel
theorem dX1_freeBefore_23 : decode cX1_freeBefore 23 = .ok (.iconst 0, 1) := by decide +kernel
theorem dX1_freeBefore_24 : decode cX1_freeBefore 24 = .ok (.istore 4, 2) := by decide +kernel
theorem dX1_freeBefore_26 : decode cX1_freeBefore 26 = .ok (.iconst 0, 1) := by decide +kernel
theorem dX1_freeBefore_27 : decode cX1_freeBefore 27 = .ok (.istore 5, 2) := by decide +kernel
theorem dX1_freeBefore_29 : decode cX1_freeBefore 29 = .ok (.iload 5, 2) := by decide +kernel
theorem dX1_freeBefore_31 : decode cX1_freeBefore 31 = .ok (.sipush 720, 3) := by decide +kernel
theorem dX1_freeBefore_34 : decode cX1_freeBefore 34 = .ok (.if_icmp .ge 70, 3) := by decide +kernel
theorem dX1_freeBefore_37 : decode cX1_freeBefore 37 = .ok (.aload_n 0, 1) := by decide +kernel
theorem dX1_freeBefore_38 : decode cX1_freeBefore 38 = .ok (.iload 5, 2) := by decide +kernel
theorem dX1_freeBefore_40 : decode cX1_freeBefore 40 = .ok (.invokevirtual 20, 3) := by decide +kernel
theorem dX1_freeBefore_43 : decode cX1_freeBefore 43 = .ok (.bipush (-6), 2) := by decide +kernel
theorem dX1_freeBefore_45 : decode cX1_freeBefore 45 = .ok (.if_icmp .ne 53, 3) := by decide +kernel
theorem dX1_freeBefore_48 : decode cX1_freeBefore 48 = .ok (.iload 5, 2) := by decide +kernel
theorem dX1_freeBefore_50 : decode cX1_freeBefore 50 = .ok (.sipush 360, 3) := by decide +kernel
theorem dX1_freeBefore_53 : decode cX1_freeBefore 53 = .ok (.if_icmp .ge 12, 3) := by decide +kernel
theorem dX1_freeBefore_56 : decode cX1_freeBefore 56 = .ok (.iload 5, 2) := by decide +kernel
theorem dX1_freeBefore_58 : decode cX1_freeBefore 58 = .ok (.iload_n 1, 1) := by decide +kernel
theorem dX1_freeBefore_59 : decode cX1_freeBefore 59 = .ok (.if_icmp .ge 6, 3) := by decide +kernel
theorem dX1_freeBefore_62 : decode cX1_freeBefore 62 = .ok (.iinc 2 1, 3) := by decide +kernel
theorem dX1_freeBefore_65 : decode cX1_freeBefore 65 = .ok (.iload 5, 2) := by decide +kernel
theorem dX1_freeBefore_67 : decode cX1_freeBefore 67 = .ok (.sipush 360, 3) := by decide +kernel
theorem dX1_freeBefore_70 : decode cX1_freeBefore 70 = .ok (.if_icmp .lt 6, 3) := by decide +kernel
theorem dX1_freeBefore_73 : decode cX1_freeBefore 73 = .ok (.iinc 3 1, 3) := by decide +kernel
theorem dX1_freeBefore_76 : decode cX1_freeBefore 76 = .ok (.iload 5, 2) := by decide +kernel
theorem dX1_freeBefore_78 : decode cX1_freeBefore 78 = .ok (.sipush 360, 3) := by decide +kernel
theorem dX1_freeBefore_81 : decode cX1_freeBefore 81 = .ok (.if_icmp .lt 17, 3) := by decide +kernel
theorem dX1_freeBefore_84 : decode cX1_freeBefore 84 = .ok (.iload 5, 2) := by decide +kernel
theorem dX1_freeBefore_86 : decode cX1_freeBefore 86 = .ok (.sipush 360, 3) := by decide +kernel
theorem dX1_freeBefore_89 : decode cX1_freeBefore 89 = .ok (.iload 4, 2) := by decide +kernel
theorem dX1_freeBefore_91 : decode cX1_freeBefore 91 = .ok (.iadd, 1) := by decide +kernel
theorem dX1_freeBefore_92 : decode cX1_freeBefore 92 = .ok (.if_icmp .ge 6, 3) := by decide +kernel
theorem dX1_freeBefore_95 : decode cX1_freeBefore 95 = .ok (.iinc 2 1, 3) := by decide +kernel
theorem dX1_freeBefore_98 : decode cX1_freeBefore 98 = .ok (.iinc 5 1, 3) := by decide +kernel
theorem dX1_freeBefore_101 : decode cX1_freeBefore 101 = .ok (.goto (-72), 3) := by decide +kernel
theorem dX1_freeBefore_104 : decode cX1_freeBefore 104 = .ok (.iload_n 1, 1) := by decide +kernel
theorem dX1_freeBefore_105 : decode cX1_freeBefore 105 = .ok (.sipush 360, 3) := by decide +kernel
theorem dX1_freeBefore_108 : decode cX1_freeBefore 108 = .ok (.if_icmp .le 19, 3) := by decide +kernel
theorem dX1_freeBefore_111 : decode cX1_freeBefore 111 = .ok (.iload_n 2, 1) := by decide +kernel
theorem dX1_freeBefore_112 : decode cX1_freeBefore 112 = .ok (.iload_n 3, 1) := by decide +kernel
theorem dX1_freeBefore_113 : decode cX1_freeBefore 113 = .ok (.iload_n 1, 1) := by decide +kernel
theorem dX1_freeBefore_114 : decode cX1_freeBefore 114 = .ok (.sipush 360, 3) := by decide +kernel
theorem dX1_freeBefore_117 : decode cX1_freeBefore 117 = .ok (.isub, 1) := by decide +kernel
theorem dX1_freeBefore_118 : decode cX1_freeBefore 118 = .ok (.sipush 360, 3) := by decide +kernel
theorem dX1_freeBefore_121 : decode cX1_freeBefore 121 = .ok (.idiv, 1) := by decide +kernel
theorem dX1_freeBefore_122 : decode cX1_freeBefore 122 = .ok (.imul, 1) := by decide +kernel
theorem dX1_freeBefore_123 : decode cX1_freeBefore 123 = .ok (.iadd, 1) := by decide +kernel
theorem dX1_freeBefore_124 : decode cX1_freeBefore 124 = .ok (.goto 4, 3) := by decide +kernel
theorem dX1_freeBefore_127 : decode cX1_freeBefore 127 = .ok (.iload_n 2, 1) := by decide +kernel
theorem dX1_freeBefore_128 : decode cX1_freeBefore 128 = .ok (.ireturn, 1) := by decide +kernel
abbrev cX1_starts : ByteArray := prog_3_method_16_code
def yX1_starts : MethodName := ⟨RX1, "starts", "(III)I"⟩
theorem dX1_starts_0 : decode cX1_starts 0 = .ok (.aload_n 0, 1) := by decide +kernel
theorem dX1_starts_1 : decode cX1_starts 1 = .ok (.iload_n 1, 1) := by decide +kernel
theorem dX1_starts_2 : decode cX1_starts 2 = .ok (.invokevirtual 40, 3) := by decide +kernel
theorem dX1_starts_5 : decode cX1_starts 5 = .ok (.ifCond .eq 6, 3) := by decide +kernel
theorem dX1_starts_8 : decode cX1_starts 8 = .ok (.bipush (-6), 2) := by decide +kernel
theorem dX1_starts_10 : decode cX1_starts 10 = .ok (.ireturn, 1) := by decide +kernel
theorem dX1_starts_11 : decode cX1_starts 11 = .ok (.aload_n 0, 1) := by decide +kernel
theorem dX1_starts_12 : decode cX1_starts 12 = .ok (.iload_n 2, 1) := by decide +kernel
theorem dX1_starts_13 : decode cX1_starts 13 = .ok (.invokevirtual 43, 3) := by decide +kernel
theorem dX1_starts_16 : decode cX1_starts 16 = .ok (.ifCond .ne 11, 3) := by decide +kernel
theorem dX1_starts_19 : decode cX1_starts 19 = .ok (.aload_n 0, 1) := by decide +kernel
theorem dX1_starts_20 : decode cX1_starts 20 = .ok (.iload_n 3, 1) := by decide +kernel
theorem dX1_starts_21 : decode cX1_starts 21 = .ok (.invokevirtual 43, 3) := by decide +kernel
theorem dX1_starts_24 : decode cX1_starts 24 = .ok (.ifCond .eq 6, 3) := by decide +kernel
theorem dX1_starts_27 : decode cX1_starts 27 = .ok (.bipush (-7), 2) := by decide +kernel
theorem dX1_starts_29 : decode cX1_starts 29 = .ok (.ireturn, 1) := by decide +kernel
theorem dX1_starts_30 : decode cX1_starts 30 = .ok (.aload_n 0, 1) := by decide +kernel
theorem dX1_starts_31 : decode cX1_starts 31 = .ok (.getfield 7, 3) := by decide +kernel
theorem dX1_starts_34 : decode cX1_starts 34 = .ok (.iload_n 1, 1) := by decide +kernel
theorem dX1_starts_35 : decode cX1_starts 35 = .ok (.iaload, 1) := by decide +kernel
theorem dX1_starts_36 : decode cX1_starts 36 = .ok (.istore 4, 2) := by decide +kernel
theorem dX1_starts_38 : decode cX1_starts 38 = .ok (.iload_n 2, 1) := by decide +kernel
theorem dX1_starts_39 : decode cX1_starts 39 = .ok (.iload_n 3, 1) := by decide +kernel
theorem dX1_starts_40 : decode cX1_starts 40 = .ok (.if_icmp .gt 18, 3) := by decide +kernel
theorem dX1_starts_43 : decode cX1_starts 43 = .ok (.iload_n 3, 1) := by decide +kernel
theorem dX1_starts_44 : decode cX1_starts 44 = .ok (.aload_n 0, 1) := by decide +kernel
theorem dX1_starts_45 : decode cX1_starts 45 = .ok (.getfield 16, 3) := by decide +kernel
theorem dX1_starts_48 : decode cX1_starts 48 = .ok (.iload_n 1, 1) := by decide +kernel
theorem dX1_starts_49 : decode cX1_starts 49 = .ok (.iaload, 1) := by decide +kernel
theorem dX1_starts_50 : decode cX1_starts 50 = .ok (.if_icmp .lt 8, 3) := by decide +kernel
theorem dX1_starts_53 : decode cX1_starts 53 = .ok (.iload 4, 2) := by decide +kernel
theorem dX1_starts_55 : decode cX1_starts 55 = .ok (.ifCond .ne 5, 3) := by decide +kernel
theorem dX1_starts_58 : decode cX1_starts 58 = .ok (.iconst 0, 1) := by decide +kernel
theorem dX1_starts_59 : decode cX1_starts 59 = .ok (.ireturn, 1) := by decide +kernel
theorem dX1_starts_60 : decode cX1_starts 60 = .ok (.iload_n 3, 1) := by decide +kernel
theorem dX1_starts_61 : decode cX1_starts 61 = .ok (.aload_n 0, 1) := by decide +kernel
theorem dX1_starts_62 : decode cX1_starts 62 = .ok (.getfield 16, 3) := by decide +kernel
theorem dX1_starts_65 : decode cX1_starts 65 = .ok (.iload_n 1, 1) := by decide +kernel
theorem dX1_starts_66 : decode cX1_starts 66 = .ok (.iaload, 1) := by decide +kernel
theorem dX1_starts_67 : decode cX1_starts 67 = .ok (.isub, 1) := by decide +kernel
theorem dX1_starts_68 : decode cX1_starts 68 = .ok (.iload 4, 2) := by decide +kernel
theorem dX1_starts_70 : decode cX1_starts 70 = .ok (.idiv, 1) := by decide +kernel
theorem dX1_starts_71 : decode cX1_starts 71 = .ok (.iconst 1, 1) := by decide +kernel
theorem dX1_starts_72 : decode cX1_starts 72 = .ok (.iadd, 1) := by decide +kernel
theorem dX1_starts_73 : decode cX1_starts 73 = .ok (.istore 5, 2) := by decide +kernel
theorem dX1_starts_75 : decode cX1_starts 75 = .ok (.iload_n 2, 1) := by decide +kernel
theorem dX1_starts_76 : decode cX1_starts 76 = .ok (.aload_n 0, 1) := by decide +kernel
theorem dX1_starts_77 : decode cX1_starts 77 = .ok (.getfield 16, 3) := by decide +kernel
theorem dX1_starts_80 : decode cX1_starts 80 = .ok (.iload_n 1, 1) := by decide +kernel
theorem dX1_starts_81 : decode cX1_starts 81 = .ok (.iaload, 1) := by decide +kernel
theorem dX1_starts_82 : decode cX1_starts 82 = .ok (.if_icmp .gt 7, 3) := by decide +kernel
theorem dX1_starts_85 : decode cX1_starts 85 = .ok (.iconst 0, 1) := by decide +kernel
theorem dX1_starts_86 : decode cX1_starts 86 = .ok (.goto 18, 3) := by decide +kernel
theorem dX1_starts_89 : decode cX1_starts 89 = .ok (.iload_n 2, 1) := by decide +kernel
theorem dX1_starts_90 : decode cX1_starts 90 = .ok (.iconst 1, 1) := by decide +kernel
theorem dX1_starts_91 : decode cX1_starts 91 = .ok (.isub, 1) := by decide +kernel
theorem dX1_starts_92 : decode cX1_starts 92 = .ok (.aload_n 0, 1) := by decide +kernel
theorem dX1_starts_93 : decode cX1_starts 93 = .ok (.getfield 16, 3) := by decide +kernel
theorem dX1_starts_96 : decode cX1_starts 96 = .ok (.iload_n 1, 1) := by decide +kernel
theorem dX1_starts_97 : decode cX1_starts 97 = .ok (.iaload, 1) := by decide +kernel
theorem dX1_starts_98 : decode cX1_starts 98 = .ok (.isub, 1) := by decide +kernel
theorem dX1_starts_99 : decode cX1_starts 99 = .ok (.iload 4, 2) := by decide +kernel
theorem dX1_starts_101 : decode cX1_starts 101 = .ok (.idiv, 1) := by decide +kernel
theorem dX1_starts_102 : decode cX1_starts 102 = .ok (.iconst 1, 1) := by decide +kernel
theorem dX1_starts_103 : decode cX1_starts 103 = .ok (.iadd, 1) := by decide +kernel
theorem dX1_starts_104 : decode cX1_starts 104 = .ok (.istore 6, 2) := by decide +kernel
theorem dX1_starts_106 : decode cX1_starts 106 = .ok (.iload 5, 2) := by decide +kernel
theorem dX1_starts_108 : decode cX1_starts 108 = .ok (.iload 6, 2) := by decide +kernel
theorem dX1_starts_110 : decode cX1_starts 110 = .ok (.isub, 1) := by decide +kernel
theorem dX1_starts_111 : decode cX1_starts 111 = .ok (.ireturn, 1) := by decide +kernel
abbrev cX1_nextStart : ByteArray := prog_3_method_18_code
def yX1_nextStart : MethodName := ⟨RX1, "nextStart", "(I)I"⟩
theorem dX1_nextStart_0 : decode cX1_nextStart 0 = .ok (.aload_n 0, 1) := by decide +kernel
theorem dX1_nextStart_1 : decode cX1_nextStart 1 = .ok (.iload_n 1, 1) := by decide +kernel
theorem dX1_nextStart_2 : decode cX1_nextStart 2 = .ok (.invokevirtual 43, 3) := by decide +kernel
theorem dX1_nextStart_5 : decode cX1_nextStart 5 = .ok (.ifCond .eq 6, 3) := by decide +kernel
theorem dX1_nextStart_8 : decode cX1_nextStart 8 = .ok (.bipush (-7), 2) := by decide +kernel
theorem dX1_nextStart_10 : decode cX1_nextStart 10 = .ok (.ireturn, 1) := by decide +kernel
theorem dX1_nextStart_11 : decode cX1_nextStart 11 = .ok (.iload_n 1, 1) := by decide +kernel
theorem dX1_nextStart_12 : decode cX1_nextStart 12 = .ok (.istore_n 2, 1) := by decide +kernel
theorem dX1_nextStart_13 : decode cX1_nextStart 13 = .ok (.iload_n 2, 1) := by decide +kernel
theorem dX1_nextStart_14 : decode cX1_nextStart 14 = .ok (.iload_n 1, 1) := by decide +kernel
theorem dX1_nextStart_15 : decode cX1_nextStart 15 = .ok (.sipush 720, 3) := by decide +kernel
theorem dX1_nextStart_18 : decode cX1_nextStart 18 = .ok (.iadd, 1) := by decide +kernel
theorem dX1_nextStart_19 : decode cX1_nextStart 19 = .ok (.if_icmp .ge 19, 3) := by decide +kernel
theorem dX1_nextStart_22 : decode cX1_nextStart 22 = .ok (.aload_n 0, 1) := by decide +kernel
theorem dX1_nextStart_23 : decode cX1_nextStart 23 = .ok (.iload_n 2, 1) := by decide +kernel
theorem dX1_nextStart_24 : decode cX1_nextStart 24 = .ok (.invokevirtual 53, 3) := by decide +kernel
theorem dX1_nextStart_27 : decode cX1_nextStart 27 = .ok (.ifCond .eq 5, 3) := by decide +kernel
theorem dX1_nextStart_30 : decode cX1_nextStart 30 = .ok (.iload_n 2, 1) := by decide +kernel
theorem dX1_nextStart_31 : decode cX1_nextStart 31 = .ok (.ireturn, 1) := by decide +kernel
theorem dX1_nextStart_32 : decode cX1_nextStart 32 = .ok (.iinc 2 1, 3) := by decide +kernel
theorem dX1_nextStart_35 : decode cX1_nextStart 35 = .ok (.goto (-22), 3) := by decide +kernel
theorem dX1_nextStart_38 : decode cX1_nextStart 38 = .ok (.bipush (-6), 2) := by decide +kernel
theorem dX1_nextStart_40 : decode cX1_nextStart 40 = .ok (.ireturn, 1) := by decide +kernel
abbrev cX1_begins : ByteArray := prog_3_method_17_code
def yX1_begins : MethodName := ⟨RX1, "begins", "(I)Z"⟩
theorem dX1_begins_0 : decode cX1_begins 0 = .ok (.iconst 0, 1) := by decide +kernel
theorem dX1_begins_1 : decode cX1_begins 1 = .ok (.istore_n 2, 1) := by decide +kernel
theorem dX1_begins_2 : decode cX1_begins 2 = .ok (.iload_n 2, 1) := by decide +kernel
theorem dX1_begins_3 : decode cX1_begins 3 = .ok (.bipush 10, 2) := by decide +kernel
theorem dX1_begins_5 : decode cX1_begins 5 = .ok (.if_icmp .ge 45, 3) := by decide +kernel
theorem dX1_begins_8 : decode cX1_begins 8 = .ok (.aload_n 0, 1) := by decide +kernel
theorem dX1_begins_9 : decode cX1_begins 9 = .ok (.getfield 7, 3) := by decide +kernel
theorem dX1_begins_12 : decode cX1_begins 12 = .ok (.iload_n 2, 1) := by decide +kernel
theorem dX1_begins_13 : decode cX1_begins 13 = .ok (.iaload, 1) := by decide +kernel
theorem dX1_begins_14 : decode cX1_begins 14 = .ok (.istore_n 3, 1) := by decide +kernel
theorem dX1_begins_15 : decode cX1_begins 15 = .ok (.iload_n 3, 1) := by decide +kernel
theorem dX1_begins_16 : decode cX1_begins 16 = .ok (.ifCond .eq 28, 3) := by decide +kernel
theorem dX1_begins_19 : decode cX1_begins 19 = .ok (.iload_n 1, 1) := by decide +kernel
theorem dX1_begins_20 : decode cX1_begins 20 = .ok (.aload_n 0, 1) := by decide +kernel
theorem dX1_begins_21 : decode cX1_begins 21 = .ok (.getfield 16, 3) := by decide +kernel
theorem dX1_begins_24 : decode cX1_begins 24 = .ok (.iload_n 2, 1) := by decide +kernel
theorem dX1_begins_25 : decode cX1_begins 25 = .ok (.iaload, 1) := by decide +kernel
theorem dX1_begins_26 : decode cX1_begins 26 = .ok (.if_icmp .lt 18, 3) := by decide +kernel
theorem dX1_begins_29 : decode cX1_begins 29 = .ok (.iload_n 1, 1) := by decide +kernel
theorem dX1_begins_30 : decode cX1_begins 30 = .ok (.aload_n 0, 1) := by decide +kernel
theorem dX1_begins_31 : decode cX1_begins 31 = .ok (.getfield 16, 3) := by decide +kernel
theorem dX1_begins_34 : decode cX1_begins 34 = .ok (.iload_n 2, 1) := by decide +kernel
theorem dX1_begins_35 : decode cX1_begins 35 = .ok (.iaload, 1) := by decide +kernel
theorem dX1_begins_36 : decode cX1_begins 36 = .ok (.isub, 1) := by decide +kernel
theorem dX1_begins_37 : decode cX1_begins 37 = .ok (.iload_n 3, 1) := by decide +kernel
theorem dX1_begins_38 : decode cX1_begins 38 = .ok (.irem, 1) := by decide +kernel
theorem dX1_begins_39 : decode cX1_begins 39 = .ok (.ifCond .ne 5, 3) := by decide +kernel
theorem dX1_begins_42 : decode cX1_begins 42 = .ok (.iconst 1, 1) := by decide +kernel
theorem dX1_begins_43 : decode cX1_begins 43 = .ok (.ireturn, 1) := by decide +kernel
theorem dX1_begins_44 : decode cX1_begins 44 = .ok (.iinc 2 1, 3) := by decide +kernel
theorem dX1_begins_47 : decode cX1_begins 47 = .ok (.goto (-45), 3) := by decide +kernel
theorem dX1_begins_50 : decode cX1_begins 50 = .ok (.iconst 0, 1) := by decide +kernel
theorem dX1_begins_51 : decode cX1_begins 51 = .ok (.ireturn, 1) := by decide +kernel
abbrev cX1_room : ByteArray := prog_3_method_19_code
def yX1_room : MethodName := ⟨RX1, "room", "(I)I"⟩
theorem dX1_room_0 : decode cX1_room 0 = .ok (.aload_n 0, 1) := by decide +kernel
theorem dX1_room_1 : decode cX1_room 1 = .ok (.iload_n 1, 1) := by decide +kernel
theorem dX1_room_2 : decode cX1_room 2 = .ok (.invokevirtual 24, 3) := by decide +kernel
theorem dX1_room_5 : decode cX1_room 5 = .ok (.ifCond .eq 5, 3) := by decide +kernel
theorem dX1_room_8 : decode cX1_room 8 = .ok (.iconst (-1), 1) := by decide +kernel
theorem dX1_room_9 : decode cX1_room 9 = .ok (.ireturn, 1) := by decide +kernel
theorem dX1_room_10 : decode cX1_room 10 = .ok (.iconst 0, 1) := by decide +kernel
theorem dX1_room_11 : decode cX1_room 11 = .ok (.istore_n 2, 1) := by decide +kernel
theorem dX1_room_12 : decode cX1_room 12 = .ok (.iconst 0, 1) := by decide +kernel
theorem dX1_room_13 : decode cX1_room 13 = .ok (.istore_n 3, 1) := by decide +kernel
theorem dX1_room_14 : decode cX1_room 14 = .ok (.iload_n 3, 1) := by decide +kernel
theorem dX1_room_15 : decode cX1_room 15 = .ok (.iload_n 1, 1) := by decide +kernel
theorem dX1_room_16 : decode cX1_room 16 = .ok (.if_icmp .ge 26, 3) := by decide +kernel
theorem dX1_room_19 : decode cX1_room 19 = .ok (.aload_n 0, 1) := by decide +kernel
theorem dX1_room_20 : decode cX1_room 20 = .ok (.iload_n 1, 1) := by decide +kernel
theorem dX1_room_21 : decode cX1_room 21 = .ok (.iload_n 3, 1) := by decide +kernel
theorem dX1_room_22 : decode cX1_room 22 = .ok (.invokevirtual 32, 3) := by decide +kernel
theorem dX1_room_25 : decode cX1_room 25 = .ok (.istore 4, 2) := by decide +kernel
theorem dX1_room_27 : decode cX1_room 27 = .ok (.iload 4, 2) := by decide +kernel
theorem dX1_room_29 : decode cX1_room 29 = .ok (.iload_n 2, 1) := by decide +kernel
theorem dX1_room_30 : decode cX1_room 30 = .ok (.if_icmp .le 6, 3) := by decide +kernel
theorem dX1_room_33 : decode cX1_room 33 = .ok (.iload 4, 2) := by decide +kernel
theorem dX1_room_35 : decode cX1_room 35 = .ok (.istore_n 2, 1) := by decide +kernel
theorem dX1_room_36 : decode cX1_room 36 = .ok (.iinc 3 1, 3) := by decide +kernel
theorem dX1_room_39 : decode cX1_room 39 = .ok (.goto (-25), 3) := by decide +kernel
theorem dX1_room_42 : decode cX1_room 42 = .ok (.iload_n 2, 1) := by decide +kernel
theorem dX1_room_43 : decode cX1_room 43 = .ok (.ireturn, 1) := by decide +kernel
abbrev cX1_load : ByteArray := prog_3_method_20_code
def yX1_load : MethodName := ⟨RX1, "load", "()I"⟩
theorem dX1_load_0 : decode cX1_load 0 = .ok (.iconst 0, 1) := by decide +kernel
theorem dX1_load_1 : decode cX1_load 1 = .ok (.istore_n 1, 1) := by decide +kernel
theorem dX1_load_2 : decode cX1_load 2 = .ok (.sipush 360, 3) := by decide +kernel
theorem dX1_load_5 : decode cX1_load 5 = .ok (.istore_n 2, 1) := by decide +kernel
theorem dX1_load_6 : decode cX1_load 6 = .ok (.iload_n 2, 1) := by decide +kernel
theorem dX1_load_7 : decode cX1_load 7 = .ok (.sipush 720, 3) := by decide +kernel
theorem dX1_load_10 : decode cX1_load 10 = .ok (.if_icmp .ge 22, 3) := by decide +kernel
theorem dX1_load_13 : decode cX1_load 13 = .ok (.aload_n 0, 1) := by decide +kernel
theorem dX1_load_14 : decode cX1_load 14 = .ok (.iload_n 2, 1) := by decide +kernel
theorem dX1_load_15 : decode cX1_load 15 = .ok (.invokevirtual 20, 3) := by decide +kernel
theorem dX1_load_18 : decode cX1_load 18 = .ok (.bipush (-6), 2) := by decide +kernel
theorem dX1_load_20 : decode cX1_load 20 = .ok (.if_icmp .eq 6, 3) := by decide +kernel
theorem dX1_load_23 : decode cX1_load 23 = .ok (.iinc 1 1, 3) := by decide +kernel
theorem dX1_load_26 : decode cX1_load 26 = .ok (.iinc 2 1, 3) := by decide +kernel
theorem dX1_load_29 : decode cX1_load 29 = .ok (.goto (-23), 3) := by decide +kernel
theorem dX1_load_32 : decode cX1_load 32 = .ok (.iload_n 1, 1) := by decide +kernel
theorem dX1_load_33 : decode cX1_load 33 = .ok (.ireturn, 1) := by decide +kernel
theorem q17 : (Jvm.Cond.initialized "StrictOffsetsModel") ∈ lw_all := lw_g (lw_at lw_m0 2 rfl) rfl
theorem q119 : (Jvm.Cond.instantiable "StrictOffsetsModel" (3 : Nat)) ∈ lw_all := lw_g (lw_at lw_m0 104 rfl) rfl
theorem q121 : (Jvm.Cond.instanceMethod ({ cls := "StrictOffsetsModel", name := "<init>", desc := "()V" } : Jvm.MethodName)) ∈ lw_all := lw_g (lw_at lw_m0 106 rfl) rfl
theorem q122 : (Jvm.Cond.code ({ cls := "StrictOffsetsModel", name := "<init>", desc := "()V" } : Jvm.MethodName) prog_3_method_1_code (1 : Nat) (Option.none : Option Jvm.ClassFile.FieldType)) ∈ lw_all := lw_g (lw_at lw_m0 107 rfl) rfl
theorem q123 : (Jvm.Cond.methodLink "StrictOffsetsModel" (1 : Nat) ({ cls := "java/lang/Object", name := "<init>", desc := "()V" } : Jvm.MethodName)) ∈ lw_all := lw_g (lw_at lw_m0 108 rfl) rfl
theorem q124 : (Jvm.Cond.fieldLink "StrictOffsetsModel" (7 : Nat) "StrictOffsetsModel" "periods" "[I") ∈ lw_all := lw_g (lw_at lw_m0 109 rfl) rfl
theorem q125 : (Jvm.Cond.fieldLink "StrictOffsetsModel" (13 : Nat) "StrictOffsetsModel" "lengths" "[I") ∈ lw_all := lw_g (lw_at lw_m0 110 rfl) rfl
theorem q126 : (Jvm.Cond.fieldLink "StrictOffsetsModel" (16 : Nat) "StrictOffsetsModel" "offsets" "[I") ∈ lw_all := lw_g (lw_at lw_m0 111 rfl) rfl
theorem q127 : (Jvm.Cond.laysFinal "StrictOffsetsModel" "StrictOffsetsModel" "periods" "[I") ∈ lw_all := lw_g (lw_at lw_m0 112 rfl) rfl
theorem q128 : (Jvm.Cond.soleField "StrictOffsetsModel" "periods") ∈ lw_all := lw_g (lw_at lw_m0 113 rfl) rfl
theorem q129 : (Jvm.Cond.laysFinal "StrictOffsetsModel" "StrictOffsetsModel" "lengths" "[I") ∈ lw_all := lw_g (lw_at lw_m0 114 rfl) rfl
theorem q130 : (Jvm.Cond.soleField "StrictOffsetsModel" "lengths") ∈ lw_all := lw_g (lw_at lw_m0 115 rfl) rfl
theorem q131 : (Jvm.Cond.laysFinal "StrictOffsetsModel" "StrictOffsetsModel" "offsets" "[I") ∈ lw_all := lw_g (lw_at lw_m0 116 rfl) rfl
theorem q132 : (Jvm.Cond.soleField "StrictOffsetsModel" "offsets") ∈ lw_all := lw_g (lw_at lw_m0 117 rfl) rfl
theorem q133 : (Jvm.Cond.superclass "StrictOffsetsModel" "java/lang/Object") ∈ lw_all := lw_g (lw_at lw_m0 118 rfl) rfl
theorem q135 : (Jvm.Cond.instanceMethod yX1_admit) ∈ lw_all := lw_g (lw_at lw_m0 120 rfl) rfl
theorem q136 : (Jvm.Cond.selects "StrictOffsetsModel" yX1_admit yX1_admit) ∈ lw_all := lw_g (lw_at lw_m0 121 rfl) rfl
theorem q137 : (Jvm.Cond.code yX1_admit prog_3_method_9_code (4 : Nat) (Option.some Jvm.ClassFile.FieldType.int)) ∈ lw_all := lw_g (lw_at lw_m0 122 rfl) rfl
theorem q138 : (Jvm.Cond.methodLink "StrictOffsetsModel" (24 : Nat) ({ cls := "StrictOffsetsModel", name := "badPeriod", desc := "(I)Z" } : Jvm.MethodName)) ∈ lw_all := lw_g (lw_at lw_m0 123 rfl) rfl
theorem q139 : (Jvm.Cond.privateMethod ({ cls := "StrictOffsetsModel", name := "badPeriod", desc := "(I)Z" } : Jvm.MethodName)) ∈ lw_tbl := lw_at lw_m0 124 rfl
theorem q140 : (Jvm.Cond.instanceMethod ({ cls := "StrictOffsetsModel", name := "badPeriod", desc := "(I)Z" } : Jvm.MethodName)) ∈ lw_all := lw_g (lw_at lw_m0 125 rfl) rfl
theorem q141 : (Jvm.Cond.code ({ cls := "StrictOffsetsModel", name := "badPeriod", desc := "(I)Z" } : Jvm.MethodName) prog_3_method_2_code (2 : Nat) (Option.some Jvm.ClassFile.FieldType.boolean)) ∈ lw_all := lw_g (lw_at lw_m0 126 rfl) rfl
theorem q142 : (Jvm.Cond.methodLink "StrictOffsetsModel" (28 : Nat) ({ cls := "StrictOffsetsModel", name := "count", desc := "()I" } : Jvm.MethodName)) ∈ lw_all := lw_g (lw_at lw_m0 127 rfl) rfl
theorem q143 : (Jvm.Cond.privateMethod ({ cls := "StrictOffsetsModel", name := "count", desc := "()I" } : Jvm.MethodName)) ∈ lw_tbl := lw_at lw_m0 128 rfl
theorem q144 : (Jvm.Cond.instanceMethod ({ cls := "StrictOffsetsModel", name := "count", desc := "()I" } : Jvm.MethodName)) ∈ lw_all := lw_g (lw_at lw_m0 129 rfl) rfl
theorem q145 : (Jvm.Cond.code ({ cls := "StrictOffsetsModel", name := "count", desc := "()I" } : Jvm.MethodName) prog_3_method_7_code (3 : Nat) (Option.some Jvm.ClassFile.FieldType.int)) ∈ lw_all := lw_g (lw_at lw_m0 130 rfl) rfl
theorem q146 : (Jvm.Cond.methodLink "StrictOffsetsModel" (32 : Nat) ({ cls := "StrictOffsetsModel", name := "longest", desc := "(II)I" } : Jvm.MethodName)) ∈ lw_all := lw_g (lw_at lw_m0 131 rfl) rfl
theorem q147 : (Jvm.Cond.privateMethod ({ cls := "StrictOffsetsModel", name := "longest", desc := "(II)I" } : Jvm.MethodName)) ∈ lw_tbl := lw_at lw_m0 132 rfl
theorem q148 : (Jvm.Cond.instanceMethod ({ cls := "StrictOffsetsModel", name := "longest", desc := "(II)I" } : Jvm.MethodName)) ∈ lw_all := lw_g (lw_at lw_m0 133 rfl) rfl
theorem q149 : (Jvm.Cond.code ({ cls := "StrictOffsetsModel", name := "longest", desc := "(II)I" } : Jvm.MethodName) prog_3_method_6_code (7 : Nat) (Option.some Jvm.ClassFile.FieldType.int)) ∈ lw_all := lw_g (lw_at lw_m0 134 rfl) rfl
theorem q150 : (Jvm.Cond.methodLink "StrictOffsetsModel" (20 : Nat) ({ cls := "StrictOffsetsModel", name := "running", desc := "(I)I" } : Jvm.MethodName)) ∈ lw_all := lw_g (lw_at lw_m0 135 rfl) rfl
theorem q151 : (Jvm.Cond.instanceMethod ({ cls := "StrictOffsetsModel", name := "running", desc := "(I)I" } : Jvm.MethodName)) ∈ lw_all := lw_g (lw_at lw_m0 136 rfl) rfl
theorem q152 : (Jvm.Cond.selects "StrictOffsetsModel" ({ cls := "StrictOffsetsModel", name := "running", desc := "(I)I" } : Jvm.MethodName) ({ cls := "StrictOffsetsModel", name := "running", desc := "(I)I" } : Jvm.MethodName)) ∈ lw_all := lw_g (lw_at lw_m0 137 rfl) rfl
theorem q153 : (Jvm.Cond.code ({ cls := "StrictOffsetsModel", name := "running", desc := "(I)I" } : Jvm.MethodName) prog_3_method_13_code (3 : Nat) (Option.some Jvm.ClassFile.FieldType.int)) ∈ lw_all := lw_g (lw_at lw_m0 138 rfl) rfl
theorem q154 : (Jvm.Cond.methodLink "StrictOffsetsModel" (43 : Nat) ({ cls := "StrictOffsetsModel", name := "badTime", desc := "(I)Z" } : Jvm.MethodName)) ∈ lw_all := lw_g (lw_at lw_m0 139 rfl) rfl
theorem q155 : (Jvm.Cond.privateMethod ({ cls := "StrictOffsetsModel", name := "badTime", desc := "(I)Z" } : Jvm.MethodName)) ∈ lw_tbl := lw_at lw_m0 140 rfl
theorem q156 : (Jvm.Cond.instanceMethod ({ cls := "StrictOffsetsModel", name := "badTime", desc := "(I)Z" } : Jvm.MethodName)) ∈ lw_all := lw_g (lw_at lw_m0 141 rfl) rfl
theorem q157 : (Jvm.Cond.code ({ cls := "StrictOffsetsModel", name := "badTime", desc := "(I)Z" } : Jvm.MethodName) prog_3_method_3_code (2 : Nat) (Option.some Jvm.ClassFile.FieldType.boolean)) ∈ lw_all := lw_g (lw_at lw_m0 142 rfl) rfl
theorem q158 : (Jvm.Cond.constant "StrictOffsetsModel" (19 : Nat) (1000000000 : Int32)) ∈ lw_all := lw_g (lw_at lw_m0 143 rfl) rfl
theorem q159 : (Jvm.Cond.methodLink "StrictOffsetsModel" (46 : Nat) ({ cls := "StrictOffsetsModel", name := "runs", desc := "(II)Z" } : Jvm.MethodName)) ∈ lw_all := lw_g (lw_at lw_m0 144 rfl) rfl
theorem q160 : (Jvm.Cond.privateMethod ({ cls := "StrictOffsetsModel", name := "runs", desc := "(II)Z" } : Jvm.MethodName)) ∈ lw_tbl := lw_at lw_m0 145 rfl
theorem q161 : (Jvm.Cond.instanceMethod ({ cls := "StrictOffsetsModel", name := "runs", desc := "(II)Z" } : Jvm.MethodName)) ∈ lw_all := lw_g (lw_at lw_m0 146 rfl) rfl
theorem q162 : (Jvm.Cond.code ({ cls := "StrictOffsetsModel", name := "runs", desc := "(II)Z" } : Jvm.MethodName) prog_3_method_5_code (4 : Nat) (Option.some Jvm.ClassFile.FieldType.boolean)) ∈ lw_all := lw_g (lw_at lw_m0 147 rfl) rfl
theorem q163 : (Jvm.Cond.methodLink "StrictOffsetsModel" (36 : Nat) ({ cls := "StrictOffsetsModel", name := "take", desc := "(III)I" } : Jvm.MethodName)) ∈ lw_all := lw_g (lw_at lw_m0 148 rfl) rfl
theorem q164 : (Jvm.Cond.privateMethod ({ cls := "StrictOffsetsModel", name := "take", desc := "(III)I" } : Jvm.MethodName)) ∈ lw_tbl := lw_at lw_m0 149 rfl
theorem q165 : (Jvm.Cond.instanceMethod ({ cls := "StrictOffsetsModel", name := "take", desc := "(III)I" } : Jvm.MethodName)) ∈ lw_all := lw_g (lw_at lw_m0 150 rfl) rfl
theorem q166 : (Jvm.Cond.code ({ cls := "StrictOffsetsModel", name := "take", desc := "(III)I" } : Jvm.MethodName) prog_3_method_8_code (5 : Nat) (Option.some Jvm.ClassFile.FieldType.int)) ∈ lw_all := lw_g (lw_at lw_m0 151 rfl) rfl
theorem q168 : (Jvm.Cond.instanceMethod ({ cls := "StrictOffsetsModel", name := "admitAt", desc := "(III)I" } : Jvm.MethodName)) ∈ lw_all := lw_g (lw_at lw_m0 153 rfl) rfl
theorem q169 : (Jvm.Cond.selects "StrictOffsetsModel" ({ cls := "StrictOffsetsModel", name := "admitAt", desc := "(III)I" } : Jvm.MethodName) ({ cls := "StrictOffsetsModel", name := "admitAt", desc := "(III)I" } : Jvm.MethodName)) ∈ lw_all := lw_g (lw_at lw_m0 154 rfl) rfl
theorem q170 : (Jvm.Cond.code ({ cls := "StrictOffsetsModel", name := "admitAt", desc := "(III)I" } : Jvm.MethodName) prog_3_method_10_code (4 : Nat) (Option.some Jvm.ClassFile.FieldType.int)) ∈ lw_all := lw_g (lw_at lw_m0 155 rfl) rfl
theorem q172 : (Jvm.Cond.instanceMethod ({ cls := "StrictOffsetsModel", name := "remove", desc := "(I)I" } : Jvm.MethodName)) ∈ lw_all := lw_g (lw_at lw_m0 157 rfl) rfl
theorem q173 : (Jvm.Cond.selects "StrictOffsetsModel" ({ cls := "StrictOffsetsModel", name := "remove", desc := "(I)I" } : Jvm.MethodName) ({ cls := "StrictOffsetsModel", name := "remove", desc := "(I)I" } : Jvm.MethodName)) ∈ lw_all := lw_g (lw_at lw_m0 158 rfl) rfl
theorem q174 : (Jvm.Cond.code ({ cls := "StrictOffsetsModel", name := "remove", desc := "(I)I" } : Jvm.MethodName) prog_3_method_11_code (2 : Nat) (Option.some Jvm.ClassFile.FieldType.int)) ∈ lw_all := lw_g (lw_at lw_m0 159 rfl) rfl
theorem q175 : (Jvm.Cond.methodLink "StrictOffsetsModel" (40 : Nat) ({ cls := "StrictOffsetsModel", name := "none", desc := "(I)Z" } : Jvm.MethodName)) ∈ lw_all := lw_g (lw_at lw_m0 160 rfl) rfl
theorem q176 : (Jvm.Cond.privateMethod ({ cls := "StrictOffsetsModel", name := "none", desc := "(I)Z" } : Jvm.MethodName)) ∈ lw_tbl := lw_at lw_m0 161 rfl
theorem q177 : (Jvm.Cond.instanceMethod ({ cls := "StrictOffsetsModel", name := "none", desc := "(I)Z" } : Jvm.MethodName)) ∈ lw_all := lw_g (lw_at lw_m0 162 rfl) rfl
theorem q178 : (Jvm.Cond.code ({ cls := "StrictOffsetsModel", name := "none", desc := "(I)Z" } : Jvm.MethodName) prog_3_method_4_code (2 : Nat) (Option.some Jvm.ClassFile.FieldType.boolean)) ∈ lw_all := lw_g (lw_at lw_m0 163 rfl) rfl
theorem q180 : (Jvm.Cond.instanceMethod ({ cls := "StrictOffsetsModel", name := "offset", desc := "(I)I" } : Jvm.MethodName)) ∈ lw_all := lw_g (lw_at lw_m0 165 rfl) rfl
theorem q181 : (Jvm.Cond.selects "StrictOffsetsModel" ({ cls := "StrictOffsetsModel", name := "offset", desc := "(I)I" } : Jvm.MethodName) ({ cls := "StrictOffsetsModel", name := "offset", desc := "(I)I" } : Jvm.MethodName)) ∈ lw_all := lw_g (lw_at lw_m0 166 rfl) rfl
theorem q182 : (Jvm.Cond.code ({ cls := "StrictOffsetsModel", name := "offset", desc := "(I)I" } : Jvm.MethodName) prog_3_method_12_code (2 : Nat) (Option.some Jvm.ClassFile.FieldType.int)) ∈ lw_all := lw_g (lw_at lw_m0 167 rfl) rfl
theorem q185 : (Jvm.Cond.instanceMethod ({ cls := "StrictOffsetsModel", name := "free", desc := "(II)I" } : Jvm.MethodName)) ∈ lw_all := lw_g (lw_at lw_m0 170 rfl) rfl
theorem q186 : (Jvm.Cond.selects "StrictOffsetsModel" ({ cls := "StrictOffsetsModel", name := "free", desc := "(II)I" } : Jvm.MethodName) ({ cls := "StrictOffsetsModel", name := "free", desc := "(II)I" } : Jvm.MethodName)) ∈ lw_all := lw_g (lw_at lw_m0 171 rfl) rfl
theorem q187 : (Jvm.Cond.code ({ cls := "StrictOffsetsModel", name := "free", desc := "(II)I" } : Jvm.MethodName) prog_3_method_15_code (3 : Nat) (Option.some Jvm.ClassFile.FieldType.int)) ∈ lw_all := lw_g (lw_at lw_m0 172 rfl) rfl
theorem q188 : (Jvm.Cond.methodLink "StrictOffsetsModel" (50 : Nat) ({ cls := "StrictOffsetsModel", name := "freeBefore", desc := "(I)I" } : Jvm.MethodName)) ∈ lw_all := lw_g (lw_at lw_m0 173 rfl) rfl
theorem q189 : (Jvm.Cond.privateMethod ({ cls := "StrictOffsetsModel", name := "freeBefore", desc := "(I)I" } : Jvm.MethodName)) ∈ lw_tbl := lw_at lw_m0 174 rfl
theorem q190 : (Jvm.Cond.instanceMethod ({ cls := "StrictOffsetsModel", name := "freeBefore", desc := "(I)I" } : Jvm.MethodName)) ∈ lw_all := lw_g (lw_at lw_m0 175 rfl) rfl
theorem q191 : (Jvm.Cond.code ({ cls := "StrictOffsetsModel", name := "freeBefore", desc := "(I)I" } : Jvm.MethodName) prog_3_method_14_code (6 : Nat) (Option.some Jvm.ClassFile.FieldType.int)) ∈ lw_all := lw_g (lw_at lw_m0 176 rfl) rfl
theorem q193 : (Jvm.Cond.instanceMethod ({ cls := "StrictOffsetsModel", name := "starts", desc := "(III)I" } : Jvm.MethodName)) ∈ lw_all := lw_g (lw_at lw_m0 178 rfl) rfl
theorem q194 : (Jvm.Cond.selects "StrictOffsetsModel" ({ cls := "StrictOffsetsModel", name := "starts", desc := "(III)I" } : Jvm.MethodName) ({ cls := "StrictOffsetsModel", name := "starts", desc := "(III)I" } : Jvm.MethodName)) ∈ lw_all := lw_g (lw_at lw_m0 179 rfl) rfl
theorem q195 : (Jvm.Cond.code ({ cls := "StrictOffsetsModel", name := "starts", desc := "(III)I" } : Jvm.MethodName) prog_3_method_16_code (7 : Nat) (Option.some Jvm.ClassFile.FieldType.int)) ∈ lw_all := lw_g (lw_at lw_m0 180 rfl) rfl
theorem q197 : (Jvm.Cond.instanceMethod ({ cls := "StrictOffsetsModel", name := "nextStart", desc := "(I)I" } : Jvm.MethodName)) ∈ lw_all := lw_g (lw_at lw_m0 182 rfl) rfl
theorem q198 : (Jvm.Cond.selects "StrictOffsetsModel" ({ cls := "StrictOffsetsModel", name := "nextStart", desc := "(I)I" } : Jvm.MethodName) ({ cls := "StrictOffsetsModel", name := "nextStart", desc := "(I)I" } : Jvm.MethodName)) ∈ lw_all := lw_g (lw_at lw_m0 183 rfl) rfl
theorem q199 : (Jvm.Cond.code ({ cls := "StrictOffsetsModel", name := "nextStart", desc := "(I)I" } : Jvm.MethodName) prog_3_method_18_code (3 : Nat) (Option.some Jvm.ClassFile.FieldType.int)) ∈ lw_all := lw_g (lw_at lw_m0 184 rfl) rfl
theorem q200 : (Jvm.Cond.methodLink "StrictOffsetsModel" (53 : Nat) ({ cls := "StrictOffsetsModel", name := "begins", desc := "(I)Z" } : Jvm.MethodName)) ∈ lw_all := lw_g (lw_at lw_m0 185 rfl) rfl
theorem q201 : (Jvm.Cond.privateMethod ({ cls := "StrictOffsetsModel", name := "begins", desc := "(I)Z" } : Jvm.MethodName)) ∈ lw_tbl := lw_at lw_m0 186 rfl
theorem q202 : (Jvm.Cond.instanceMethod ({ cls := "StrictOffsetsModel", name := "begins", desc := "(I)Z" } : Jvm.MethodName)) ∈ lw_all := lw_g (lw_at lw_m0 187 rfl) rfl
theorem q203 : (Jvm.Cond.code ({ cls := "StrictOffsetsModel", name := "begins", desc := "(I)Z" } : Jvm.MethodName) prog_3_method_17_code (4 : Nat) (Option.some Jvm.ClassFile.FieldType.boolean)) ∈ lw_all := lw_g (lw_at lw_m0 188 rfl) rfl
theorem q205 : (Jvm.Cond.instanceMethod ({ cls := "StrictOffsetsModel", name := "room", desc := "(I)I" } : Jvm.MethodName)) ∈ lw_all := lw_g (lw_at lw_m0 190 rfl) rfl
theorem q206 : (Jvm.Cond.selects "StrictOffsetsModel" ({ cls := "StrictOffsetsModel", name := "room", desc := "(I)I" } : Jvm.MethodName) ({ cls := "StrictOffsetsModel", name := "room", desc := "(I)I" } : Jvm.MethodName)) ∈ lw_all := lw_g (lw_at lw_m0 191 rfl) rfl
theorem q207 : (Jvm.Cond.code ({ cls := "StrictOffsetsModel", name := "room", desc := "(I)I" } : Jvm.MethodName) prog_3_method_19_code (5 : Nat) (Option.some Jvm.ClassFile.FieldType.int)) ∈ lw_all := lw_g (lw_at lw_m0 192 rfl) rfl
theorem q209 : (Jvm.Cond.instanceMethod ({ cls := "StrictOffsetsModel", name := "load", desc := "()I" } : Jvm.MethodName)) ∈ lw_all := lw_g (lw_at lw_m0 194 rfl) rfl
theorem q210 : (Jvm.Cond.selects "StrictOffsetsModel" ({ cls := "StrictOffsetsModel", name := "load", desc := "()I" } : Jvm.MethodName) ({ cls := "StrictOffsetsModel", name := "load", desc := "()I" } : Jvm.MethodName)) ∈ lw_all := lw_g (lw_at lw_m0 195 rfl) rfl
theorem q211 : (Jvm.Cond.code ({ cls := "StrictOffsetsModel", name := "load", desc := "()I" } : Jvm.MethodName) prog_3_method_20_code (3 : Nat) (Option.some Jvm.ClassFile.FieldType.int)) ∈ lw_all := lw_g (lw_at lw_m0 196 rfl) rfl
theorem in_X1 : ∀ w ∈ wsX10, w ∈ lw_all := lw_in wsX10 [127, 129, 131] (by decide +kernel) (by decide +kernel)
end
section
/-! java/lang/Object -/
set_option maxRecDepth 100000
def RJ0 : String := "java/lang/Object"
abbrev cJ0_init : ByteArray := object_method_1_code
def yJ0_init : MethodName := ⟨RJ0, "<init>", "()V"⟩
theorem dJ0_init_0 : decode cJ0_init 0 = .ok (.return_, 1) := by decide +kernel
theorem q24 : (Jvm.Cond.instanceMethod ({ cls := "java/lang/Object", name := "<init>", desc := "()V" } : Jvm.MethodName)) ∈ lw_all := lw_g (lw_at lw_m0 9 rfl) rfl
theorem q25 : (Jvm.Cond.code ({ cls := "java/lang/Object", name := "<init>", desc := "()V" } : Jvm.MethodName) object_method_1_code (1 : Nat) (Option.none : Option Jvm.ClassFile.FieldType)) ∈ lw_all := lw_g (lw_at lw_m0 10 rfl) rfl
theorem q15 : (Jvm.Cond.initialized "StrictOffsetsLaw") ∈ lw_all := lw_g (lw_at lw_m0 0 rfl) rfl
set_option maxRecDepth 100000
theorem q18 : (Jvm.Cond.classLink "StrictOffsetsLaw" (7 : Nat) "StrictOffsets") ∈ lw_all := lw_g (lw_at lw_m0 3 rfl) rfl
theorem q20 : (Jvm.Cond.methodLink "StrictOffsetsLaw" (9 : Nat) ({ cls := "StrictOffsets", name := "<init>", desc := "()V" } : Jvm.MethodName)) ∈ lw_all := lw_g (lw_at lw_m0 5 rfl) rfl
theorem q44 : (Jvm.Cond.methodLink "StrictOffsetsLaw" (13 : Nat) yX0_admit) ∈ lw_all := lw_g (lw_at lw_m0 29 rfl) rfl
theorem q66 : (Jvm.Cond.methodLink "StrictOffsetsLaw" (18 : Nat) ({ cls := "StrictOffsets", name := "admitAt", desc := "(III)I" } : Jvm.MethodName)) ∈ lw_all := lw_g (lw_at lw_m0 51 rfl) rfl
theorem q70 : (Jvm.Cond.methodLink "StrictOffsetsLaw" (23 : Nat) ({ cls := "StrictOffsets", name := "remove", desc := "(I)I" } : Jvm.MethodName)) ∈ lw_all := lw_g (lw_at lw_m0 55 rfl) rfl
theorem q78 : (Jvm.Cond.methodLink "StrictOffsetsLaw" (28 : Nat) ({ cls := "StrictOffsets", name := "offset", desc := "(I)I" } : Jvm.MethodName)) ∈ lw_all := lw_g (lw_at lw_m0 63 rfl) rfl
theorem q82 : (Jvm.Cond.methodLink "StrictOffsetsLaw" (32 : Nat) ({ cls := "StrictOffsets", name := "running", desc := "(I)I" } : Jvm.MethodName)) ∈ lw_all := lw_g (lw_at lw_m0 67 rfl) rfl
theorem q90 : (Jvm.Cond.methodLink "StrictOffsetsLaw" (36 : Nat) ({ cls := "StrictOffsets", name := "free", desc := "(II)I" } : Jvm.MethodName)) ∈ lw_all := lw_g (lw_at lw_m0 75 rfl) rfl
theorem q98 : (Jvm.Cond.methodLink "StrictOffsetsLaw" (40 : Nat) ({ cls := "StrictOffsets", name := "starts", desc := "(III)I" } : Jvm.MethodName)) ∈ lw_all := lw_g (lw_at lw_m0 83 rfl) rfl
theorem q106 : (Jvm.Cond.methodLink "StrictOffsetsLaw" (44 : Nat) ({ cls := "StrictOffsets", name := "nextStart", desc := "(I)I" } : Jvm.MethodName)) ∈ lw_all := lw_g (lw_at lw_m0 91 rfl) rfl
theorem q110 : (Jvm.Cond.methodLink "StrictOffsetsLaw" (48 : Nat) ({ cls := "StrictOffsets", name := "room", desc := "(I)I" } : Jvm.MethodName)) ∈ lw_all := lw_g (lw_at lw_m0 95 rfl) rfl
theorem q114 : (Jvm.Cond.methodLink "StrictOffsetsLaw" (52 : Nat) ({ cls := "StrictOffsets", name := "load", desc := "()I" } : Jvm.MethodName)) ∈ lw_all := lw_g (lw_at lw_m0 99 rfl) rfl
theorem q118 : (Jvm.Cond.classLink "StrictOffsetsLaw" (10 : Nat) "StrictOffsetsModel") ∈ lw_all := lw_g (lw_at lw_m0 103 rfl) rfl
theorem q120 : (Jvm.Cond.methodLink "StrictOffsetsLaw" (12 : Nat) ({ cls := "StrictOffsetsModel", name := "<init>", desc := "()V" } : Jvm.MethodName)) ∈ lw_all := lw_g (lw_at lw_m0 105 rfl) rfl
theorem q134 : (Jvm.Cond.methodLink "StrictOffsetsLaw" (17 : Nat) yX1_admit) ∈ lw_all := lw_g (lw_at lw_m0 119 rfl) rfl
theorem q167 : (Jvm.Cond.methodLink "StrictOffsetsLaw" (22 : Nat) ({ cls := "StrictOffsetsModel", name := "admitAt", desc := "(III)I" } : Jvm.MethodName)) ∈ lw_all := lw_g (lw_at lw_m0 152 rfl) rfl
theorem q171 : (Jvm.Cond.methodLink "StrictOffsetsLaw" (27 : Nat) ({ cls := "StrictOffsetsModel", name := "remove", desc := "(I)I" } : Jvm.MethodName)) ∈ lw_all := lw_g (lw_at lw_m0 156 rfl) rfl
theorem q179 : (Jvm.Cond.methodLink "StrictOffsetsLaw" (31 : Nat) ({ cls := "StrictOffsetsModel", name := "offset", desc := "(I)I" } : Jvm.MethodName)) ∈ lw_all := lw_g (lw_at lw_m0 164 rfl) rfl
theorem q183 : (Jvm.Cond.methodLink "StrictOffsetsLaw" (35 : Nat) ({ cls := "StrictOffsetsModel", name := "running", desc := "(I)I" } : Jvm.MethodName)) ∈ lw_all := lw_g (lw_at lw_m0 168 rfl) rfl
theorem q184 : (Jvm.Cond.methodLink "StrictOffsetsLaw" (39 : Nat) ({ cls := "StrictOffsetsModel", name := "free", desc := "(II)I" } : Jvm.MethodName)) ∈ lw_all := lw_g (lw_at lw_m0 169 rfl) rfl
theorem q192 : (Jvm.Cond.methodLink "StrictOffsetsLaw" (43 : Nat) ({ cls := "StrictOffsetsModel", name := "starts", desc := "(III)I" } : Jvm.MethodName)) ∈ lw_all := lw_g (lw_at lw_m0 177 rfl) rfl
theorem q196 : (Jvm.Cond.methodLink "StrictOffsetsLaw" (47 : Nat) ({ cls := "StrictOffsetsModel", name := "nextStart", desc := "(I)I" } : Jvm.MethodName)) ∈ lw_all := lw_g (lw_at lw_m0 181 rfl) rfl
theorem q204 : (Jvm.Cond.methodLink "StrictOffsetsLaw" (51 : Nat) ({ cls := "StrictOffsetsModel", name := "room", desc := "(I)I" } : Jvm.MethodName)) ∈ lw_all := lw_g (lw_at lw_m0 189 rfl) rfl
theorem q208 : (Jvm.Cond.methodLink "StrictOffsetsLaw" (56 : Nat) ({ cls := "StrictOffsetsModel", name := "load", desc := "()I" } : Jvm.MethodName)) ∈ lw_all := lw_g (lw_at lw_m0 193 rfl) rfl
theorem q42 : (Jvm.Cond.arrayClass Jvm.ClassFile.FieldType.boolean) ∈ lw_all := lw_g (lw_at lw_m0 27 rfl) rfl
set_option maxRecDepth 100000
theorem q43 : (Jvm.Cond.arrayClass Jvm.ClassFile.FieldType.int) ∈ lw_all := lw_g (lw_at lw_m0 28 rfl) rfl
/-! the law's own entry -/
set_option maxRecDepth 100000
abbrev cL_law : ByteArray := code
theorem dL_law_0 : decode cL_law 0 = .ok (.new 7, 3) := by decide +kernel
theorem dL_law_3 : decode cL_law 3 = .ok (.dup, 1) := by decide +kernel
theorem dL_law_4 : decode cL_law 4 = .ok (.invokespecial 9, 3) := by decide +kernel
theorem dL_law_7 : decode cL_law 7 = .ok (.astore_n 1, 1) := by decide +kernel
theorem dL_law_8 : decode cL_law 8 = .ok (.new 10, 3) := by decide +kernel
theorem dL_law_11 : decode cL_law 11 = .ok (.dup, 1) := by decide +kernel
theorem dL_law_12 : decode cL_law 12 = .ok (.invokespecial 12, 3) := by decide +kernel
theorem dL_law_15 : decode cL_law 15 = .ok (.astore_n 2, 1) := by decide +kernel
theorem dL_law_16 : decode cL_law 16 = .ok (.iconst 0, 1) := by decide +kernel
theorem dL_law_17 : decode cL_law 17 = .ok (.istore_n 3, 1) := by decide +kernel
theorem dL_law_18 : decode cL_law 18 = .ok (.iload_n 3, 1) := by decide +kernel
theorem dL_law_19 : decode cL_law 19 = .ok (.aload_n 0, 1) := by decide +kernel
theorem dL_law_20 : decode cL_law 20 = .ok (.arraylength, 1) := by decide +kernel
theorem dL_law_21 : decode cL_law 21 = .ok (.iconst 4, 1) := by decide +kernel
theorem dL_law_22 : decode cL_law 22 = .ok (.isub, 1) := by decide +kernel
theorem dL_law_23 : decode cL_law 23 = .ok (.if_icmp .gt 351, 3) := by decide +kernel
theorem dL_law_26 : decode cL_law 26 = .ok (.aload_n 0, 1) := by decide +kernel
theorem dL_law_27 : decode cL_law 27 = .ok (.iload_n 3, 1) := by decide +kernel
theorem dL_law_28 : decode cL_law 28 = .ok (.iaload, 1) := by decide +kernel
theorem dL_law_29 : decode cL_law 29 = .ok (.bipush 15, 2) := by decide +kernel
theorem dL_law_31 : decode cL_law 31 = .ok (.iand, 1) := by decide +kernel
theorem dL_law_32 : decode cL_law 32 = .ok (.tableswitch 336 0 9 #[56, 89, 132, 155, 178, 201, 234, 277, 300, 323], 56) := by decide +kernel
theorem dL_law_88 : decode cL_law 88 = .ok (.aload_n 1, 1) := by decide +kernel
theorem dL_law_89 : decode cL_law 89 = .ok (.aload_n 0, 1) := by decide +kernel
theorem dL_law_90 : decode cL_law 90 = .ok (.iload_n 3, 1) := by decide +kernel
theorem dL_law_91 : decode cL_law 91 = .ok (.iconst 1, 1) := by decide +kernel
theorem dL_law_92 : decode cL_law 92 = .ok (.iadd, 1) := by decide +kernel
theorem dL_law_93 : decode cL_law 93 = .ok (.iaload, 1) := by decide +kernel
theorem dL_law_94 : decode cL_law 94 = .ok (.aload_n 0, 1) := by decide +kernel
theorem dL_law_95 : decode cL_law 95 = .ok (.iload_n 3, 1) := by decide +kernel
theorem dL_law_96 : decode cL_law 96 = .ok (.iconst 2, 1) := by decide +kernel
theorem dL_law_97 : decode cL_law 97 = .ok (.iadd, 1) := by decide +kernel
theorem dL_law_98 : decode cL_law 98 = .ok (.iaload, 1) := by decide +kernel
theorem dL_law_99 : decode cL_law 99 = .ok (.invokevirtual 13, 3) := by decide +kernel
theorem dL_law_102 : decode cL_law 102 = .ok (.aload_n 2, 1) := by decide +kernel
theorem dL_law_103 : decode cL_law 103 = .ok (.aload_n 0, 1) := by decide +kernel
theorem dL_law_104 : decode cL_law 104 = .ok (.iload_n 3, 1) := by decide +kernel
theorem dL_law_105 : decode cL_law 105 = .ok (.iconst 1, 1) := by decide +kernel
theorem dL_law_106 : decode cL_law 106 = .ok (.iadd, 1) := by decide +kernel
theorem dL_law_107 : decode cL_law 107 = .ok (.iaload, 1) := by decide +kernel
theorem dL_law_108 : decode cL_law 108 = .ok (.aload_n 0, 1) := by decide +kernel
theorem dL_law_109 : decode cL_law 109 = .ok (.iload_n 3, 1) := by decide +kernel
theorem dL_law_110 : decode cL_law 110 = .ok (.iconst 2, 1) := by decide +kernel
theorem dL_law_111 : decode cL_law 111 = .ok (.iadd, 1) := by decide +kernel
theorem dL_law_112 : decode cL_law 112 = .ok (.iaload, 1) := by decide +kernel
theorem dL_law_113 : decode cL_law 113 = .ok (.invokevirtual 17, 3) := by decide +kernel
theorem dL_law_116 : decode cL_law 116 = .ok (.if_icmp .eq 252, 3) := by decide +kernel
theorem dL_law_119 : decode cL_law 119 = .ok (.iconst 0, 1) := by decide +kernel
theorem dL_law_120 : decode cL_law 120 = .ok (.ireturn, 1) := by decide +kernel
theorem dL_law_121 : decode cL_law 121 = .ok (.aload_n 1, 1) := by decide +kernel
theorem dL_law_122 : decode cL_law 122 = .ok (.aload_n 0, 1) := by decide +kernel
theorem dL_law_123 : decode cL_law 123 = .ok (.iload_n 3, 1) := by decide +kernel
theorem dL_law_124 : decode cL_law 124 = .ok (.iconst 1, 1) := by decide +kernel
theorem dL_law_125 : decode cL_law 125 = .ok (.iadd, 1) := by decide +kernel
theorem dL_law_126 : decode cL_law 126 = .ok (.iaload, 1) := by decide +kernel
theorem dL_law_127 : decode cL_law 127 = .ok (.aload_n 0, 1) := by decide +kernel
theorem dL_law_128 : decode cL_law 128 = .ok (.iload_n 3, 1) := by decide +kernel
theorem dL_law_129 : decode cL_law 129 = .ok (.iconst 2, 1) := by decide +kernel
theorem dL_law_130 : decode cL_law 130 = .ok (.iadd, 1) := by decide +kernel
theorem dL_law_131 : decode cL_law 131 = .ok (.iaload, 1) := by decide +kernel
theorem dL_law_132 : decode cL_law 132 = .ok (.aload_n 0, 1) := by decide +kernel
theorem dL_law_133 : decode cL_law 133 = .ok (.iload_n 3, 1) := by decide +kernel
theorem dL_law_134 : decode cL_law 134 = .ok (.iconst 3, 1) := by decide +kernel
theorem dL_law_135 : decode cL_law 135 = .ok (.iadd, 1) := by decide +kernel
theorem dL_law_136 : decode cL_law 136 = .ok (.iaload, 1) := by decide +kernel
theorem dL_law_137 : decode cL_law 137 = .ok (.invokevirtual 18, 3) := by decide +kernel
theorem dL_law_140 : decode cL_law 140 = .ok (.aload_n 2, 1) := by decide +kernel
theorem dL_law_141 : decode cL_law 141 = .ok (.aload_n 0, 1) := by decide +kernel
theorem dL_law_142 : decode cL_law 142 = .ok (.iload_n 3, 1) := by decide +kernel
theorem dL_law_143 : decode cL_law 143 = .ok (.iconst 1, 1) := by decide +kernel
theorem dL_law_144 : decode cL_law 144 = .ok (.iadd, 1) := by decide +kernel
theorem dL_law_145 : decode cL_law 145 = .ok (.iaload, 1) := by decide +kernel
theorem dL_law_146 : decode cL_law 146 = .ok (.aload_n 0, 1) := by decide +kernel
theorem dL_law_147 : decode cL_law 147 = .ok (.iload_n 3, 1) := by decide +kernel
theorem dL_law_148 : decode cL_law 148 = .ok (.iconst 2, 1) := by decide +kernel
theorem dL_law_149 : decode cL_law 149 = .ok (.iadd, 1) := by decide +kernel
theorem dL_law_150 : decode cL_law 150 = .ok (.iaload, 1) := by decide +kernel
theorem dL_law_151 : decode cL_law 151 = .ok (.aload_n 0, 1) := by decide +kernel
theorem dL_law_152 : decode cL_law 152 = .ok (.iload_n 3, 1) := by decide +kernel
theorem dL_law_153 : decode cL_law 153 = .ok (.iconst 3, 1) := by decide +kernel
theorem dL_law_154 : decode cL_law 154 = .ok (.iadd, 1) := by decide +kernel
theorem dL_law_155 : decode cL_law 155 = .ok (.iaload, 1) := by decide +kernel
theorem dL_law_156 : decode cL_law 156 = .ok (.invokevirtual 22, 3) := by decide +kernel
theorem dL_law_159 : decode cL_law 159 = .ok (.if_icmp .eq 209, 3) := by decide +kernel
theorem dL_law_162 : decode cL_law 162 = .ok (.iconst 0, 1) := by decide +kernel
theorem dL_law_163 : decode cL_law 163 = .ok (.ireturn, 1) := by decide +kernel
theorem dL_law_164 : decode cL_law 164 = .ok (.aload_n 1, 1) := by decide +kernel
theorem dL_law_165 : decode cL_law 165 = .ok (.aload_n 0, 1) := by decide +kernel
theorem dL_law_166 : decode cL_law 166 = .ok (.iload_n 3, 1) := by decide +kernel
theorem dL_law_167 : decode cL_law 167 = .ok (.iconst 1, 1) := by decide +kernel
theorem dL_law_168 : decode cL_law 168 = .ok (.iadd, 1) := by decide +kernel
theorem dL_law_169 : decode cL_law 169 = .ok (.iaload, 1) := by decide +kernel
theorem dL_law_170 : decode cL_law 170 = .ok (.invokevirtual 23, 3) := by decide +kernel
theorem dL_law_173 : decode cL_law 173 = .ok (.aload_n 2, 1) := by decide +kernel
theorem dL_law_174 : decode cL_law 174 = .ok (.aload_n 0, 1) := by decide +kernel
theorem dL_law_175 : decode cL_law 175 = .ok (.iload_n 3, 1) := by decide +kernel
theorem dL_law_176 : decode cL_law 176 = .ok (.iconst 1, 1) := by decide +kernel
theorem dL_law_177 : decode cL_law 177 = .ok (.iadd, 1) := by decide +kernel
theorem dL_law_178 : decode cL_law 178 = .ok (.iaload, 1) := by decide +kernel
theorem dL_law_179 : decode cL_law 179 = .ok (.invokevirtual 27, 3) := by decide +kernel
theorem dL_law_182 : decode cL_law 182 = .ok (.if_icmp .eq 186, 3) := by decide +kernel
theorem dL_law_185 : decode cL_law 185 = .ok (.iconst 0, 1) := by decide +kernel
theorem dL_law_186 : decode cL_law 186 = .ok (.ireturn, 1) := by decide +kernel
theorem dL_law_187 : decode cL_law 187 = .ok (.aload_n 1, 1) := by decide +kernel
theorem dL_law_188 : decode cL_law 188 = .ok (.aload_n 0, 1) := by decide +kernel
theorem dL_law_189 : decode cL_law 189 = .ok (.iload_n 3, 1) := by decide +kernel
theorem dL_law_190 : decode cL_law 190 = .ok (.iconst 1, 1) := by decide +kernel
theorem dL_law_191 : decode cL_law 191 = .ok (.iadd, 1) := by decide +kernel
theorem dL_law_192 : decode cL_law 192 = .ok (.iaload, 1) := by decide +kernel
theorem dL_law_193 : decode cL_law 193 = .ok (.invokevirtual 28, 3) := by decide +kernel
theorem dL_law_196 : decode cL_law 196 = .ok (.aload_n 2, 1) := by decide +kernel
theorem dL_law_197 : decode cL_law 197 = .ok (.aload_n 0, 1) := by decide +kernel
theorem dL_law_198 : decode cL_law 198 = .ok (.iload_n 3, 1) := by decide +kernel
theorem dL_law_199 : decode cL_law 199 = .ok (.iconst 1, 1) := by decide +kernel
theorem dL_law_200 : decode cL_law 200 = .ok (.iadd, 1) := by decide +kernel
theorem dL_law_201 : decode cL_law 201 = .ok (.iaload, 1) := by decide +kernel
theorem dL_law_202 : decode cL_law 202 = .ok (.invokevirtual 31, 3) := by decide +kernel
theorem dL_law_205 : decode cL_law 205 = .ok (.if_icmp .eq 163, 3) := by decide +kernel
theorem dL_law_208 : decode cL_law 208 = .ok (.iconst 0, 1) := by decide +kernel
theorem dL_law_209 : decode cL_law 209 = .ok (.ireturn, 1) := by decide +kernel
theorem dL_law_210 : decode cL_law 210 = .ok (.aload_n 1, 1) := by decide +kernel
theorem dL_law_211 : decode cL_law 211 = .ok (.aload_n 0, 1) := by decide +kernel
theorem dL_law_212 : decode cL_law 212 = .ok (.iload_n 3, 1) := by decide +kernel
theorem dL_law_213 : decode cL_law 213 = .ok (.iconst 1, 1) := by decide +kernel
theorem dL_law_214 : decode cL_law 214 = .ok (.iadd, 1) := by decide +kernel
theorem dL_law_215 : decode cL_law 215 = .ok (.iaload, 1) := by decide +kernel
theorem dL_law_216 : decode cL_law 216 = .ok (.invokevirtual 32, 3) := by decide +kernel
theorem dL_law_219 : decode cL_law 219 = .ok (.aload_n 2, 1) := by decide +kernel
theorem dL_law_220 : decode cL_law 220 = .ok (.aload_n 0, 1) := by decide +kernel
theorem dL_law_221 : decode cL_law 221 = .ok (.iload_n 3, 1) := by decide +kernel
theorem dL_law_222 : decode cL_law 222 = .ok (.iconst 1, 1) := by decide +kernel
theorem dL_law_223 : decode cL_law 223 = .ok (.iadd, 1) := by decide +kernel
theorem dL_law_224 : decode cL_law 224 = .ok (.iaload, 1) := by decide +kernel
theorem dL_law_225 : decode cL_law 225 = .ok (.invokevirtual 35, 3) := by decide +kernel
theorem dL_law_228 : decode cL_law 228 = .ok (.if_icmp .eq 140, 3) := by decide +kernel
theorem dL_law_231 : decode cL_law 231 = .ok (.iconst 0, 1) := by decide +kernel
theorem dL_law_232 : decode cL_law 232 = .ok (.ireturn, 1) := by decide +kernel
theorem dL_law_233 : decode cL_law 233 = .ok (.aload_n 1, 1) := by decide +kernel
theorem dL_law_234 : decode cL_law 234 = .ok (.aload_n 0, 1) := by decide +kernel
theorem dL_law_235 : decode cL_law 235 = .ok (.iload_n 3, 1) := by decide +kernel
theorem dL_law_236 : decode cL_law 236 = .ok (.iconst 1, 1) := by decide +kernel
theorem dL_law_237 : decode cL_law 237 = .ok (.iadd, 1) := by decide +kernel
theorem dL_law_238 : decode cL_law 238 = .ok (.iaload, 1) := by decide +kernel
theorem dL_law_239 : decode cL_law 239 = .ok (.aload_n 0, 1) := by decide +kernel
theorem dL_law_240 : decode cL_law 240 = .ok (.iload_n 3, 1) := by decide +kernel
theorem dL_law_241 : decode cL_law 241 = .ok (.iconst 2, 1) := by decide +kernel
theorem dL_law_242 : decode cL_law 242 = .ok (.iadd, 1) := by decide +kernel
theorem dL_law_243 : decode cL_law 243 = .ok (.iaload, 1) := by decide +kernel
theorem dL_law_244 : decode cL_law 244 = .ok (.invokevirtual 36, 3) := by decide +kernel
theorem dL_law_247 : decode cL_law 247 = .ok (.aload_n 2, 1) := by decide +kernel
theorem dL_law_248 : decode cL_law 248 = .ok (.aload_n 0, 1) := by decide +kernel
theorem dL_law_249 : decode cL_law 249 = .ok (.iload_n 3, 1) := by decide +kernel
theorem dL_law_250 : decode cL_law 250 = .ok (.iconst 1, 1) := by decide +kernel
theorem dL_law_251 : decode cL_law 251 = .ok (.iadd, 1) := by decide +kernel
theorem dL_law_252 : decode cL_law 252 = .ok (.iaload, 1) := by decide +kernel
theorem dL_law_253 : decode cL_law 253 = .ok (.aload_n 0, 1) := by decide +kernel
theorem dL_law_254 : decode cL_law 254 = .ok (.iload_n 3, 1) := by decide +kernel
theorem dL_law_255 : decode cL_law 255 = .ok (.iconst 2, 1) := by decide +kernel
theorem dL_law_256 : decode cL_law 256 = .ok (.iadd, 1) := by decide +kernel
theorem dL_law_257 : decode cL_law 257 = .ok (.iaload, 1) := by decide +kernel
theorem dL_law_258 : decode cL_law 258 = .ok (.invokevirtual 39, 3) := by decide +kernel
theorem dL_law_261 : decode cL_law 261 = .ok (.if_icmp .eq 107, 3) := by decide +kernel
theorem dL_law_264 : decode cL_law 264 = .ok (.iconst 0, 1) := by decide +kernel
theorem dL_law_265 : decode cL_law 265 = .ok (.ireturn, 1) := by decide +kernel
theorem dL_law_266 : decode cL_law 266 = .ok (.aload_n 1, 1) := by decide +kernel
theorem dL_law_267 : decode cL_law 267 = .ok (.aload_n 0, 1) := by decide +kernel
theorem dL_law_268 : decode cL_law 268 = .ok (.iload_n 3, 1) := by decide +kernel
theorem dL_law_269 : decode cL_law 269 = .ok (.iconst 1, 1) := by decide +kernel
theorem dL_law_270 : decode cL_law 270 = .ok (.iadd, 1) := by decide +kernel
theorem dL_law_271 : decode cL_law 271 = .ok (.iaload, 1) := by decide +kernel
theorem dL_law_272 : decode cL_law 272 = .ok (.aload_n 0, 1) := by decide +kernel
theorem dL_law_273 : decode cL_law 273 = .ok (.iload_n 3, 1) := by decide +kernel
theorem dL_law_274 : decode cL_law 274 = .ok (.iconst 2, 1) := by decide +kernel
theorem dL_law_275 : decode cL_law 275 = .ok (.iadd, 1) := by decide +kernel
theorem dL_law_276 : decode cL_law 276 = .ok (.iaload, 1) := by decide +kernel
theorem dL_law_277 : decode cL_law 277 = .ok (.aload_n 0, 1) := by decide +kernel
theorem dL_law_278 : decode cL_law 278 = .ok (.iload_n 3, 1) := by decide +kernel
theorem dL_law_279 : decode cL_law 279 = .ok (.iconst 3, 1) := by decide +kernel
theorem dL_law_280 : decode cL_law 280 = .ok (.iadd, 1) := by decide +kernel
theorem dL_law_281 : decode cL_law 281 = .ok (.iaload, 1) := by decide +kernel
theorem dL_law_282 : decode cL_law 282 = .ok (.invokevirtual 40, 3) := by decide +kernel
theorem dL_law_285 : decode cL_law 285 = .ok (.aload_n 2, 1) := by decide +kernel
theorem dL_law_286 : decode cL_law 286 = .ok (.aload_n 0, 1) := by decide +kernel
theorem dL_law_287 : decode cL_law 287 = .ok (.iload_n 3, 1) := by decide +kernel
theorem dL_law_288 : decode cL_law 288 = .ok (.iconst 1, 1) := by decide +kernel
theorem dL_law_289 : decode cL_law 289 = .ok (.iadd, 1) := by decide +kernel
theorem dL_law_290 : decode cL_law 290 = .ok (.iaload, 1) := by decide +kernel
theorem dL_law_291 : decode cL_law 291 = .ok (.aload_n 0, 1) := by decide +kernel
theorem dL_law_292 : decode cL_law 292 = .ok (.iload_n 3, 1) := by decide +kernel
theorem dL_law_293 : decode cL_law 293 = .ok (.iconst 2, 1) := by decide +kernel
theorem dL_law_294 : decode cL_law 294 = .ok (.iadd, 1) := by decide +kernel
theorem dL_law_295 : decode cL_law 295 = .ok (.iaload, 1) := by decide +kernel
theorem dL_law_296 : decode cL_law 296 = .ok (.aload_n 0, 1) := by decide +kernel
theorem dL_law_297 : decode cL_law 297 = .ok (.iload_n 3, 1) := by decide +kernel
theorem dL_law_298 : decode cL_law 298 = .ok (.iconst 3, 1) := by decide +kernel
theorem dL_law_299 : decode cL_law 299 = .ok (.iadd, 1) := by decide +kernel
theorem dL_law_300 : decode cL_law 300 = .ok (.iaload, 1) := by decide +kernel
theorem dL_law_301 : decode cL_law 301 = .ok (.invokevirtual 43, 3) := by decide +kernel
theorem dL_law_304 : decode cL_law 304 = .ok (.if_icmp .eq 64, 3) := by decide +kernel
theorem dL_law_307 : decode cL_law 307 = .ok (.iconst 0, 1) := by decide +kernel
theorem dL_law_308 : decode cL_law 308 = .ok (.ireturn, 1) := by decide +kernel
theorem dL_law_309 : decode cL_law 309 = .ok (.aload_n 1, 1) := by decide +kernel
theorem dL_law_310 : decode cL_law 310 = .ok (.aload_n 0, 1) := by decide +kernel
theorem dL_law_311 : decode cL_law 311 = .ok (.iload_n 3, 1) := by decide +kernel
theorem dL_law_312 : decode cL_law 312 = .ok (.iconst 1, 1) := by decide +kernel
theorem dL_law_313 : decode cL_law 313 = .ok (.iadd, 1) := by decide +kernel
theorem dL_law_314 : decode cL_law 314 = .ok (.iaload, 1) := by decide +kernel
theorem dL_law_315 : decode cL_law 315 = .ok (.invokevirtual 44, 3) := by decide +kernel
theorem dL_law_318 : decode cL_law 318 = .ok (.aload_n 2, 1) := by decide +kernel
theorem dL_law_319 : decode cL_law 319 = .ok (.aload_n 0, 1) := by decide +kernel
theorem dL_law_320 : decode cL_law 320 = .ok (.iload_n 3, 1) := by decide +kernel
theorem dL_law_321 : decode cL_law 321 = .ok (.iconst 1, 1) := by decide +kernel
theorem dL_law_322 : decode cL_law 322 = .ok (.iadd, 1) := by decide +kernel
theorem dL_law_323 : decode cL_law 323 = .ok (.iaload, 1) := by decide +kernel
theorem dL_law_324 : decode cL_law 324 = .ok (.invokevirtual 47, 3) := by decide +kernel
theorem dL_law_327 : decode cL_law 327 = .ok (.if_icmp .eq 41, 3) := by decide +kernel
theorem dL_law_330 : decode cL_law 330 = .ok (.iconst 0, 1) := by decide +kernel
theorem dL_law_331 : decode cL_law 331 = .ok (.ireturn, 1) := by decide +kernel
theorem dL_law_332 : decode cL_law 332 = .ok (.aload_n 1, 1) := by decide +kernel
theorem dL_law_333 : decode cL_law 333 = .ok (.aload_n 0, 1) := by decide +kernel
theorem dL_law_334 : decode cL_law 334 = .ok (.iload_n 3, 1) := by decide +kernel
theorem dL_law_335 : decode cL_law 335 = .ok (.iconst 1, 1) := by decide +kernel
theorem dL_law_336 : decode cL_law 336 = .ok (.iadd, 1) := by decide +kernel
theorem dL_law_337 : decode cL_law 337 = .ok (.iaload, 1) := by decide +kernel
theorem dL_law_338 : decode cL_law 338 = .ok (.invokevirtual 48, 3) := by decide +kernel
theorem dL_law_341 : decode cL_law 341 = .ok (.aload_n 2, 1) := by decide +kernel
theorem dL_law_342 : decode cL_law 342 = .ok (.aload_n 0, 1) := by decide +kernel
theorem dL_law_343 : decode cL_law 343 = .ok (.iload_n 3, 1) := by decide +kernel
theorem dL_law_344 : decode cL_law 344 = .ok (.iconst 1, 1) := by decide +kernel
theorem dL_law_345 : decode cL_law 345 = .ok (.iadd, 1) := by decide +kernel
theorem dL_law_346 : decode cL_law 346 = .ok (.iaload, 1) := by decide +kernel
theorem dL_law_347 : decode cL_law 347 = .ok (.invokevirtual 51, 3) := by decide +kernel
theorem dL_law_350 : decode cL_law 350 = .ok (.if_icmp .eq 18, 3) := by decide +kernel
theorem dL_law_353 : decode cL_law 353 = .ok (.iconst 0, 1) := by decide +kernel
theorem dL_law_354 : decode cL_law 354 = .ok (.ireturn, 1) := by decide +kernel
theorem dL_law_355 : decode cL_law 355 = .ok (.aload_n 1, 1) := by decide +kernel
theorem dL_law_356 : decode cL_law 356 = .ok (.invokevirtual 52, 3) := by decide +kernel
theorem dL_law_359 : decode cL_law 359 = .ok (.aload_n 2, 1) := by decide +kernel
theorem dL_law_360 : decode cL_law 360 = .ok (.invokevirtual 56, 3) := by decide +kernel
theorem dL_law_363 : decode cL_law 363 = .ok (.if_icmp .eq 5, 3) := by decide +kernel
theorem dL_law_366 : decode cL_law 366 = .ok (.iconst 0, 1) := by decide +kernel
theorem dL_law_367 : decode cL_law 367 = .ok (.ireturn, 1) := by decide +kernel
theorem dL_law_368 : decode cL_law 368 = .ok (.iinc 3 4, 3) := by decide +kernel
theorem dL_law_371 : decode cL_law 371 = .ok (.goto (-353), 3) := by decide +kernel
theorem dL_law_374 : decode cL_law 374 = .ok (.iconst 1, 1) := by decide +kernel
theorem dL_law_375 : decode cL_law 375 = .ok (.ireturn, 1) := by decide +kernel
end
section
/-! ===== how many places have a property ===== -/
def fb_ct (p : Nat → Bool) : Nat → Nat
  | 0 => 0
  | n + 1 => fb_ct p n + (if p n then 1 else 0)
theorem fb_ct_succ (p : Nat → Bool) (n : Nat) : fb_ct p (n + 1) = fb_ct p n + (if p n then 1 else 0) := rfl
theorem fb_ct_le (p : Nat → Bool) : ∀ n, fb_ct p n ≤ n
  | 0 => Nat.le_refl _
  | n + 1 => by
    have h := fb_ct_le p n
    rw [fb_ct_succ]
    split <;> omega
theorem fb_ct_step (p : Nat → Bool) (m : Nat) : ∀ n, fb_ct p m ≤ fb_ct p (m + n)
  | 0 => Nat.le_refl _
  | n + 1 => by
    have h := fb_ct_step p m n
    show fb_ct p m ≤ fb_ct p (m + n + 1)
    rw [fb_ct_succ]
    omega
theorem fb_ct_mono (p : Nat → Bool) {m n : Nat} (h : m ≤ n) : fb_ct p m ≤ fb_ct p n := by
  have := fb_ct_step p m (n - m)
  rwa [Nat.add_sub_cancel' h] at this
theorem fb_ct_cong {p q : Nat → Bool} : ∀ {n : Nat}, (∀ k, k < n → p k = q k) → fb_ct p n = fb_ct q n
  | 0, _ => rfl
  | n + 1, h => by
    rw [fb_ct_succ, fb_ct_succ, fb_ct_cong (fun k hk => h k (by omega)), h n (by omega)]
/-- one place changed -/
theorem fb_ct_out (p : Nat → Bool) (b : Bool) {i n : Nat} (h : n ≤ i) : fb_ct (fun k => if k = i then b else p k) n = fb_ct p n :=
  fb_ct_cong fun k hk => if_neg (by omega)
theorem fb_ct_upd (p : Nat → Bool) (b : Bool) {i : Nat} : ∀ {n : Nat}, i < n → fb_ct (fun k => if k = i then b else p k) n + (if p i then 1 else 0) = fb_ct p n + (if b then 1 else 0)
  | 0, h => absurd h (Nat.not_lt_zero i)
  | n + 1, h => by
    rw [fb_ct_succ, fb_ct_succ]
    rcases Nat.lt_or_ge i n with q | q
    · have := fb_ct_upd p b q
      have e : (if n = i then b else p n) = p n := if_neg (by omega)
      rw [e]
      omega
    · have e : i = n := by omega
      subst e
      rw [fb_ct_out p b (Nat.le_refl _)]
      simp only [if_true]
      omega
theorem fb_ct_sub {p q : Nat → Bool} : ∀ {n : Nat}, (∀ k, k < n → p k = true → q k = true) → fb_ct p n ≤ fb_ct q n
  | 0, _ => Nat.le_refl _
  | n + 1, h => by
    have h1 := fb_ct_sub (n := n) (p := p) (q := q) (fun k hk => h k (by omega))
    have h2 := h n (by omega)
    rw [fb_ct_succ, fb_ct_succ]
    cases hp : p n <;> cases hq : q n <;> simp_all <;> omega
theorem fb_ct_or {p q : Nat → Bool} : ∀ {n : Nat}, (∀ k, k < n → ¬ (p k = true ∧ q k = true)) → fb_ct (fun k => p k || q k) n = fb_ct p n + fb_ct q n
  | 0, _ => rfl
  | n + 1, h => by
    have h1 := fb_ct_or (n := n) (p := p) (q := q) (fun k hk => h k (by omega))
    have h2 := h n (by omega)
    rw [fb_ct_succ, fb_ct_succ, fb_ct_succ, h1]
    cases hp : p n <;> cases hq : q n <;> simp_all <;> omega
theorem fb_ct_not (p : Nat → Bool) : ∀ n, fb_ct p n + fb_ct (fun k => !p k) n = n
  | 0 => rfl
  | n + 1 => by
    have h := fb_ct_not p n
    rw [fb_ct_succ, fb_ct_succ]
    cases p n <;> simp <;> omega
theorem fb_ct_split (p : Nat → Bool) (m : Nat) : ∀ n, fb_ct p (m + n) = fb_ct p m + fb_ct (fun k => p (m + k)) n
  | 0 => rfl
  | n + 1 => by
    have h := fb_ct_split p m n
    show fb_ct p (m + n + 1) = _
    rw [fb_ct_succ, fb_ct_succ, h, Nat.add_assoc]
theorem fb_ct_zero {p : Nat → Bool} : ∀ {n : Nat}, fb_ct p n = 0 ↔ ∀ k, k < n → p k = false
  | 0 => ⟨fun _ k hk => absurd hk (Nat.not_lt_zero k), fun _ => rfl⟩
  | n + 1 => by
    have h := fb_ct_zero (p := p) (n := n)
    rw [fb_ct_succ]
    constructor
    · intro e k hk
      have e1 : fb_ct p n = 0 := by omega
      rcases Nat.lt_or_ge k n with q | q
      · exact h.mp e1 k q
      · have ek : k = n := by omega
        subst ek
        cases hp : p k
        · rfl
        · simp [hp] at e
    · intro a
      rw [h.mpr (fun k hk => a k (by omega)), a n (by omega)]
      rfl
theorem fb_ct_pos {p : Nat → Bool} {n : Nat} : 0 < fb_ct p n ↔ ∃ k, k < n ∧ p k = true := by
  constructor
  · intro h
    refine Classical.byContradiction fun hx => ?_
    have := fb_ct_zero.mpr (fun k hk => by
      cases hp : p k
      · rfl
      · exact absurd ⟨k, hk, hp⟩ hx : ∀ k, k < n → p k = false)
    omega
  · rintro ⟨k, hk, hp⟩
    rcases Nat.eq_zero_or_pos (fb_ct p n) with e | e
    · have := fb_ct_zero.mp e k hk
      rw [this] at hp
      cases hp
    · exact e
theorem fb_ct_all {p : Nat → Bool} {n : Nat} : fb_ct p n = n ↔ ∀ k, k < n → p k = true := by
  have h := fb_ct_not p n
  constructor
  · intro e k hk
    have z : fb_ct (fun k => !p k) n = 0 := by omega
    have := fb_ct_zero.mp z k hk
    cases hp : p k
    · simp [hp] at this
    · rfl
  · intro a
    have z : fb_ct (fun k => !p k) n = 0 := fb_ct_zero.mpr (fun k hk => by simp [a k hk])
    omega
/-- the k-th place with the property -/
theorem fb_ct_kth {p : Nat → Bool} {k : Nat} : ∀ {n : Nat}, k < fb_ct p n → ∃ i, i < n ∧ p i = true ∧ fb_ct p i = k
  | 0, h => absurd h (Nat.not_lt_zero k)
  | n + 1, h => by
    rcases Nat.lt_or_ge k (fb_ct p n) with q | q
    · obtain ⟨i, h1, h2⟩ := fb_ct_kth q
      exact ⟨i, by omega, h2⟩
    · rw [fb_ct_succ] at h
      cases hp : p n
      · simp [hp] at h; omega
      · simp [hp] at h
        exact ⟨n, by omega, hp, by omega⟩
theorem fb_ct_kth_one {p : Nat → Bool} {i j : Nat} (hi : p i = true) (hj : p j = true) (e : fb_ct p i = fb_ct p j) : i = j := by
  have key : ∀ a b : Nat, a < b → p a = true → fb_ct p a < fb_ct p b := by
    intro a b hab ha
    have h := fb_ct_mono p (show a + 1 ≤ b from hab)
    rw [fb_ct_succ, ha] at h
    simp at h
    omega
  rcases Nat.lt_trichotomy i j with q | q | q
  · have := key i j q hi; omega
  · exact q
  · have := key j i q hj; omega
/-! ===== sums over a range: one place changed, parts, bounds ===== -/
def fb_sm (f : Nat → Nat) : Nat → Nat
  | 0 => 0
  | n + 1 => fb_sm f n + f n
theorem fb_sm_succ (f : Nat → Nat) (n : Nat) : fb_sm f (n + 1) = fb_sm f n + f n := rfl
theorem fb_sm_cong {f g : Nat → Nat} : ∀ {n : Nat}, (∀ k, k < n → f k = g k) → fb_sm f n = fb_sm g n
  | 0, _ => rfl
  | n + 1, h => by rw [fb_sm_succ, fb_sm_succ, fb_sm_cong (fun k hk => h k (by omega)), h n (by omega)]
theorem fb_sm_out (f : Nat → Nat) (v : Nat) {i n : Nat} (h : n ≤ i) : fb_sm (fun k => if k = i then v else f k) n = fb_sm f n :=
  fb_sm_cong fun k hk => if_neg (by omega)
theorem fb_sm_upd (f : Nat → Nat) (v : Nat) {i : Nat} : ∀ {n : Nat}, i < n → fb_sm (fun k => if k = i then v else f k) n + f i = fb_sm f n + v
  | 0, h => absurd h (Nat.not_lt_zero i)
  | n + 1, h => by
    rw [fb_sm_succ, fb_sm_succ]
    rcases Nat.lt_or_ge i n with q | q
    · have := fb_sm_upd f v q
      have e : (if n = i then v else f n) = f n := if_neg (by omega)
      rw [e]
      omega
    · have e : i = n := by omega
      subst e
      rw [fb_sm_out f v (Nat.le_refl _)]
      simp only [if_true]
      omega
theorem fb_sm_add (f g : Nat → Nat) : ∀ n, fb_sm (fun k => f k + g k) n = fb_sm f n + fb_sm g n
  | 0 => rfl
  | n + 1 => by
    have h := fb_sm_add f g n
    rw [fb_sm_succ, fb_sm_succ, fb_sm_succ, h]
    omega
theorem fb_sm_le {f g : Nat → Nat} : ∀ {n : Nat}, (∀ k, k < n → f k ≤ g k) → fb_sm f n ≤ fb_sm g n
  | 0, _ => Nat.le_refl _
  | n + 1, h => by
    have h1 := fb_sm_le (n := n) (f := f) (g := g) (fun k hk => h k (by omega))
    have h2 := h n (by omega)
    rw [fb_sm_succ, fb_sm_succ]
    omega
theorem fb_sm_const (c : Nat) : ∀ n, fb_sm (fun _ => c) n = n * c
  | 0 => by rw [Nat.zero_mul]; rfl
  | n + 1 => by rw [fb_sm_succ, fb_sm_const c n, Nat.succ_mul]
theorem fb_sm_bound {f : Nat → Nat} {c n : Nat} (h : ∀ k, k < n → f k ≤ c) : fb_sm f n ≤ n * c := by
  rw [← fb_sm_const c n]
  exact fb_sm_le h
theorem fb_sm_mono (f : Nat → Nat) (m : Nat) : ∀ n, fb_sm f m ≤ fb_sm f (m + n)
  | 0 => Nat.le_refl _
  | n + 1 => by
    have h := fb_sm_mono f m n
    show fb_sm f m ≤ fb_sm f (m + n + 1)
    rw [fb_sm_succ]
    omega
theorem fb_sm_part (f : Nat → Nat) {i n : Nat} (h : i < n) : fb_sm f i + f i ≤ fb_sm f n := by
  have := fb_sm_mono f (i + 1) (n - (i + 1))
  rw [fb_sm_succ, show i + 1 + (n - (i + 1)) = n by omega] at this
  exact this
theorem fb_sm_split (f : Nat → Nat) (m : Nat) : ∀ n, fb_sm f (m + n) = fb_sm f m + fb_sm (fun k => f (m + k)) n
  | 0 => rfl
  | n + 1 => by
    have h := fb_sm_split f m n
    show fb_sm f (m + n + 1) = _
    rw [fb_sm_succ, fb_sm_succ, h, Nat.add_assoc]
theorem fb_sm_zero {f : Nat → Nat} {n : Nat} (h : fb_sm f n = 0) : ∀ k, k < n → f k = 0 := fun k hk => by
  have := fb_sm_part f hk
  omega
end
section
/-! ===== the plain picture: what both classes answer, as functions of (used, period, length, offset) ===== -/
def so_b (x : Bool) : Int32 := if x = true then 1 else 0
theorem so_b_t : so_b true = 1 := rfl
theorem so_b_f : so_b false = 0 := rfl
/-- the jobs in use are proper ones -/
def so_ok (u : Nat → Bool) (P C O : Nat → Nat) : Prop := ∀ j, j < 10 → u j = true → 2 ≤ P j ∧ P j ≤ 360 ∧ 360 % P j = 0 ∧ 1 ≤ C j ∧ C j ≤ P j ∧ O j < P j
/-- job j runs in slot t -/
def so_run (u : Nat → Bool) (P C O : Nat → Nat) (j t : Nat) : Bool := u j && (decide (O j ≤ t) && decide ((t - O j) % P j < C j))
/-- no two jobs run in one slot -/
def so_dj (u : Nat → Bool) (P C O : Nat → Nat) : Prop := ∀ i j t, i < 10 → j < 10 → i ≠ j → so_run u P C O i t = true → so_run u P C O j t = true → False
def so_p (u : Nat → Bool) (P : Nat → Nat) (j : Nat) : Nat := if u j = true then P j else 0
def so_bp (x : Int32) : Bool := decide (x < 2) || (decide (360 < x) || !decide (360 % x.toNatClampNeg = 0))
def so_bt (x : Int32) : Bool := decide (x < 0) || decide (1000000000 < x)
def so_nj (u : Nat → Bool) (x : Int32) : Bool := decide (x < 0) || (decide (10 ≤ x) || !u x.toNatClampNeg)
def so_gcd : Nat → Nat → Nat → Nat
  | 0, x, _ => x
  | n + 1, x, y => if y = 0 then x else so_gcd n y (x % y)
/-- the room beside one job -/
def so_rb (P C O : Nat → Nat) (p o j : Nat) : Nat := if (o + 360 - O j) % Nat.gcd p (P j) < C j then 0 else Nat.gcd p (P j) - (o + 360 - O j) % Nat.gcd p (P j)
def so_rm (u : Nat → Bool) (f : Nat → Nat) (p : Nat) : Nat → Nat
  | 0 => p
  | i + 1 => if u i = true then (if f i < so_rm u f p i then f i else so_rm u f p i) else so_rm u f p i
def so_ra (u : Nat → Bool) (P C O : Nat → Nat) (p o : Nat) : Nat := so_rm u (so_rb P C O p o) p 10
def so_find (f : Nat → Bool) : Nat → Nat → Int32
  | 0, _ => -6
  | n + 1, i => if f i = true then nI i else so_find f n (i + 1)
def so_fk (u : Nat → Bool) : Nat → Nat → Nat
  | 0, i => i
  | n + 1, i => if u i = true then so_fk u n (i + 1) else i
/-- the first place that is free (9 if none) -/
def so_k (u : Nat → Bool) : Nat := so_fk u 9 0
def so_fo (f : Nat → Nat) (c : Nat) : Nat → Nat → Option Nat
  | 0, _ => none
  | n + 1, i => if c ≤ f i then some i else so_fo f c n (i + 1)
def so_mx (f : Nat → Nat) : Nat → Nat
  | 0 => 0
  | i + 1 => if so_mx f i < f i then f i else so_mx f i
/-- in how many slots before t job j runs -/
def so_rn (P C O : Nat → Nat) (j t : Nat) : Nat := (t - O j) / P j * C j + (if C j < (t - O j) % P j then C j else (t - O j) % P j)
/-- how many runs of job j begin before t -/
def so_bg (P O : Nat → Nat) (j t : Nat) : Nat := if t ≤ O j then 0 else (t - O j - 1) / P j + 1
def so_nx (P O : Nat → Nat) (t j : Nat) : Nat := O j + so_bg P O j t * P j
def so_an : Option Nat → Int32
  | none => -6
  | some b => nI b
def so_nm1 (f : Nat) : Option Nat → Option Nat
  | none => some f
  | some b => if f < b then some f else some b
def so_nm (u : Nat → Bool) (f : Nat → Nat) : Nat → Option Nat
  | 0 => none
  | i + 1 => if u i = true then so_nm1 (f i) (so_nm u f i) else so_nm u f i
def so_fs (u : Nat → Bool) (f : Nat → Int32) (acc : Int32) : Nat → Int32
  | 0 => acc
  | i + 1 => if u i = true then so_fs u f acc i - f i else so_fs u f acc i
def so_ld (u : Nat → Bool) (P C : Nat → Nat) : Nat → Nat
  | 0 => 0
  | i + 1 => if u i = true then so_ld u P C i + 360 / P i * C i else so_ld u P C i
/-- slot t is free -/
def so_fr (u : Nat → Bool) (P C O : Nat → Nat) (t : Nat) : Bool := decide (fb_ct (fun j => so_run u P C O j t) 10 = 0)
theorem so_fr_iff {u : Nat → Bool} {P C O : Nat → Nat} {t : Nat} : so_fr u P C O t = true ↔ ∀ j, j < 10 → so_run u P C O j t = false := by
  rw [so_fr, decide_eq_true_eq, fb_ct_zero]
theorem so_fr_no {u : Nat → Bool} {P C O : Nat → Nat} {t : Nat} (h : so_fr u P C O t = false) : ¬ ∀ j, j < 10 → so_run u P C O j t = false := by
  intro q
  rw [so_fr_iff.mpr q] at h
  cases h
def so_gd (f : Nat → Bool) (p x : Nat) : Bool := decide (fb_ct (fun k => decide (k * p < 360) && !f (360 + (x + k * p))) 360 = 0)
theorem so_gd_def {f : Nat → Bool} {p x : Nat} : so_gd f p x = true ↔ ∀ k, k < 360 → k * p < 360 → f (360 + (x + k * p)) = true := by
  rw [so_gd, decide_eq_true_eq, fb_ct_zero]
  constructor
  · intro h k hk h2
    have := h k hk
    simpa [h2] using this
  · intro h k hk
    by_cases h2 : k * p < 360
    · simp [h k hk h2]
    · simp [h2]
def so_lg (g : Nat → Bool) : Nat → Nat
  | 0 => 0
  | i + 1 => if so_lg g i = i ∧ g i = true then so_lg g i + 1 else so_lg g i
def so_g1 (f : Nat → Bool) (n t : Nat) : Bool := f t && (decide (t < 360) && decide (t < n))
def so_g2 (f : Nat → Bool) (r t : Nat) : Bool := f t && (decide (360 ≤ t) && decide (t < 360 + r))
def so_g3 (f : Nat → Bool) (t : Nat) : Bool := f t && decide (360 ≤ t)
def so_rs (n : Nat) : Nat := if 360 < n then (n - 360) % 360 else 0
def so_fb (f : Nat → Bool) (n : Nat) : Nat := if 360 < n then fb_ct (so_g1 f n) 720 + fb_ct (so_g2 f (so_rs n)) 720 + fb_ct (so_g3 f) 720 * ((n - 360) / 360) else fb_ct (so_g1 f n) 720 + fb_ct (so_g2 f (so_rs n)) 720
def so_any (f : Nat → Bool) : Nat → Nat → Bool
  | 0, _ => false
  | n + 1, i => f i || so_any f n (i + 1)
def so_bgs (u : Nat → Bool) (P O : Nat → Nat) (t j : Nat) : Bool := u j && (decide (O j ≤ t) && decide ((t - O j) % P j = 0))
def so_tn (f : Nat → Bool) : Nat → Nat → Option Nat
  | 0, _ => none
  | n + 1, t => if f t = true then some t else so_tn f n (t + 1)
/-! the answers -/
def so_aRun (u : Nat → Bool) (P C O : Nat → Nat) (x : Int32) : Int32 := if so_bt x = true then -7 else so_find (fun j => so_run u P C O j x.toNatClampNeg) 10 0
def so_aOff (u : Nat → Bool) (O : Nat → Nat) (x : Int32) : Int32 := if so_nj u x = true then -6 else nI (O x.toNatClampNeg)
def so_aFree (u : Nat → Bool) (P C O : Nat → Nat) (x y : Int32) : Int32 := if so_bt x = true then -7 else if so_bt y = true then -7 else if y < x then 0 else so_fs u (fun j => nI (so_rn P C O j (y.toNatClampNeg + 1)) - nI (so_rn P C O j x.toNatClampNeg)) (y - x + 1) 10
def so_aSt (u : Nat → Bool) (P O : Nat → Nat) (x y z : Int32) : Int32 := if so_nj u x = true then -6 else if so_bt y = true then -7 else if so_bt z = true then -7 else if z < y then 0 else nI (so_bg P O x.toNatClampNeg (z.toNatClampNeg + 1)) - nI (so_bg P O x.toNatClampNeg y.toNatClampNeg)
def so_aNext (u : Nat → Bool) (P O : Nat → Nat) (x : Int32) : Int32 := if so_bt x = true then -7 else so_an (so_nm u (so_nx P O x.toNatClampNeg) 10)
def so_aRoom (u : Nat → Bool) (P C O : Nat → Nat) (x : Int32) : Int32 := if so_bp x = true then -1 else nI (so_mx (so_ra u P C O x.toNatClampNeg) x.toNatClampNeg)
def so_aLoad (u : Nat → Bool) (P C : Nat → Nat) : Int32 := nI (so_ld u P C 10)
/-- what an admission decides: an error's number, or the job's period, length, offset -/
abbrev so_E : Type := Int32 ⊕ (Nat × Nat × Nat)
def so_oE (p c : Nat) : Option Nat → so_E
  | none => .inl (-5)
  | some o => .inr (p, c, o)
def so_dAdm (u : Nat → Bool) (P C O : Nat → Nat) (x y : Int32) : so_E := if so_bp x = true then .inl (-1) else if y < 1 then .inl (-2) else if x < y then .inl (-2) else if 10 ≤ fb_ct u 10 then .inl (-4) else so_oE x.toNatClampNeg y.toNatClampNeg (so_fo (so_ra u P C O x.toNatClampNeg) y.toNatClampNeg x.toNatClampNeg 0)
def so_dAt (u : Nat → Bool) (P C O : Nat → Nat) (x y z : Int32) : so_E := if so_bp x = true then .inl (-1) else if y < 1 then .inl (-2) else if x < y then .inl (-2) else if z < 0 then .inl (-3) else if x ≤ z then .inl (-3) else if 10 ≤ fb_ct u 10 then .inl (-4) else if so_ra u P C O x.toNatClampNeg z.toNatClampNeg < y.toNatClampNeg then .inl (-5) else .inr (x.toNatClampNeg, y.toNatClampNeg, z.toNatClampNeg)
def so_ans (u : Nat → Bool) : so_E → Int32
  | .inl r => r
  | .inr _ => nI (so_k u)
def so_nu (u : Nat → Bool) : so_E → (Nat → Bool)
  | .inl _ => u
  | .inr _ => va_up u (so_k u) true
def so_nP (u : Nat → Bool) (P : Nat → Nat) : so_E → (Nat → Nat)
  | .inl _ => P
  | .inr q => va_up P (so_k u) q.1
def so_nC (u : Nat → Bool) (C : Nat → Nat) : so_E → (Nat → Nat)
  | .inl _ => C
  | .inr q => va_up C (so_k u) q.2.1
def so_nO (u : Nat → Bool) (O : Nat → Nat) : so_E → (Nat → Nat)
  | .inl _ => O
  | .inr q => va_up O (so_k u) q.2.2
def so_ru (u : Nat → Bool) (x : Int32) : Nat → Bool := if so_nj u x = true then u else va_up u x.toNatClampNeg false
def so_aRem (u : Nat → Bool) (x : Int32) : Int32 := if so_nj u x = true then -6 else nI (fb_ct (so_ru u x) 10)
/-! ===== what a test says of a number ===== -/
theorem so_toInt2 : (2 : Int32).toInt = 2 := by decide +kernel
theorem so_toInt360 : (360 : Int32).toInt = 360 := by decide +kernel
theorem so_toInt0 : (0 : Int32).toInt = 0 := by decide +kernel
theorem so_toInt1 : (1 : Int32).toInt = 1 := by decide +kernel
theorem so_toInt10 : (10 : Int32).toInt = 10 := by decide +kernel
theorem so_toIntM : (1000000000 : Int32).toInt = 1000000000 := by decide +kernel
theorem so_rng {x M : Int32} {n : Nat} (k : Int32) (hM : M.toInt = n) (hk : 0 ≤ k.toInt) (h : ¬ x < k) (h2 : ¬ M < x) : ∃ j : Nat, j ≤ n ∧ x = nI j ∧ k.toInt ≤ (j : Int) := by
  rw [Int32.lt_iff_toInt_lt] at h h2
  have h0 : ¬ x < 0 := by rw [Int32.lt_iff_toInt_lt, so_toInt0]; omega
  obtain ⟨j, hj, rfl⟩ := nI_of h0
  rw [nI_toInt hj] at h h2
  exact ⟨j, by omega, rfl, by omega⟩
theorem so_bp_f {x : Int32} (h : so_bp x = false) : ∃ p : Nat, x = nI p ∧ 2 ≤ p ∧ p ≤ 360 ∧ 360 % p = 0 := by
  simp only [so_bp, Bool.or_eq_false_iff, decide_eq_false_iff_not, Bool.not_eq_false', decide_eq_true_eq] at h
  obtain ⟨h1, h2, h3⟩ := h
  obtain ⟨j, hj, rfl, hk⟩ := so_rng (n := 360) 2 so_toInt360 (by rw [so_toInt2]; omega) h1 h2
  rw [nI_clamp (by omega)] at h3
  rw [so_toInt2] at hk
  exact ⟨j, rfl, by omega, hj, h3⟩
theorem so_bp_nI {p : Nat} (h1 : 2 ≤ p) (h2 : p ≤ 360) : so_bp (nI p) = !decide (360 % p = 0) := by
  have a1 : ¬ nI p < 2 := by rw [Int32.lt_iff_toInt_lt, so_toInt2, nI_toInt (by omega)]; omega
  have a2 : ¬ 360 < nI p := by rw [Int32.lt_iff_toInt_lt, so_toInt360, nI_toInt (by omega)]; omega
  simp only [so_bp, a1, a2, decide_false, Bool.false_or, nI_clamp (show p < 2 ^ 31 by omega)]
theorem so_bt_f {x : Int32} (h : so_bt x = false) : ∃ t : Nat, x = nI t ∧ t ≤ 1000000000 := by
  simp only [so_bt, Bool.or_eq_false_iff, decide_eq_false_iff_not] at h
  obtain ⟨j, hj, rfl, -⟩ := so_rng (n := 1000000000) 0 so_toIntM (by rw [so_toInt0]; omega) h.1 h.2
  exact ⟨j, rfl, hj⟩
theorem so_bt_nI {t : Nat} (h : t ≤ 1000000000) : so_bt (nI t) = false := by
  have a1 : ¬ nI t < 0 := nI_pos (by omega)
  have a2 : ¬ 1000000000 < nI t := by rw [Int32.lt_iff_toInt_lt, so_toIntM, nI_toInt (by omega)]; omega
  simp only [so_bt, a1, a2, decide_false, Bool.false_or]
theorem so_nj_f {u : Nat → Bool} {x : Int32} (h : so_nj u x = false) : ∃ j : Nat, x = nI j ∧ j < 10 ∧ u j = true := by
  simp only [so_nj, Bool.or_eq_false_iff, decide_eq_false_iff_not, Bool.not_eq_false'] at h
  obtain ⟨h1, h2, h3⟩ := h
  obtain ⟨j, hj, rfl⟩ := nI_of h1
  rw [Int32.le_iff_toInt_le, so_toInt10, nI_toInt hj] at h2
  rw [nI_clamp hj] at h3
  exact ⟨j, rfl, by omega, h3⟩
theorem so_nj_nI {u : Nat → Bool} {j : Nat} (h : j < 10) : so_nj u (nI j) = !u j := by
  have a1 : ¬ nI j < 0 := nI_pos (by omega)
  have a2 : ¬ 10 ≤ nI j := by rw [Int32.le_iff_toInt_le, so_toInt10, nI_toInt (by omega)]; omega
  simp only [so_nj, a1, a2, decide_false, Bool.false_or, nI_clamp (show j < 2 ^ 31 by omega)]
theorem so_sub0 {a b : Nat} (ha : a < 2 ^ 30) (hb : b < 2 ^ 30) (h : a ≤ b) : ¬ 0 < nI a - nI b := by
  rw [Int32.lt_iff_toInt_lt, pk_sub_toInt ha hb, so_toInt0]
  omega
theorem so_inc (i : Nat) : nI i + Int32.ofInt 1 = nI (i + 1) := nI_1 i
theorem so_npos {n : Nat} (h0 : 0 < n) (h : n < 2 ^ 31) : ¬ nI n = 0 := nI_ne0 h0 h
theorem so_nI_m6 {n : Nat} (h : n < 2 ^ 31) : ¬ nI n = -6 := by
  intro e
  have := congrArg Int32.toInt e
  rw [nI_toInt h, show (-6 : Int32).toInt = -6 from by decide +kernel] at this
  omega
/-! ===== first free place, count ===== -/
theorem so_fk_le (u : Nat → Bool) : ∀ n i, so_fk u n i ≤ i + n
  | 0, i => Nat.le_refl _
  | n + 1, i => by
    have := so_fk_le u n (i + 1)
    simp only [so_fk]
    split <;> omega
theorem so_fk_ge (u : Nat → Bool) : ∀ n i, i ≤ so_fk u n i
  | 0, i => Nat.le_refl _
  | n + 1, i => by
    have := so_fk_ge u n (i + 1)
    simp only [so_fk]
    split <;> omega
theorem so_k_lt (u : Nat → Bool) : so_k u < 10 := by
  have := so_fk_le u 9 0
  simp only [so_k]
  omega
theorem so_fk_free {u : Nat → Bool} : ∀ n i, (∀ j, i ≤ j → j < so_fk u n i → u j = true) ∧ (so_fk u n i < i + n → u (so_fk u n i) = false)
  | 0, i => ⟨fun j h1 h2 => by simp only [so_fk] at h2; omega, fun h => by simp only [so_fk] at h; omega⟩
  | n + 1, i => by
    obtain ⟨h1, h2⟩ := so_fk_free (u := u) n (i + 1)
    have hge := so_fk_ge u n (i + 1)
    simp only [so_fk]
    split
    · next hu =>
      refine ⟨fun j a1 a2 => ?_, fun a => h2 (by omega)⟩
      rcases Nat.eq_or_lt_of_le a1 with e | e
      · rw [← e]; exact hu
      · exact h1 j e a2
    · next hu =>
      refine ⟨fun j a1 a2 => by omega, fun _ => ?_⟩
      cases hq : u i
      · rfl
      · exact absurd hq hu
/-- with fewer than ten jobs the first free place is free -/
theorem so_k_free {u : Nat → Bool} (h : fb_ct u 10 < 10) : u (so_k u) = false := by
  obtain ⟨h1, h2⟩ := so_fk_free (u := u) 9 0
  have hle := so_fk_le u 9 0
  rcases Nat.lt_or_ge (so_fk u 9 0) 9 with q | q
  · exact h2 (by omega)
  · have e : so_fk u 9 0 = 9 := by omega
    cases hu : u (so_k u)
    · rfl
    · exfalso
      have hall : fb_ct u 10 = 10 := fb_ct_all.mpr (fun k hk => by
        rcases Nat.lt_or_ge k 9 with a | a
        · exact h1 k (Nat.zero_le _) (by omega)
        · have : k = so_k u := by simp only [so_k]; omega
          rw [this]; exact hu)
      omega
theorem so_k_used {u : Nat → Bool} {j : Nat} (h : j < so_k u) : u j = true := (so_fk_free (u := u) 9 0).1 j (Nat.zero_le _) h
theorem so_ct_put {u : Nat → Bool} {k : Nat} (hk : k < 10) (h : u k = false) : fb_ct (va_up u k true) 10 = fb_ct u 10 + 1 := by
  have := fb_ct_upd u true (i := k) (n := 10) hk
  rw [h] at this
  simp only [Bool.false_eq_true, if_false, if_true, Nat.add_zero] at this
  exact this
theorem so_ct_cut {u : Nat → Bool} {k : Nat} (hk : k < 10) (h : u k = true) : fb_ct u 10 = fb_ct (va_up u k false) 10 + 1 := by
  have := fb_ct_upd u false (i := k) (n := 10) hk
  rw [h] at this
  simp only [Bool.false_eq_true, if_false, if_true, Nat.add_zero] at this
  exact this.symm
theorem so_find_neg (f : Nat → Bool) : ∀ n i, i + n < 2 ^ 31 → (so_find f n i = -6 ↔ ∀ j, i ≤ j → j < i + n → f j = false)
  | 0, i, _ => ⟨fun _ j h1 h2 => by omega, fun _ => rfl⟩
  | n + 1, i, h => by
    have ih := so_find_neg f n (i + 1) (by omega)
    simp only [so_find]
    split
    · next hf =>
      constructor
      · intro e; exact absurd e (so_nI_m6 (by omega))
      · intro a; rw [a i (Nat.le_refl _) (by omega)] at hf; cases hf
    · next hf =>
      have hf : f i = false := by cases hq : f i; rfl; exact absurd hq hf
      rw [ih]
      constructor
      · intro a j h1 h2
        rcases Nat.eq_or_lt_of_le h1 with e | e
        · rw [← e]; exact hf
        · exact a j e (by omega)
      · intro a j h1 h2
        exact a j (by omega) (by omega)
/-- 'no job runs' is what the model's running says with NO_JOB -/
theorem so_free_iff (u : Nat → Bool) (P C O : Nat → Nat) (t : Nat) : so_find (fun j => so_run u P C O j t) 10 0 = -6 ↔ so_fr u P C O t = true := by
  rw [so_find_neg _ 10 0 (by omega), so_fr_iff]
  exact ⟨fun a j hj => a j (Nat.zero_le _) (by omega), fun a j _ hj => a j (by omega)⟩
/-! ===== what the arrays hold behind a store ===== -/
theorem so_upd_u (u : Nat → Bool) (k : Nat) (b : Bool) : upd (fun j => so_b (u j)) k (so_b b) = fun j => so_b (va_up u k b j) := by
  funext j
  by_cases h : j = k
  · subst h; rw [pk_us, va_up_self]
  · rw [pk_un h, va_up_ne _ _ h]
theorem so_upd_P (P : Nat → Nat) (k v : Nat) : upd (fun j => nI (P j)) k (nI v) = fun j => nI (va_up P k v j) := by
  funext j
  by_cases h : j = k
  · subst h; rw [pk_us, va_up_self]
  · rw [pk_un h, va_up_ne _ _ h]
theorem so_p_put (u : Nat → Bool) (P : Nat → Nat) (k v : Nat) : va_up (so_p u P) k v = so_p (va_up u k true) (va_up P k v) := by
  funext j
  by_cases h : j = k
  · subst h; simp [so_p, va_up]
  · simp [so_p, va_up, h]
theorem so_p_cut (u : Nat → Bool) (P : Nat → Nat) (k : Nat) : va_up (so_p u P) k 0 = so_p (va_up u k false) P := by
  funext j
  by_cases h : j = k
  · subst h; simp [so_p, va_up]
  · simp [so_p, va_up, h]
end
section
/-! ===== plain laws ===== -/
set_option maxRecDepth 100000
def so_chk1 : Bool := (List.range 361).all fun a => (360 % a != 0) || (List.range 361).all fun b => (360 % b != 0) || (so_gcd 20 a b == Nat.gcd a b)
def so_chk2 : Bool := (List.range 361).all fun p => (360 % p != 0) || (List.range 361).all fun q => (360 % q != 0) || (List.range 361).any fun w => decide (Nat.gcd p q ≤ w * p) && ((w * p - Nat.gcd p q) % q == 0)
theorem so_chk1_t : so_chk1 = true := by decide +kernel
theorem so_chk2_t : so_chk2 = true := by decide +kernel
theorem so_gcd_chk (a : Nat) (ha : a < 361) (h1 : 360 % a = 0) (b : Nat) (hb : b < 361) (h2 : 360 % b = 0) : so_gcd 20 a b = Nat.gcd a b := by
  have h := List.all_eq_true.mp so_chk1_t a (List.mem_range.mpr ha)
  simp only [h1, bne_self_eq_false, Bool.false_or] at h
  have h := List.all_eq_true.mp h b (List.mem_range.mpr hb)
  simp only [h2, bne_self_eq_false, Bool.false_or, beq_iff_eq] at h
  exact h
theorem so_bz_chk (p : Nat) (ha : p < 361) (h1 : 360 % p = 0) (q : Nat) (hb : q < 361) (h2 : 360 % q = 0) : ∃ w, w < 361 ∧ (Nat.gcd p q ≤ w * p ∧ (w * p - Nat.gcd p q) % q = 0) := by
  have h := List.all_eq_true.mp so_chk2_t p (List.mem_range.mpr ha)
  simp only [h1, bne_self_eq_false, Bool.false_or] at h
  have h := List.all_eq_true.mp h q (List.mem_range.mpr hb)
  simp only [h2, bne_self_eq_false, Bool.false_or] at h
  obtain ⟨w, hw, h⟩ := List.any_eq_true.mp h
  simp only [Bool.and_eq_true, decide_eq_true_eq, beq_iff_eq] at h
  exact ⟨w, List.mem_range.mp hw, h⟩
theorem so_gcd20 {a b : Nat} (ha : a ≤ 360) (h1 : 360 % a = 0) (hb : b ≤ 360) (h2 : 360 % b = 0) : so_gcd 20 a b = Nat.gcd a b := so_gcd_chk a (by omega) h1 b (by omega) h2
theorem so_dvd {g n : Nat} (h : n % g = 0) : g ∣ n := Nat.dvd_of_mod_eq_zero h
theorem so_g360 {p q : Nat} (h : 360 % p = 0) : 360 % Nat.gcd p q = 0 := Nat.mod_eq_zero_of_dvd (Nat.dvd_trans (Nat.gcd_dvd_left p q) (so_dvd h))
theorem so_gpos {p q : Nat} (h : 0 < p) : 0 < Nat.gcd p q := Nat.gcd_pos_of_pos_left q h
theorem so_gle {p q : Nat} (h : 0 < p) : Nat.gcd p q ≤ p := Nat.le_of_dvd h (Nat.gcd_dvd_left p q)
/-- a multiple of p brings x down to its rest modulo the common divisor -/
theorem so_bez {p q : Nat} (hp : 0 < p) (hp2 : p ≤ 360) (h1 : 360 % p = 0) (hq : 0 < q) (hq2 : q ≤ 360) (h2 : 360 % q = 0) (x : Nat) : ∃ k, k * p < 360 ∧ (x + k * p) % q = x % Nat.gcd p q := by
  obtain ⟨w, -, hw1, hw2⟩ := so_bz_chk p (by omega) h1 q (by omega) h2
  have hg : 0 < Nat.gcd p q := so_gpos hp
  have hgq : Nat.gcd p q ≤ q := Nat.le_of_dvd hq (Nat.gcd_dvd_right p q)
  generalize Nat.gcd p q = g at *
  obtain ⟨v, hv⟩ : ∃ v, w * p = g + q * v := by
    obtain ⟨v, hv⟩ := so_dvd hw2
    exact ⟨v, by omega⟩
  obtain ⟨q', rfl⟩ : ∃ q', q = q' + 1 := ⟨q - 1, by omega⟩
  have hx : x = g * (x / g) + x % g := (Nat.div_add_mod x g).symm
  have hr : x % g < g := Nat.mod_lt _ hg
  generalize hy : x / g = y at hx
  generalize hrr : x % g = r at hx hr ⊢
  have e1 : x + (w * (y * q')) * p = r + (q' + 1) * (g * y + v * (y * q')) := by
    have e2 : (w * (y * q')) * p = (w * p) * (y * q') := by rw [Nat.mul_assoc, Nat.mul_comm (y * q') p, ← Nat.mul_assoc]
    rw [e2, hv, hx]
    grind
  have e3 : (x + (w * (y * q')) * p) % (q' + 1) = r := by
    rw [e1, Nat.add_mul_mod_self_left]
    exact Nat.mod_eq_of_lt (by omega)
  obtain ⟨N, hN⟩ := so_dvd h1
  obtain ⟨M, hM⟩ := so_dvd h2
  have hN0 : 0 < N := by
    rcases Nat.eq_zero_or_pos N with z | z
    · rw [z] at hN; omega
    · exact z
  generalize w * (y * q') = k' at e3
  refine ⟨k' % N, ?_, ?_⟩
  · have h5 : k' % N < N := Nat.mod_lt _ hN0
    calc k' % N * p < N * p := Nat.mul_lt_mul_of_pos_right h5 hp
      _ = 360 := by rw [Nat.mul_comm]; exact hN.symm
  · have e4 : x + k' * p = (x + k' % N * p) + (q' + 1) * (M * (k' / N)) := by
      have e5 : k' = N * (k' / N) + k' % N := (Nat.div_add_mod k' N).symm
      have e6 : k' * p = k' % N * p + (p * N) * (k' / N) := by
        conv => lhs; rw [e5]
        rw [Nat.add_mul, Nat.add_comm, Nat.mul_comm p N, Nat.mul_assoc, Nat.mul_assoc, Nat.mul_comm (k' / N) p]
      rw [e6, ← hN, hM, Nat.mul_assoc, Nat.add_assoc]
    rw [e4, Nat.add_mul_mod_self_left] at e3
    exact e3
theorem so_mod_le {x P g : Nat} (h : g ∣ P) : x % g ≤ x % P := by
  rw [← Nat.mod_mod_of_dvd x h]
  exact Nat.mod_le _ _
theorem so_mod_add {x k p g : Nat} (h : g ∣ p) : (x + k * p) % g = x % g := by
  obtain ⟨c, rfl⟩ := h
  rw [show k * (g * c) = g * (k * c) by rw [Nat.mul_left_comm], Nat.add_mul_mod_self_left]
/-- the room beside one job, as a bound -/
theorem so_rbi {C g X n : Nat} (hC : 1 ≤ C) (hg : 0 < g) : (∀ i, i < n → C ≤ (X + i) % g) ↔ n ≤ (if X % g < C then 0 else g - X % g) := by
  have hX : g * (X / g) + X % g = X := Nat.div_add_mod X g
  have hr : X % g < g := Nat.mod_lt _ hg
  constructor
  · intro h
    split
    · next hb =>
      rcases Nat.eq_zero_or_pos n with z | z
      · omega
      · have := h 0 z
        rw [Nat.add_zero] at this
        omega
    · next hb =>
      rcases Nat.lt_or_ge (g - X % g) n with z | z
      · exfalso
        have h1 := h _ z
        have e : X + (g - X % g) = g * (X / g + 1) := by rw [Nat.mul_add, Nat.mul_one]; omega
        rw [e, Nat.mul_mod_right] at h1
        omega
      · exact z
  · intro h i hi
    split at h
    · omega
    · next hb =>
      have e : X + i = g * (X / g) + (X % g + i) := by omega
      rw [e, Nat.mul_add_mod, Nat.mod_eq_of_lt (by omega)]
      omega
theorem so_rm_iff (u : Nat → Bool) (f : Nat → Nat) (p n : Nat) : ∀ i, n ≤ so_rm u f p i ↔ n ≤ p ∧ ∀ j, j < i → u j = true → n ≤ f j
  | 0 => ⟨fun h => ⟨h, fun j hj => absurd hj (Nat.not_lt_zero j)⟩, fun h => h.1⟩
  | i + 1 => by
    have ih := so_rm_iff u f p n i
    simp only [so_rm]
    constructor
    · intro h
      have h1 : n ≤ so_rm u f p i := by
        split at h
        · split at h <;> omega
        · exact h
      obtain ⟨a, b⟩ := ih.mp h1
      refine ⟨a, fun j hj hu => ?_⟩
      rcases Nat.lt_or_ge j i with q | q
      · exact b j q hu
      · have e : j = i := by omega
        subst e
        rw [if_pos hu] at h
        split at h <;> omega
    · intro ⟨a, b⟩
      have h1 : n ≤ so_rm u f p i := ih.mpr ⟨a, fun j hj hu => b j (by omega) hu⟩
      split
      · next hu =>
        have := b i (by omega) hu
        split <;> omega
      · exact h1
theorem so_rm_step (u : Nat → Bool) (f : Nat → Nat) (p i : Nat) : ∀ k, so_rm u f p (i + k) ≤ so_rm u f p i
  | 0 => Nat.le_refl _
  | k + 1 => by
    have ih := so_rm_step u f p i k
    show so_rm u f p (i + k + 1) ≤ _
    simp only [so_rm]
    split
    · split <;> omega
    · exact ih
theorem so_rm_le (u : Nat → Bool) (f : Nat → Nat) (p i : Nat) : so_rm u f p i ≤ p := by
  have := so_rm_step u f p 0 i
  rw [Nat.zero_add] at this
  exact this
theorem so_ra_le (u : Nat → Bool) (P C O : Nat → Nat) (p o : Nat) : so_ra u P C O p o ≤ p := so_rm_le _ _ _ _
theorem so_mx_le (f : Nat → Nat) (b : Nat) (h : ∀ i, f i ≤ b) : ∀ i, so_mx f i ≤ b
  | 0 => Nat.zero_le _
  | i + 1 => by
    have := so_mx_le f b h i
    have := h i
    simp only [so_mx]
    split <;> omega
theorem so_lg_iff (g : Nat → Bool) : ∀ i, so_lg g i ≤ i ∧ ∀ n, n ≤ i → (n ≤ so_lg g i ↔ ∀ j, j < n → g j = true)
  | 0 => ⟨Nat.le_refl _, fun n hn => ⟨fun _ j hj => by omega, fun _ => by omega⟩⟩
  | i + 1 => by
    obtain ⟨h1, h2⟩ := so_lg_iff g i
    simp only [so_lg]
    split
    · next hc =>
      refine ⟨by omega, fun n hn => ⟨fun _ j hj => ?_, fun _ => by omega⟩⟩
      rcases Nat.lt_or_ge j i with q | q
      · exact (h2 i (Nat.le_refl _)).mp (by omega) j q
      · have e : j = i := by omega
        rw [e]; exact hc.2
    · next hc =>
      refine ⟨by omega, fun n hn => ?_⟩
      rcases Nat.lt_or_ge n (i + 1) with q | q
      · exact h2 n (by omega)
      · have e : n = i + 1 := by omega
        subst e
        refine ⟨fun a => by omega, fun a => ?_⟩
        exfalso
        have h3 := (h2 i (Nat.le_refl _)).mpr (fun j hj => a j (by omega))
        exact hc ⟨by omega, a i (by omega)⟩
/-- a row of slots, one in each period, is free if and only if each job's rest is not in its run -/
theorem so_gd_iff {u : Nat → Bool} {P C O : Nat → Nat} (ok : so_ok u P C O) {p y : Nat} (hp : 0 < p) (hp2 : p ≤ 360) (h1 : 360 % p = 0) : so_gd (so_fr u P C O) p y = true ↔ ∀ j, j < 10 → u j = true → C j ≤ (y + 360 - O j) % Nat.gcd p (P j) := by
  rw [so_gd_def]
  constructor
  · intro h j hj hu
    obtain ⟨a1, a2, a3, a4, a5, a6⟩ := ok j hj hu
    rcases Nat.lt_or_ge ((y + 360 - O j) % Nat.gcd p (P j)) (C j) with q | q
    · exfalso
      obtain ⟨k, k1, k2⟩ := so_bez hp hp2 h1 (show 0 < P j by omega) a2 a3 (y + 360 - O j)
      have kk : k < 360 := by
        have : k * 1 ≤ k * p := Nat.mul_le_mul_left k hp
        omega
      have h3 := h k kk k1
      rw [so_fr_iff] at h3
      have h4 := h3 j hj
      have e : 360 + (y + k * p) - O j = y + 360 - O j + k * p := by omega
      have o1 : O j ≤ 360 + (y + k * p) := by omega
      simp only [so_run, hu, o1, e, k2, q, decide_true, Bool.and_self] at h4
      cases h4
    · exact q
  · intro h k _ hk
    rw [so_fr_iff]
    intro j hj
    cases hr : so_run u P C O j (360 + (y + k * p)) with
    | false => rfl
    | true =>
      exfalso
      simp only [so_run, Bool.and_eq_true, decide_eq_true_eq] at hr
      obtain ⟨hu, ho, hc⟩ := hr
      obtain ⟨a1, a2, a3, a4, a5, a6⟩ := ok j hj hu
      have h5 := h j hj hu
      have e : 360 + (y + k * p) - O j = y + 360 - O j + k * p := by omega
      rw [e] at hc
      have h6 := so_mod_le (x := y + 360 - O j + k * p) (Nat.gcd_dvd_right p (P j))
      rw [so_mod_add (Nat.gcd_dvd_left p (P j))] at h6
      omega
/-- the model's walk through the slots finds what the class's test says -/
theorem so_longest {u : Nat → Bool} {P C O : Nat → Nat} (ok : so_ok u P C O) {p o : Nat} (hp : 0 < p) (hp2 : p ≤ 360) (h1 : 360 % p = 0) : so_lg (fun i => so_gd (so_fr u P C O) p (o + i)) p = so_ra u P C O p o := by
  obtain ⟨hl, hi⟩ := so_lg_iff (fun i => so_gd (so_fr u P C O) p (o + i)) p
  have hb : ∀ (n j : Nat), j < 10 → u j = true → ((∀ i, i < n → C j ≤ (o + i + 360 - O j) % Nat.gcd p (P j)) ↔ n ≤ so_rb P C O p o j) := by
    intro n j hj hu
    obtain ⟨a1, a2, a3, a4, a5, a6⟩ := ok j hj hu
    rw [so_rb, ← so_rbi a4 (so_gpos hp)]
    have e : ∀ i, o + i + 360 - O j = o + 360 - O j + i := fun i => by omega
    constructor
    · intro a i q; rw [← e]; exact a i q
    · intro a i q; rw [e]; exact a i q
  apply Nat.le_antisymm
  · rw [so_ra, so_rm_iff]
    refine ⟨hl, fun j hj hu => (hb _ j hj hu).mp (fun i q => ?_)⟩
    have := (hi _ hl).mp (Nat.le_refl _) i q
    exact (so_gd_iff ok hp hp2 h1).mp this j hj hu
  · obtain ⟨b1, b2⟩ := (so_rm_iff u (so_rb P C O p o) p (so_ra u P C O p o) 10).mp (Nat.le_refl _)
    rw [hi _ b1]
    intro i q
    refine (so_gd_iff ok hp hp2 h1).mpr (fun j hj hu => ?_)
    exact (hb _ j hj hu).mpr (b2 j hj hu) i q
/-- a new job of the length that the test allows runs beside no other -/
theorem so_beside {P C O : Nat → Nat} {p c o j t : Nat} (hp : 0 < p) (hP : 0 < P j) (h3 : 360 % P j = 0) (hO : O j < P j) (hP2 : P j ≤ 360) (hc : 1 ≤ c) (hr : c ≤ so_rb P C O p o j) (t1 : o ≤ t) (t2 : (t - o) % p < c) (t3 : O j ≤ t) (t4 : (t - O j) % P j < C j) : False := by
  rw [so_rb] at hr
  have hg : 0 < Nat.gcd p (P j) := so_gpos hp
  have g1 := so_mod_le (x := t - o) (Nat.gcd_dvd_left p (P j))
  have g2 := so_mod_le (x := t - O j) (Nat.gcd_dvd_right p (P j))
  have g3 : Nat.gcd p (P j) ∣ 360 := Nat.dvd_trans (Nat.gcd_dvd_right p (P j)) (so_dvd h3)
  generalize Nat.gcd p (P j) = g at *
  split at hr
  · omega
  · next hb =>
    have e : t - O j + 360 = (t - o) + (o + 360 - O j) := by omega
    have e1 : (t - O j + 360) % g = (t - O j) % g := by
      obtain ⟨M, hM⟩ := g3
      rw [hM, Nat.add_mul_mod_self_left]
    rw [e, Nat.add_mod, Nat.mod_eq_of_lt (show (t - o) % g + (o + 360 - O j) % g < g by omega)] at e1
    omega
/-! ===== admission keeps the jobs proper and apart ===== -/
theorem so_fo_spec (f : Nat → Nat) (c : Nat) : ∀ n i o, so_fo f c n i = some o → i ≤ o ∧ o < i + n ∧ c ≤ f o
  | 0, i, o, h => by simp [so_fo] at h
  | n + 1, i, o, h => by
    simp only [so_fo] at h
    split at h
    · next hc =>
      obtain rfl := Option.some.inj h
      exact ⟨Nat.le_refl _, by omega, hc⟩
    · have := so_fo_spec f c n (i + 1) o h
      omega
/-- a decision that admits a job: what is known of it -/
def so_E_ok (u : Nat → Bool) (P C O : Nat → Nat) : so_E → Prop
  | .inl _ => True
  | .inr q => 2 ≤ q.1 ∧ q.1 ≤ 360 ∧ 360 % q.1 = 0 ∧ 1 ≤ q.2.1 ∧ q.2.1 ≤ q.1 ∧ q.2.2 < q.1 ∧ q.2.1 ≤ so_ra u P C O q.1 q.2.2 ∧ fb_ct u 10 < 10
theorem so_y {p : Nat} {y : Int32} (hp : p ≤ 360) (h1 : ¬ y < 1) (h2 : ¬ nI p < y) : ∃ c : Nat, y = nI c ∧ 1 ≤ c ∧ c ≤ p := by
  obtain ⟨j, hj, rfl, hk⟩ := so_rng (n := p) 1 (nI_toInt (by omega)) (by rw [so_toInt1]; omega) h1 h2
  rw [so_toInt1] at hk
  exact ⟨j, rfl, by omega, hj⟩
theorem so_z {p : Nat} {z : Int32} (hp : p ≤ 360) (h1 : ¬ z < 0) (h2 : ¬ nI p ≤ z) : ∃ o : Nat, z = nI o ∧ o < p := by
  obtain ⟨j, hj, rfl⟩ := nI_of h1
  refine ⟨j, rfl, ?_⟩
  rcases Nat.lt_or_ge j p with q | q
  · exact q
  · exact absurd (nI_le q hj) h2
theorem so_dAdm_ok (u : Nat → Bool) (P C O : Nat → Nat) (x y : Int32) : so_E_ok u P C O (so_dAdm u P C O x y) := by
  unfold so_dAdm
  split
  · trivial
  · next h1 =>
    obtain ⟨p, rfl, p1, p2, p3⟩ := so_bp_f (by cases hq : so_bp x; rfl; exact absurd hq h1)
    split
    · trivial
    · next h2 =>
      split
      · trivial
      · next h3 =>
        obtain ⟨c, rfl, c1, c2⟩ := so_y p2 h2 h3
        split
        · trivial
        · next h4 =>
          rw [nI_clamp (by omega), nI_clamp (by omega)]
          cases hf : so_fo (so_ra u P C O p) c p 0 with
          | none => trivial
          | some o =>
            obtain ⟨o1, o2, o3⟩ := so_fo_spec _ _ _ _ _ hf
            exact ⟨p1, p2, p3, c1, c2, by show o < p; omega, o3, by omega⟩
theorem so_dAt_ok (u : Nat → Bool) (P C O : Nat → Nat) (x y z : Int32) : so_E_ok u P C O (so_dAt u P C O x y z) := by
  unfold so_dAt
  split
  · trivial
  · next h1 =>
    obtain ⟨p, rfl, p1, p2, p3⟩ := so_bp_f (by cases hq : so_bp x; rfl; exact absurd hq h1)
    split
    · trivial
    · next h2 =>
      split
      · trivial
      · next h3 =>
        obtain ⟨c, rfl, c1, c2⟩ := so_y p2 h2 h3
        split
        · trivial
        · next h4 =>
          split
          · trivial
          · next h5 =>
            obtain ⟨o, rfl, o1⟩ := so_z p2 h4 h5
            split
            · trivial
            · next h6 =>
              rw [nI_clamp (by omega), nI_clamp (by omega), nI_clamp (by omega)]
              split
              · trivial
              · next h7 => exact ⟨p1, p2, p3, c1, c2, o1, by show c ≤ so_ra u P C O p o; omega, by omega⟩
theorem so_ok_put {u : Nat → Bool} {P C O : Nat → Nat} {d : so_E} (ok : so_ok u P C O) (hd : so_E_ok u P C O d) : so_ok (so_nu u d) (so_nP u P d) (so_nC u C d) (so_nO u O d) := by
  cases d with
  | inl r => exact ok
  | inr q =>
    obtain ⟨p, c, o⟩ := q
    obtain ⟨p1, p2, p3, c1, c2, o1, -, -⟩ := hd
    intro j hj hu
    by_cases e : j = so_k u
    · subst e
      simp only [so_nP, so_nC, so_nO, va_up_self]
      exact ⟨p1, p2, p3, c1, c2, o1⟩
    · simp only [so_nu, so_nP, so_nC, so_nO, va_up_ne _ _ e] at hu ⊢
      exact ok j hj hu
theorem so_dj_put {u : Nat → Bool} {P C O : Nat → Nat} {d : so_E} (ok : so_ok u P C O) (dj : so_dj u P C O) (hd : so_E_ok u P C O d) : so_dj (so_nu u d) (so_nP u P d) (so_nC u C d) (so_nO u O d) := by
  cases d with
  | inl r => exact dj
  | inr q =>
    obtain ⟨p, c, o⟩ := q
    obtain ⟨p1, p2, p3, c1, c2, o1, hra, hct⟩ := hd
    have hk := so_k_free hct
    have old : ∀ j t, j ≠ so_k u → so_run (so_nu u (.inr (p, c, o))) (so_nP u P (.inr (p, c, o))) (so_nC u C (.inr (p, c, o))) (so_nO u O (.inr (p, c, o))) j t = so_run u P C O j t := by
      intro j t e
      simp only [so_run, so_nu, so_nP, so_nC, so_nO, va_up_ne _ _ e]
    have new : ∀ j t, j < 10 → j ≠ so_k u → so_run u P C O j t = true → so_run (so_nu u (.inr (p, c, o))) (so_nP u P (.inr (p, c, o))) (so_nC u C (.inr (p, c, o))) (so_nO u O (.inr (p, c, o))) (so_k u) t = true → False := by
      intro j t hj e r1 r2
      simp only [so_run, so_nu, so_nP, so_nC, so_nO, va_up_self, Bool.and_eq_true, decide_eq_true_eq, true_and] at r1 r2
      obtain ⟨hu, t3, t4⟩ := r1
      obtain ⟨a1, a2, a3, a4, a5, a6⟩ := ok j hj hu
      have hb := ((so_rm_iff u (so_rb P C O p o) p c 10).mp hra).2 j hj hu
      exact so_beside (show 0 < p by have : 2 ≤ p := p1; omega) (by omega) a3 a6 a2 c1 hb r2.1 r2.2 t3 t4
    intro i j t hi hj hij r1 r2
    by_cases e1 : i = so_k u
    · have e2 : j ≠ so_k u := fun z => hij (by rw [e1, z])
      rw [old j t e2] at r2
      rw [e1] at r1
      exact new j t hj e2 r2 r1
    · rw [old i t e1] at r1
      by_cases e2 : j = so_k u
      · rw [e2] at r2
        exact new i t hi e1 r1 r2
      · rw [old j t e2] at r2
        exact dj i j t hi hj hij r1 r2
theorem so_ru_sub {u : Nat → Bool} {x : Int32} {j : Nat} (h : so_ru u x j = true) : u j = true := by
  unfold so_ru at h
  split at h
  · exact h
  · by_cases e : j = x.toNatClampNeg
    · rw [e, va_up_self] at h; cases h
    · rwa [va_up_ne _ _ e] at h
theorem so_ok_cut {u : Nat → Bool} {P C O : Nat → Nat} {x : Int32} (ok : so_ok u P C O) : so_ok (so_ru u x) P C O := fun j hj hu => ok j hj (so_ru_sub hu)
theorem so_dj_cut {u : Nat → Bool} {P C O : Nat → Nat} {x : Int32} (dj : so_dj u P C O) : so_dj (so_ru u x) P C O := by
  intro i j t hi hj hij r1 r2
  simp only [so_run, Bool.and_eq_true] at r1 r2
  refine dj i j t hi hj hij ?_ ?_
  · simp only [so_run, Bool.and_eq_true]; exact ⟨so_ru_sub r1.1, r1.2⟩
  · simp only [so_run, Bool.and_eq_true]; exact ⟨so_ru_sub r2.1, r2.2⟩
/-! ===== counting slots ===== -/
theorem so_G {P C m : Nat} (hP : 0 < P) (hC : C ≤ P) : (m + 1) / P * C + (if C < (m + 1) % P then C else (m + 1) % P) = m / P * C + (if C < m % P then C else m % P) + (if m % P < C then 1 else 0) := by
  have hm : m = P * (m / P) + m % P := (Nat.div_add_mod m P).symm
  have hr : m % P < P := Nat.mod_lt _ hP
  generalize m / P = q at *
  generalize m % P = r at *
  rcases Nat.lt_or_ge (r + 1) P with h | h
  · have e : m + 1 = P * q + (r + 1) := by omega
    rw [e, Nat.mul_add_div hP, Nat.mul_add_mod, Nat.div_eq_of_lt h, Nat.mod_eq_of_lt h, Nat.add_zero]
    split <;> split <;> split <;> omega
  · have e : m + 1 = P * (q + 1) := by rw [Nat.mul_add, Nat.mul_one]; omega
    rw [e, Nat.mul_div_cancel_left _ hP, Nat.mul_mod_right, Nat.add_mul, Nat.one_mul]
    split <;> split <;> split <;> omega
theorem so_rn_ct {u : Nat → Bool} {P C O : Nat → Nat} {j : Nat} (hu : u j = true) (hP : 0 < P j) (hC : C j ≤ P j) : ∀ n, fb_ct (fun t => so_run u P C O j t) n = so_rn P C O j n
  | 0 => by simp [fb_ct, so_rn]
  | n + 1 => by
    rw [fb_ct_succ, so_rn_ct hu hP hC n]
    simp only [so_rn]
    rcases Nat.lt_or_ge n (O j) with h | h
    · have e1 : n - O j = 0 := by omega
      have e2 : n + 1 - O j = 0 := by omega
      have e3 : so_run u P C O j n = false := by simp only [so_run, Bool.and_eq_false_iff, decide_eq_false_iff_not]; right; left; omega
      rw [e1, e2, e3]
      simp
    · have e2 : n + 1 - O j = n - O j + 1 := by omega
      have e3 : so_run u P C O j n = decide ((n - O j) % P j < C j) := by simp only [so_run, hu, h, decide_true, Bool.true_and]
      rw [e2, so_G hP hC, e3]
      simp only [decide_eq_true_eq]
theorem so_sm_ct (f : Nat → Bool) : ∀ n, fb_sm (fun j => if f j = true then 1 else 0) n = fb_ct f n
  | 0 => rfl
  | n + 1 => by rw [fb_sm_succ, fb_ct_succ, so_sm_ct f n]
theorem so_one {f : Nat → Bool} : ∀ n, (∀ i j, i < n → j < n → i ≠ j → f i = true → f j = true → False) → fb_ct f n ≤ 1
  | 0, _ => by simp [fb_ct]
  | n + 1, h => by
    rw [fb_ct_succ]
    have ih := so_one (f := f) n (fun i j a b => h i j (by omega) (by omega))
    cases hf : f n with
    | false => simp; exact ih
    | true =>
      have z : fb_ct f n = 0 := fb_ct_zero.mpr (fun k hk => by
        cases hq : f k with
        | false => rfl
        | true => exact (h k n (by omega) (by omega) (by omega) hq hf).elim)
      simp [z]
/-- the slots before n: the free ones, and those of each job -/
theorem so_total {u : Nat → Bool} {P C O : Nat → Nat} (dj : so_dj u P C O) : ∀ n, fb_ct (so_fr u P C O) n + fb_sm (fun j => fb_ct (fun t => so_run u P C O j t) n) 10 = n
  | 0 => by simp [fb_ct, fb_sm]
  | n + 1 => by
    have ih := so_total dj n
    have e : fb_sm (fun j => fb_ct (fun t => so_run u P C O j t) (n + 1)) 10 = fb_sm (fun j => fb_ct (fun t => so_run u P C O j t) n) 10 + fb_ct (fun j => so_run u P C O j n) 10 := by
      rw [← so_sm_ct (fun j => so_run u P C O j n) 10, ← fb_sm_add]
      rfl
    rw [e, fb_ct_succ]
    have h1 := so_one (f := fun j => so_run u P C O j n) 10 (fun i j a b c r1 r2 => dj i j n a b c r1 r2)
    cases hf : so_fr u P C O n with
    | true =>
      rw [so_fr_iff] at hf
      have z : fb_ct (fun j => so_run u P C O j n) 10 = 0 := fb_ct_zero.mpr hf
      rw [z]
      simp only [if_true]
      omega
    | false =>
      have hf := so_fr_no hf
      have z : fb_ct (fun j => so_run u P C O j n) 10 ≠ 0 := fun q => hf (fb_ct_zero.mp q)
      simp only [Bool.false_eq_true, if_false]
      omega
/-- the sum of what the jobs in use have run -/
def so_S (u : Nat → Bool) (P C O : Nat → Nat) (n : Nat) : Nat := fb_sm (fun j => if u j = true then so_rn P C O j n else 0) 10
theorem so_tot {u : Nat → Bool} {P C O : Nat → Nat} (ok : so_ok u P C O) (dj : so_dj u P C O) (n : Nat) : fb_ct (so_fr u P C O) n + so_S u P C O n = n := by
  have h := so_total dj n
  have e : fb_sm (fun j => fb_ct (fun t => so_run u P C O j t) n) 10 = so_S u P C O n := by
    refine fb_sm_cong (fun j hj => ?_)
    split
    · next hu =>
      obtain ⟨a1, a2, a3, a4, a5, a6⟩ := ok j hj hu
      exact so_rn_ct hu (by omega) a5 n
    · next hu =>
      refine fb_ct_zero.mpr (fun k _ => ?_)
      have : u j = false := by cases hq : u j; rfl; exact absurd hq hu
      simp only [so_run, this, Bool.false_and]
  rw [e] at h
  exact h
theorem so_fs_sum (u : Nat → Bool) (A B : Nat → Nat) (acc : Int32) : ∀ i, so_fs u (fun j => nI (A j) - nI (B j)) acc i = acc - (nI (fb_sm (fun j => if u j = true then A j else 0) i) - nI (fb_sm (fun j => if u j = true then B j else 0) i))
  | 0 => by
    simp only [so_fs, fb_sm, nI_0]
    grind
  | i + 1 => by
    have ih := so_fs_sum u A B acc i
    simp only [so_fs]
    rw [fb_sm_succ, fb_sm_succ, ih]
    split
    · rw [← nI_add, ← nI_add]
      grind
    · rw [Nat.add_zero, Nat.add_zero]
/-- free slots between two times, the two ways -/
theorem so_free_eq {u : Nat → Bool} {P C O : Nat → Nat} (ok : so_ok u P C O) (dj : so_dj u P C O) (a b : Nat) : so_fs u (fun j => nI (so_rn P C O j (b + 1)) - nI (so_rn P C O j a)) (nI b - nI a + 1) 10 = nI (fb_ct (so_fr u P C O) (b + 1)) - nI (fb_ct (so_fr u P C O) a) := by
  rw [so_fs_sum]
  have h1 := so_tot ok dj (b + 1)
  have h2 := so_tot ok dj a
  have e1 : nI (fb_ct (so_fr u P C O) (b + 1)) + nI (so_S u P C O (b + 1)) = nI b + 1 := by rw [nI_add, h1, nI_1]
  have e2 : nI (fb_ct (so_fr u P C O) a) + nI (so_S u P C O a) = nI a := by rw [nI_add, h2]
  have e3 : fb_sm (fun j => if u j = true then so_rn P C O j (b + 1) else 0) 10 = so_S u P C O (b + 1) := rfl
  have e4 : fb_sm (fun j => if u j = true then so_rn P C O j a else 0) 10 = so_S u P C O a := rfl
  rw [e3, e4]
  generalize nI (fb_ct (so_fr u P C O) (b + 1)) = F1 at *
  generalize nI (fb_ct (so_fr u P C O) a) = F2 at *
  generalize nI (so_S u P C O (b + 1)) = S1 at *
  generalize nI (so_S u P C O a) = S2 at *
  generalize nI a = x at *
  generalize nI b = y at *
  grind
/-- behind slot 360 all is alike every 360 slots -/
theorem so_fr_per {u : Nat → Bool} {P C O : Nat → Nat} (ok : so_ok u P C O) (k : Nat) : so_fr u P C O (360 + (360 + k)) = so_fr u P C O (360 + k) := by
  have h : ∀ j, j < 10 → so_run u P C O j (360 + (360 + k)) = so_run u P C O j (360 + k) := by
    intro j hj
    cases hu : u j with
    | false => simp only [so_run, hu, Bool.false_and]
    | true =>
      obtain ⟨a1, a2, a3, a4, a5, a6⟩ := ok j hj hu
      have e1 : O j ≤ 360 + (360 + k) := by omega
      have e2 : O j ≤ 360 + k := by omega
      have e3 : 360 + (360 + k) - O j = 360 + k - O j + 360 := by omega
      obtain ⟨M, hM⟩ := so_dvd a3
      have e4 : (360 + k - O j + 360) % P j = (360 + k - O j) % P j := by
        conv => lhs; rw [show 360 + k - O j + 360 = 360 + k - O j + P j * M by rw [← hM]]
        rw [Nat.add_mul_mod_self_left]
      simp only [so_run, hu, e1, e2, e3, e4]
  simp only [so_fr]
  rw [fb_ct_cong (n := 10) h]
theorem so_per {f : Nat → Bool} (h : ∀ k, f (360 + k) = f k) (r : Nat) : ∀ q, fb_ct f (360 * q + r) = q * fb_ct f 360 + fb_ct f r
  | 0 => by simp
  | q + 1 => by
    have ih := so_per h r q
    rw [show 360 * (q + 1) + r = 360 + (360 * q + r) by omega, fb_ct_split, fb_ct_cong (p := fun k => f (360 + k)) (q := f) (fun k _ => h k), ih, Nat.add_mul, Nat.one_mul]
    omega
theorem so_ct_cut0 {f g : Nat → Bool} {n N : Nat} (hn : n ≤ N) (h1 : ∀ k, k < n → g k = f k) (h2 : ∀ k, n ≤ k → k < N → g k = false) : fb_ct g N = fb_ct f n := by
  obtain ⟨d, rfl⟩ : ∃ d, N = n + d := ⟨N - n, by omega⟩
  rw [fb_ct_split, fb_ct_cong (n := n) h1, fb_ct_zero.mpr (fun k hk => h2 (n + k) (by omega) (by omega))]
  rfl
/-- the model's count of the free slots before n -/
theorem so_fb_eq {u : Nat → Bool} {P C O : Nat → Nat} (ok : so_ok u P C O) (n : Nat) : so_fb (so_fr u P C O) n = fb_ct (so_fr u P C O) n := by
  generalize hf : so_fr u P C O = f
  have per : ∀ k, f (360 + (360 + k)) = f (360 + k) := fun k => by rw [← hf]; exact so_fr_per ok k
  have c2 : ∀ r, r < 360 → fb_ct (so_g2 f r) 720 = fb_ct (fun k => f (360 + k)) r := by
    intro r hr
    rw [show 720 = 360 + 360 from rfl, fb_ct_split, fb_ct_zero.mpr (fun k hk => ?_), Nat.zero_add]
    · refine so_ct_cut0 (by omega) (fun k hk => ?_) (fun k h1 h2 => ?_)
      · have a1 : 360 ≤ 360 + k := by omega
        have a2 : 360 + k < 360 + r := by omega
        simp only [so_g2, a1, a2, decide_true, Bool.and_true]
      · have a2 : ¬ 360 + k < 360 + r := by omega
        simp only [so_g2, a2, decide_false, Bool.and_false]
    · have a1 : ¬ 360 ≤ k := by omega
      simp only [so_g2, a1, decide_false, Bool.false_and, Bool.and_false]
  unfold so_fb
  split
  · next hn =>
    have c1 : fb_ct (so_g1 f n) 720 = fb_ct f 360 := by
      refine so_ct_cut0 (by omega) (fun k hk => ?_) (fun k h1 h2 => ?_)
      · have a1 : k < n := by omega
        simp only [so_g1, hk, a1, decide_true, Bool.and_true]
      · have a1 : ¬ k < 360 := by omega
        simp only [so_g1, a1, decide_false, Bool.false_and, Bool.and_false]
    have c3 : fb_ct (so_g3 f) 720 = fb_ct (fun k => f (360 + k)) 360 := by
      rw [show 720 = 360 + 360 from rfl, fb_ct_split, fb_ct_zero.mpr (fun k hk => ?_), Nat.zero_add]
      · refine fb_ct_cong (fun k hk => ?_)
        have a1 : 360 ≤ 360 + k := by omega
        simp only [so_g3, a1, decide_true, Bool.and_true]
      · have a1 : ¬ 360 ≤ k := by omega
        simp only [so_g3, a1, decide_false, Bool.and_false]
    have hr : so_rs n = (n - 360) % 360 := if_pos hn
    have hr2 : (n - 360) % 360 < 360 := Nat.mod_lt _ (by omega)
    rw [c1, hr, c2 _ hr2, c3]
    have e : n = 360 + (360 * ((n - 360) / 360) + (n - 360) % 360) := by
      have := Nat.div_add_mod (n - 360) 360
      omega
    have e2 : fb_ct f n = fb_ct f 360 + ((n - 360) / 360 * fb_ct (fun k => f (360 + k)) 360 + fb_ct (fun k => f (360 + k)) ((n - 360) % 360)) := by
      rw [← so_per (f := fun k => f (360 + k)) per, ← fb_ct_split, ← e]
    rw [e2, Nat.mul_comm ((n - 360) / 360)]
    omega
  · next hn =>
    have hr : so_rs n = 0 := if_neg hn
    have c1 : fb_ct (so_g1 f n) 720 = fb_ct f n := by
      refine so_ct_cut0 (by omega) (fun k hk => ?_) (fun k h1 h2 => ?_)
      · have a1 : k < 360 := by omega
        simp only [so_g1, hk, a1, decide_true, Bool.and_true]
      · have a1 : ¬ k < n := by omega
        simp only [so_g1, a1, decide_false, Bool.and_false]
    rw [c1, hr, c2 0 (by omega)]
    rfl
/-! ===== the load of a cycle ===== -/
theorem so_rn_per {P C O : Nat → Nat} {j t : Nat} (hP : 0 < P j) (h3 : 360 % P j = 0) (ht : O j ≤ t) : so_rn P C O j (t + 360) = so_rn P C O j t + 360 / P j * C j := by
  obtain ⟨M, hM⟩ := so_dvd h3
  have e : t + 360 - O j = (t - O j) + P j * M := by omega
  have e2 : 360 / P j = M := by rw [hM, Nat.mul_div_cancel_left _ hP]
  simp only [so_rn]
  rw [e, e2, Nat.add_mul_mod_self_left, Nat.add_mul_div_left _ _ hP, Nat.add_mul]
  omega
theorem so_ld_sum (u : Nat → Bool) (P C : Nat → Nat) : ∀ i, so_ld u P C i = fb_sm (fun j => if u j = true then 360 / P j * C j else 0) i
  | 0 => rfl
  | i + 1 => by
    rw [fb_sm_succ, ← so_ld_sum u P C i]
    simp only [so_ld]
    split <;> rfl
theorem so_load_eq {u : Nat → Bool} {P C O : Nat → Nat} (ok : so_ok u P C O) (dj : so_dj u P C O) : fb_ct (fun k => !so_fr u P C O (360 + k)) 360 = so_ld u P C 10 := by
  have h1 := so_tot ok dj 720
  have h2 := so_tot ok dj 360
  have h3 := fb_ct_split (so_fr u P C O) 360 360
  have h4 := fb_ct_not (fun k => so_fr u P C O (360 + k)) 360
  have e : so_S u P C O 720 = so_S u P C O 360 + so_ld u P C 10 := by
    rw [so_ld_sum, so_S, so_S, ← fb_sm_add]
    refine fb_sm_cong (fun j hj => ?_)
    split
    · next hu =>
      obtain ⟨a1, a2, a3, a4, a5, a6⟩ := ok j hj hu
      exact so_rn_per (t := 360) (by omega) a3 (by omega)
    · rfl
  have h5 : fb_ct (so_fr u P C O) 720 = fb_ct (so_fr u P C O) 360 + fb_ct (fun k => so_fr u P C O (360 + k)) 360 := h3
  omega
theorem so_ld_le {u : Nat → Bool} {P C O : Nat → Nat} (ok : so_ok u P C O) : ∀ i, i ≤ 10 → so_ld u P C i ≤ i * 360
  | 0, _ => by simp [so_ld]
  | i + 1, h => by
    have ih := so_ld_le ok i (by omega)
    simp only [so_ld]
    split
    · next hu =>
      obtain ⟨a1, a2, a3, a4, a5, a6⟩ := ok i (by omega) hu
      have : 360 / P i * C i ≤ 360 / P i * P i := Nat.mul_le_mul_left _ a5
      have := Nat.div_mul_le_self 360 (P i)
      omega
    · omega
/-! ===== the next start ===== -/
theorem so_nm_spec (u : Nat → Bool) (f : Nat → Nat) : ∀ i, (so_nm u f i = none → ∀ j, j < i → u j = false) ∧ ∀ b, so_nm u f i = some b → (∃ j, j < i ∧ u j = true ∧ f j = b) ∧ ∀ j, j < i → u j = true → b ≤ f j
  | 0 => ⟨fun _ j hj => absurd hj (Nat.not_lt_zero j), fun b h => by simp [so_nm] at h⟩
  | i + 1 => by
    obtain ⟨h1, h2⟩ := so_nm_spec u f i
    simp only [so_nm]
    cases hu : u i with
    | false =>
      simp only [Bool.false_eq_true, if_false]
      refine ⟨fun h j hj => ?_, fun b h => ?_⟩
      · rcases Nat.lt_or_ge j i with q | q
        · exact h1 h j q
        · have e : j = i := by omega
          rw [e]; exact hu
      · obtain ⟨⟨j, a1, a2, a3⟩, a4⟩ := h2 b h
        refine ⟨⟨j, by omega, a2, a3⟩, fun j' hj' hu' => ?_⟩
        rcases Nat.lt_or_ge j' i with q | q
        · exact a4 j' q hu'
        · have e : j' = i := by omega
          rw [e, hu] at hu'; cases hu'
    | true =>
      simp only [if_true]
      cases hn : so_nm u f i with
      | none =>
        refine ⟨fun h => by simp [so_nm1] at h, fun b h => ?_⟩
        obtain rfl : f i = b := by simpa [so_nm1] using h
        refine ⟨⟨i, by omega, hu, rfl⟩, fun j' hj' hu' => ?_⟩
        rcases Nat.lt_or_ge j' i with q | q
        · rw [h1 hn j' q] at hu'; cases hu'
        · have e : j' = i := by omega
          rw [e]; exact Nat.le_refl _
      | some z =>
        obtain ⟨⟨j, a1, a2, a3⟩, a4⟩ := h2 z hn
        refine ⟨fun h => ?_, fun b h => ?_⟩
        · simp only [so_nm1] at h
          split at h <;> cases h
        · simp only [so_nm1] at h
          split at h
          · next hc =>
            obtain rfl := Option.some.inj h
            refine ⟨⟨i, by omega, hu, rfl⟩, fun j' hj' hu' => ?_⟩
            rcases Nat.lt_or_ge j' i with q | q
            · have := a4 j' q hu'; omega
            · have e : j' = i := by omega
              rw [e]; exact Nat.le_refl _
          · next hc =>
            obtain rfl := Option.some.inj h
            refine ⟨⟨j, by omega, a2, a3⟩, fun j' hj' hu' => ?_⟩
            rcases Nat.lt_or_ge j' i with q | q
            · exact a4 j' q hu'
            · have e : j' = i := by omega
              rw [e]; omega
theorem so_tn_spec (f : Nat → Bool) : ∀ n i, (so_tn f n i = none → ∀ t, i ≤ t → t < i + n → f t = false) ∧ ∀ b, so_tn f n i = some b → i ≤ b ∧ b < i + n ∧ f b = true ∧ ∀ t, i ≤ t → t < b → f t = false
  | 0, i => ⟨fun _ t h1 h2 => by omega, fun b h => by simp [so_tn] at h⟩
  | n + 1, i => by
    obtain ⟨h1, h2⟩ := so_tn_spec f n (i + 1)
    simp only [so_tn]
    split
    · next hf =>
      refine ⟨fun h => (by cases h), fun b h => ?_⟩
      obtain rfl := Option.some.inj h
      exact ⟨Nat.le_refl _, by omega, hf, fun t a1 a2 => by omega⟩
    · next hf =>
      have hf : f i = false := by cases hq : f i; rfl; exact absurd hq hf
      refine ⟨fun h t a1 a2 => ?_, fun b h => ?_⟩
      · rcases Nat.eq_or_lt_of_le a1 with e | e
        · rw [← e]; exact hf
        · exact h1 h t e (by omega)
      · obtain ⟨b1, b2, b3, b4⟩ := h2 b h
        refine ⟨by omega, by omega, b3, fun t a1 a2 => ?_⟩
        rcases Nat.eq_or_lt_of_le a1 with e | e
        · rw [← e]; exact hf
        · exact b4 t e a2
theorem so_any_iff (f : Nat → Bool) : ∀ n i, so_any f n i = true ↔ ∃ j, i ≤ j ∧ j < i + n ∧ f j = true
  | 0, i => ⟨fun h => by simp [so_any] at h, fun ⟨j, h1, h2, _⟩ => by omega⟩
  | n + 1, i => by
    have ih := so_any_iff f n (i + 1)
    simp only [so_any, Bool.or_eq_true]
    rw [ih]
    constructor
    · intro h
      rcases h with h | ⟨j, h1, h2, h3⟩
      · exact ⟨i, Nat.le_refl _, by omega, h⟩
      · exact ⟨j, by omega, by omega, h3⟩
    · intro ⟨j, h1, h2, h3⟩
      rcases Nat.eq_or_lt_of_le h1 with e | e
      · left; rw [e]; exact h3
      · right; exact ⟨j, e, by omega, h3⟩
/-- the first start of job j from a on -/
theorem so_nx_spec {P O : Nat → Nat} {j a : Nat} (hP : 0 < P j) : a ≤ so_nx P O a j ∧ so_nx P O a j < a + O j + P j ∧ O j ≤ so_nx P O a j ∧ (so_nx P O a j - O j) % P j = 0 ∧ ∀ t, a ≤ t → O j ≤ t → (t - O j) % P j = 0 → so_nx P O a j ≤ t := by
  unfold so_nx so_bg
  split
  · next h =>
    rw [Nat.zero_mul, Nat.add_zero]
    exact ⟨h, by omega, Nat.le_refl _, by simp, fun t _ h2 _ => h2⟩
  · next h =>
    have hm : P j * ((a - O j - 1) / P j) + (a - O j - 1) % P j = a - O j - 1 := Nat.div_add_mod _ _
    have hr : (a - O j - 1) % P j < P j := Nat.mod_lt _ hP
    generalize (a - O j - 1) / P j = q at *
    generalize (a - O j - 1) % P j = r at *
    have e : (q + 1) * P j = P j * q + P j := by rw [Nat.mul_comm, Nat.mul_add, Nat.mul_one]
    rw [e]
    refine ⟨by omega, by omega, by omega, ?_, fun t h1 h2 h3 => ?_⟩
    · rw [Nat.add_sub_cancel_left, ← Nat.mul_succ]
      exact Nat.mul_mod_right _ _
    · obtain ⟨k, hk⟩ := so_dvd h3
      have h4 : P j * q < P j * k := by omega
      have h5 : q < k := Nat.lt_of_mul_lt_mul_left h4
      have h6 : P j * (q + 1) ≤ P j * k := Nat.mul_le_mul_left _ h5
      rw [Nat.mul_add, Nat.mul_one] at h6
      omega
theorem so_next_eq {u : Nat → Bool} {P C O : Nat → Nat} (ok : so_ok u P C O) (a : Nat) : so_tn (fun t => so_any (so_bgs u P O t) 10 0) 720 a = so_nm u (so_nx P O a) 10 := by
  obtain ⟨m1, m2⟩ := so_nm_spec u (so_nx P O a) 10
  obtain ⟨t1, t2⟩ := so_tn_spec (fun t => so_any (so_bgs u P O t) 10 0) 720 a
  have hit : ∀ j, j < 10 → u j = true → ∀ t, O j ≤ t → (t - O j) % P j = 0 → so_any (so_bgs u P O t) 10 0 = true := by
    intro j hj hu t h1 h2
    refine (so_any_iff _ 10 0).mpr ⟨j, Nat.zero_le _, by omega, ?_⟩
    simp only [so_bgs, hu, h1, h2, decide_true, Bool.and_self]
  cases hn : so_nm u (so_nx P O a) 10 with
  | none =>
    have hz := m1 hn
    cases ht : so_tn (fun t => so_any (so_bgs u P O t) 10 0) 720 a with
    | none => rfl
    | some b =>
      exfalso
      obtain ⟨j, -, j2, j3⟩ := (so_any_iff _ 10 0).mp (t2 b ht).2.2.1
      simp only [so_bgs, hz j (by omega), Bool.false_and] at j3
      cases j3
  | some z =>
    obtain ⟨⟨j, hj, hu, hz⟩, hmin⟩ := m2 z hn
    obtain ⟨a1, a2, a3, a4, a5, a6⟩ := ok j hj hu
    obtain ⟨n1, n2, n3, n4, n5⟩ := so_nx_spec (O := O) (a := a) (show 0 < P j by omega)
    rw [hz] at n1 n2 n3 n4 n5
    have hzt := hit j hj hu z n3 n4
    cases ht : so_tn (fun t => so_any (so_bgs u P O t) 10 0) 720 a with
    | none =>
      exfalso
      have := t1 ht z n1 (by omega)
      rw [hzt] at this
      cases this
    | some b =>
      obtain ⟨b1, b2, b3, b4⟩ := t2 b ht
      congr 1
      apply Nat.le_antisymm
      · rcases Nat.lt_or_ge z b with q | q
        · have := b4 z n1 q
          rw [hzt] at this
          cases this
        · exact q
      · obtain ⟨i, -, i2, i3⟩ := (so_any_iff _ 10 0).mp b3
        simp only [so_bgs, Bool.and_eq_true, decide_eq_true_eq] at i3
        obtain ⟨iu, io, ip⟩ := i3
        obtain ⟨c1, c2, c3, c4, c5, c6⟩ := ok i (by omega) iu
        have := (so_nx_spec (O := O) (a := a) (show 0 < P i by omega)).2.2.2.2 b b1 io ip
        have := hmin i (by omega) iu
        omega
theorem so_nx_lt {P O : Nat → Nat} {j a : Nat} (hP : 0 < P j) (hP2 : P j ≤ 360) (hO : O j < P j) (ha : a ≤ 1000000000) : so_nx P O a j < 1000000720 := by
  have := (so_nx_spec (O := O) (a := a) hP).2.1
  omega
theorem so_rn_le {P C O : Nat → Nat} {j t : Nat} (hC : C j ≤ P j) : so_rn P C O j t ≤ t := by
  unfold so_rn
  have h1 : (t - O j) / P j * C j ≤ (t - O j) / P j * P j := Nat.mul_le_mul_left _ hC
  have h2 : P j * ((t - O j) / P j) + (t - O j) % P j = t - O j := Nat.div_add_mod _ _
  rw [Nat.mul_comm (P j)] at h2
  split <;> omega
/-! ===== the rest of a difference, as Java has it ===== -/
theorem so_ndiv {a g : Nat} (ha : a < 2 ^ 31) (h0 : 0 < g) (hg : g < 2 ^ 31) : (-nI a) / nI g = -nI (a / g) := by
  have hne : nI g ≠ -1 := by
    intro e
    have := congrArg Int32.toInt e
    rw [nI_toInt hg, show (-1 : Int32).toInt = -1 from by decide +kernel] at this
    omega
  apply Int32.toInt_inj.mp
  rw [Int32.toInt_div_of_ne_right _ _ hne, sb_negT ha, nI_toInt hg, sb_negT (Nat.lt_of_le_of_lt (Nat.div_le_self a g) ha), Int.neg_tdiv]
  rfl
theorem so_beh {o O g : Nat} (ho : o < 360) (hO : O < 360) (hg : 0 < g) (h3 : 360 % g = 0) {r : Int32} (hr : r = (nI o - nI O) - (nI o - nI O) / nI g * nI g) : (0 ≤ r → r = nI ((o + 360 - O) % g)) ∧ (¬ 0 ≤ r → r + nI g = nI ((o + 360 - O) % g)) := by
  have hg2 : g ≤ 360 := Nat.le_of_dvd (by omega) (so_dvd h3)
  obtain ⟨M, hM⟩ := so_dvd h3
  rcases Nat.lt_or_ge o O with h | h
  · obtain ⟨a, rfl⟩ : ∃ a, O = o + a := ⟨O - o, by omega⟩
    have e1 : nI o - nI (o + a) = -nI a := by rw [← nI_add]; grind
    have e2 : nI a - nI (a / g) * nI g = nI (a % g) := by rw [← pk_div (by omega) hg (by omega)]; exact pk_rem (by omega) hg (by omega)
    have e3 : r = -nI (a % g) := by
      rw [hr, e1, so_ndiv (by omega) hg (by omega), ← e2]
      grind
    have hz : a % g < g := Nat.mod_lt _ hg
    have e4 : o + 360 - (o + a) = 360 - a := by omega
    have e5 : ((360 - a) % g + a % g) % g = 0 := by rw [← Nat.add_mod, show 360 - a + a = 360 by omega, h3]
    have hz2 : (360 - a) % g < g := Nat.mod_lt _ hg
    rw [e4]
    rcases Nat.eq_zero_or_pos (a % g) with z | z
    · have e6 : (360 - a) % g = 0 := by rw [z, Nat.add_zero, Nat.mod_mod] at e5; exact e5
      rw [e6, e3, z]
      refine ⟨fun _ => by decide +kernel, fun q => absurd (show (0 : Int32) ≤ -nI 0 by decide +kernel) q⟩
    · have e6 : (360 - a) % g = g - a % g := by
        rcases Nat.lt_or_ge ((360 - a) % g + a % g) g with q | q
        · rw [Nat.mod_eq_of_lt q] at e5; omega
        · rw [Nat.mod_eq_sub_mod q, Nat.mod_eq_of_lt (by omega)] at e5; omega
      rw [e6, e3]
      refine ⟨fun q => ?_, fun _ => ?_⟩
      · exfalso
        rw [Int32.le_iff_toInt_le, so_toInt0, sb_negT (by omega)] at q
        omega
      · rw [← pk_sub (by omega)]
        grind
  · have e1 : nI o - nI O = nI (o - O) := pk_sub h
    have e2 : r = nI ((o - O) % g) := by rw [hr, e1]; exact pk_rem (by omega) hg (by omega)
    have e3 : (o + 360 - O) % g = (o - O) % g := by
      rw [show o + 360 - O = o - O + g * M by omega, Nat.add_mul_mod_self_left]
    rw [e3]
    refine ⟨fun _ => e2, fun q => absurd ?_ q⟩
    rw [e2]
    exact nI_pos' (Nat.lt_of_lt_of_le (Nat.mod_lt _ hg) (by omega))
end
section
/-! ===== the two classes' cells, and rows over them ===== -/
set_option maxRecDepth 100000
abbrev vwCl : List vw_C := [(RX0, TX0, 5), (RX1, TX1, 3)]
/-- StrictOffsets: the object and its four arrays -/
def so_V0 (a : Nat → Nat) (d : Nat → ClassId) (n : Int32) (u : Nat → Bool) (P C O : Nat → Nat) : va_W := [(a 0, .inr (0, [.ref (a 1), .ref (a 2), .ref (a 3), .ref (a 4), .int n])), (a 1, .inl (d 1, 10, .inl (fun j => so_b (u j)))), (a 2, .inl (d 2, 10, .inl (fun j => nI (P j)))), (a 3, .inl (d 3, 10, .inl (fun j => nI (C j)))), (a 4, .inl (d 4, 10, .inl (fun j => nI (O j))))]
def so_T0 (d : Nat → ClassId) : List (ClassId × FieldType) := [(d 1, .boolean), (d 2, .int), (d 3, .int), (d 4, .int)]
/-- StrictOffsetsModel: the object and its three arrays -/
def so_V1 (a : Nat → Nat) (d : Nat → ClassId) (u : Nat → Bool) (P C O : Nat → Nat) : va_W := [(a 0, .inr (1, [.ref (a 1), .ref (a 2), .ref (a 3)])), (a 1, .inl (d 1, 10, .inl (fun j => nI (so_p u P j)))), (a 2, .inl (d 2, 10, .inl (fun j => nI (C j)))), (a 3, .inl (d 3, 10, .inl (fun j => nI (O j))))]
def so_T1 (d : Nat → ClassId) : List (ClassId × FieldType) := [(d 1, .int), (d 2, .int), (d 3, .int)]
def so_I0 (D : va_G) (a : Nat → Nat) (d : Nat → ClassId) (n : Int32) (u : Nat → Bool) (P C O : Nat → Nat) (U : State) (H : Heap) : Prop := va_P D vwCl (so_V0 a d n u P C O) H ∧ va_K D vwCl (so_T0 d) U
def so_I1 (D : va_G) (a : Nat → Nat) (d : Nat → ClassId) (u : Nat → Bool) (P C O : Nat → Nat) (U : State) (H : Heap) : Prop := va_P D vwCl (so_V1 a d u P C O) H ∧ va_K D vwCl (so_T1 d) U
abbrev so_R (k : Nat) : Room := { frames := k, cells := 0, slots := 0, locals := 27 * k }
section SOA
variable {pg : Program} {l : Launch} {e : Env} {R : Room} {s : State} {m : MethodId} {args : Array Value} {below : List Frame} {meth : Method} {c : Code} {H : Heap} {locs : List Loc} {cells slots : Nat} {Q : State → Prop}
variable {cc : ByteArray} {pc : Nat} {ls : Array Slot} {rest : List Value}
theorem so_as {x y : Int32} (h : x = y) (k : W pg l e R s m args below meth c H locs cells slots Q (F0 m pc ls (.int y :: rest))) : W pg l e R s m args below meth c H locs cells slots Q (F0 m pc ls (.int x :: rest)) := by
  subst h; exact k
theorem so_ige (hx : pg.tables.exec = Jvm.exec) (hb : c.code = cc) {x y : Nat} {off : Int} {tgt : Nat} (hdg : decode cc pc = .ok (.if_icmp .ge off, 3)) (ht : (pc : Int) + off = (tgt : Int)) (h1 : x < 2 ^ 31) (h2 : y < 2 ^ 31)
    (kt : y ≤ x → W pg l e R s m args below meth c H locs cells slots Q (F0 m tgt ls rest)) (kf : x < y → W pg l e R s m args below meth c H locs cells slots Q (F0 m (pc + 3) ls rest)) : W pg l e R s m args below meth c H locs cells slots Q (F0 m pc ls (.int (nI y) :: .int (nI x) :: rest)) :=
  lv_icmp_ge hx hb hdg ht (fun h => kt ((nI_leI h2 h1).mp h)) (fun h => kf (Nat.not_le.mp fun q => h ((nI_leI h2 h1).mpr q)))
theorem so_ilt (hx : pg.tables.exec = Jvm.exec) (hb : c.code = cc) {x y : Nat} {off : Int} {tgt : Nat} (hdg : decode cc pc = .ok (.if_icmp .lt off, 3)) (ht : (pc : Int) + off = (tgt : Int)) (h1 : x < 2 ^ 31) (h2 : y < 2 ^ 31)
    (kt : x < y → W pg l e R s m args below meth c H locs cells slots Q (F0 m tgt ls rest)) (kf : y ≤ x → W pg l e R s m args below meth c H locs cells slots Q (F0 m (pc + 3) ls rest)) : W pg l e R s m args below meth c H locs cells slots Q (F0 m pc ls (.int (nI y) :: .int (nI x) :: rest)) :=
  lv_icmp_lt hx hb hdg ht (fun h => kt ((nI_ltI h1 h2).mp h)) (fun h => kf (Nat.not_lt.mp fun q => h ((nI_ltI h1 h2).mpr q)))
theorem so_igt (hx : pg.tables.exec = Jvm.exec) (hb : c.code = cc) {x y : Nat} {off : Int} {tgt : Nat} (hdg : decode cc pc = .ok (.if_icmp .gt off, 3)) (ht : (pc : Int) + off = (tgt : Int)) (h1 : x < 2 ^ 31) (h2 : y < 2 ^ 31)
    (kt : y < x → W pg l e R s m args below meth c H locs cells slots Q (F0 m tgt ls rest)) (kf : x ≤ y → W pg l e R s m args below meth c H locs cells slots Q (F0 m (pc + 3) ls rest)) : W pg l e R s m args below meth c H locs cells slots Q (F0 m pc ls (.int (nI y) :: .int (nI x) :: rest)) :=
  lv_icmp_gt hx hb hdg ht (fun h => kt ((nI_ltI h2 h1).mp h)) (fun h => kf (Nat.not_lt.mp fun q => h ((nI_ltI h2 h1).mpr q)))
theorem so_ile (hx : pg.tables.exec = Jvm.exec) (hb : c.code = cc) {x y : Nat} {off : Int} {tgt : Nat} (hdg : decode cc pc = .ok (.if_icmp .le off, 3)) (ht : (pc : Int) + off = (tgt : Int)) (h1 : x < 2 ^ 31) (h2 : y < 2 ^ 31)
    (kt : x ≤ y → W pg l e R s m args below meth c H locs cells slots Q (F0 m tgt ls rest)) (kf : y < x → W pg l e R s m args below meth c H locs cells slots Q (F0 m (pc + 3) ls rest)) : W pg l e R s m args below meth c H locs cells slots Q (F0 m pc ls (.int (nI y) :: .int (nI x) :: rest)) :=
  lv_icmp_le hx hb hdg ht (fun h => kt ((nI_leI h1 h2).mp h)) (fun h => kf (Nat.not_le.mp fun q => h ((nI_leI h1 h2).mpr q)))
theorem so_ine (hx : pg.tables.exec = Jvm.exec) (hb : c.code = cc) {x y : Nat} {off : Int} {tgt : Nat} (hdg : decode cc pc = .ok (.if_icmp .ne off, 3)) (ht : (pc : Int) + off = (tgt : Int)) (h1 : x < 2 ^ 31) (h2 : y < 2 ^ 31)
    (kt : x ≠ y → W pg l e R s m args below meth c H locs cells slots Q (F0 m tgt ls rest)) (kf : x = y → W pg l e R s m args below meth c H locs cells slots Q (F0 m (pc + 3) ls rest)) : W pg l e R s m args below meth c H locs cells slots Q (F0 m pc ls (.int (nI y) :: .int (nI x) :: rest)) :=
  lv_icmp_ne hx hb hdg ht (fun h => kt (fun q => h (by rw [q]))) (fun h => kf ((nI_eq h1 h2).mp h))
theorem so_zeq (hx : pg.tables.exec = Jvm.exec) (hb : c.code = cc) {x : Nat} {off : Int} {tgt : Nat} (hdg : decode cc pc = .ok (.ifCond .eq off, 3)) (ht : (pc : Int) + off = (tgt : Int)) (h1 : x < 2 ^ 31)
    (kt : x = 0 → W pg l e R s m args below meth c H locs cells slots Q (F0 m tgt ls rest)) (kf : 0 < x → W pg l e R s m args below meth c H locs cells slots Q (F0 m (pc + 3) ls rest)) : W pg l e R s m args below meth c H locs cells slots Q (F0 m pc ls (.int (nI x) :: rest)) :=
  lv_if_eq hx hb hdg ht (fun h => kt (by rcases Nat.eq_zero_or_pos x with q | q; exact q; exact absurd h (nI_ne0 q h1))) (fun h => kf (Nat.pos_of_ne_zero fun q => h (by rw [q]; exact nI_0)))
theorem so_zne (hx : pg.tables.exec = Jvm.exec) (hb : c.code = cc) {x : Nat} {off : Int} {tgt : Nat} (hdg : decode cc pc = .ok (.ifCond .ne off, 3)) (ht : (pc : Int) + off = (tgt : Int)) (h1 : x < 2 ^ 31)
    (kt : 0 < x → W pg l e R s m args below meth c H locs cells slots Q (F0 m tgt ls rest)) (kf : x = 0 → W pg l e R s m args below meth c H locs cells slots Q (F0 m (pc + 3) ls rest)) : W pg l e R s m args below meth c H locs cells slots Q (F0 m pc ls (.int (nI x) :: rest)) :=
  lv_if_ne hx hb hdg ht (fun h => kt (Nat.pos_of_ne_zero fun q => h (by rw [q]; exact nI_0))) (fun h => kf (by rcases Nat.eq_zero_or_pos x with q | q; exact q; exact absurd h (nI_ne0 q h1)))
theorem so_zle (hx : pg.tables.exec = Jvm.exec) (hb : c.code = cc) {x : Nat} {off : Int} {tgt : Nat} (hdg : decode cc pc = .ok (.ifCond .le off, 3)) (ht : (pc : Int) + off = (tgt : Int)) (h1 : x < 2 ^ 31)
    (kt : x = 0 → W pg l e R s m args below meth c H locs cells slots Q (F0 m tgt ls rest)) (kf : 0 < x → W pg l e R s m args below meth c H locs cells slots Q (F0 m (pc + 3) ls rest)) : W pg l e R s m args below meth c H locs cells slots Q (F0 m pc ls (.int (nI x) :: rest)) :=
  lv_if_le hx hb hdg ht (fun h => kt (by rcases Nat.eq_zero_or_pos x with q | q; exact q; exact absurd h (nI_nle q h1))) (fun h => kf (Nat.pos_of_ne_zero fun q => h (by rw [q]; decide +kernel)))
theorem so_zgt (hx : pg.tables.exec = Jvm.exec) (hb : c.code = cc) {x : Nat} {off : Int} {tgt : Nat} (hdg : decode cc pc = .ok (.ifCond .gt off, 3)) (ht : (pc : Int) + off = (tgt : Int)) (h0 : 0 < x) (h1 : x < 2 ^ 31)
    (kt : W pg l e R s m args below meth c H locs cells slots Q (F0 m tgt ls rest)) : W pg l e R s m args below meth c H locs cells slots Q (F0 m pc ls (.int (nI x) :: rest)) :=
  lv_if_gt hx hb hdg ht (fun _ => kt) (fun h => absurd (show (0 : Int32) < nI x from nI_0 ▸ nI_lt h0 h1) h)
theorem so_beq (hx : pg.tables.exec = Jvm.exec) (hb : c.code = cc) {x : Bool} {off : Int} {tgt : Nat} (hdg : decode cc pc = .ok (.ifCond .eq off, 3)) (ht : (pc : Int) + off = (tgt : Int))
    (kt : x = false → W pg l e R s m args below meth c H locs cells slots Q (F0 m tgt ls rest)) (kf : x = true → W pg l e R s m args below meth c H locs cells slots Q (F0 m (pc + 3) ls rest)) : W pg l e R s m args below meth c H locs cells slots Q (F0 m pc ls (.int (so_b x) :: rest)) := by
  cases x with
  | false => exact lv_if_eq hx hb hdg ht (fun _ => kt rfl) (fun h => absurd rfl h)
  | true => exact lv_if_eq hx hb hdg ht (fun h => absurd h (by decide +kernel)) (fun _ => kf rfl)
theorem so_bne (hx : pg.tables.exec = Jvm.exec) (hb : c.code = cc) {x : Bool} {off : Int} {tgt : Nat} (hdg : decode cc pc = .ok (.ifCond .ne off, 3)) (ht : (pc : Int) + off = (tgt : Int))
    (kt : x = true → W pg l e R s m args below meth c H locs cells slots Q (F0 m tgt ls rest)) (kf : x = false → W pg l e R s m args below meth c H locs cells slots Q (F0 m (pc + 3) ls rest)) : W pg l e R s m args below meth c H locs cells slots Q (F0 m pc ls (.int (so_b x) :: rest)) := by
  cases x with
  | false => exact lv_if_ne hx hb hdg ht (fun h => absurd rfl h) (fun _ => kf rfl)
  | true => exact lv_if_ne hx hb hdg ht (fun _ => kt rfl) (fun h => absurd h (by decide +kernel))
theorem so_rem (hx : pg.tables.exec = Jvm.exec) (hb : c.code = cc) {x y : Nat} (hdg : decode cc pc = .ok (.irem, 1)) (h1 : x < 2 ^ 31) (h0 : 0 < y) (h2 : y < 2 ^ 31)
    (k : W pg l e R s m args below meth c H locs cells slots Q (F0 m (pc + 1) ls (.int (nI (x % y)) :: rest))) : W pg l e R s m args below meth c H locs cells slots Q (F0 m pc ls (.int (nI y) :: .int (nI x) :: rest)) :=
  lv_irem hx hb hdg (nI_ne0 h0 h2) (so_as (pk_rem h1 h0 h2) k)
theorem so_div (hx : pg.tables.exec = Jvm.exec) (hb : c.code = cc) {x y : Nat} (hdg : decode cc pc = .ok (.idiv, 1)) (h1 : x < 2 ^ 31) (h0 : 0 < y) (h2 : y < 2 ^ 31)
    (k : W pg l e R s m args below meth c H locs cells slots Q (F0 m (pc + 1) ls (.int (nI (x / y)) :: rest))) : W pg l e R s m args below meth c H locs cells slots Q (F0 m pc ls (.int (nI y) :: .int (nI x) :: rest)) :=
  lv_idiv hx hb hdg (nI_ne0 h0 h2) (so_as (pk_div h1 h0 h2) k)
theorem so_add (hx : pg.tables.exec = Jvm.exec) (hb : c.code = cc) {x y : Nat} (hdg : decode cc pc = .ok (.iadd, 1))
    (k : W pg l e R s m args below meth c H locs cells slots Q (F0 m (pc + 1) ls (.int (nI (x + y)) :: rest))) : W pg l e R s m args below meth c H locs cells slots Q (F0 m pc ls (.int (nI y) :: .int (nI x) :: rest)) :=
  lv_iadd hx hb hdg (so_as (nI_add x y) k)
theorem so_mul (hx : pg.tables.exec = Jvm.exec) (hb : c.code = cc) {x y : Nat} (hdg : decode cc pc = .ok (.imul, 1))
    (k : W pg l e R s m args below meth c H locs cells slots Q (F0 m (pc + 1) ls (.int (nI (x * y)) :: rest))) : W pg l e R s m args below meth c H locs cells slots Q (F0 m pc ls (.int (nI y) :: .int (nI x) :: rest)) :=
  lv_imul hx hb hdg (so_as (pk_mul x y) k)
theorem so_sub (hx : pg.tables.exec = Jvm.exec) (hb : c.code = cc) {x y : Nat} (hdg : decode cc pc = .ok (.isub, 1)) (h : y ≤ x)
    (k : W pg l e R s m args below meth c H locs cells slots Q (F0 m (pc + 1) ls (.int (nI (x - y)) :: rest))) : W pg l e R s m args below meth c H locs cells slots Q (F0 m pc ls (.int (nI y) :: .int (nI x) :: rest)) :=
  lv_isub hx hb hdg (so_as (pk_sub h) k)
end SOA
section SOB
variable {pg : Program} {l : Launch} {e : Env} {R : Room} {s : State} {m : MethodId} {args : Array Value} {below : List Frame} {meth : Method} {c : Code} {H : Heap} {locs : List Loc} {cells slots : Nat} {Q : State → Prop}
variable {cc : ByteArray} {pc : Nat} {ls : Array Slot} {rest : List Value} {D : va_G} {a : Nat → Nat} {d : Nat → ClassId} {n : Int32} {u : Nat → Bool} {P C O : Nat → Nat}
theorem so_g0U (hx : pg.tables.exec = Jvm.exec) (hb : c.code = cc) (hts : ∀ w ∈ lw_all, w.before args s = true) (hown : s.vm.findClass RX0 = some m.cls) (I : so_I0 D a d n u P C O s H) (hdg : decode cc pc = .ok (.getfield 7, 3))
    (kk : W pg l e R s m args below meth c H locs cells slots Q (F0 m (pc + 3) ls (.ref (a 1) :: rest))) : W pg l e R s m args below meth c H locs cells slots Q (F0 m pc ls (.ref (a 0) :: rest)) :=
  va_get (D := D) (ci := 0) (v := .ref (a 1)) (C := RX0) (T := TX0) (N := 5) (fs := [.ref (a 1), .ref (a 2), .ref (a 3), .ref (a 4), .int n]) hx hb hts in_X0 hown I.2 I.1 0 rfl rfl 0 (by decide) (hts _ q26) (fun _ h9 => h9) rfl hdg kk
theorem so_g0P (hx : pg.tables.exec = Jvm.exec) (hb : c.code = cc) (hts : ∀ w ∈ lw_all, w.before args s = true) (hown : s.vm.findClass RX0 = some m.cls) (I : so_I0 D a d n u P C O s H) (hdg : decode cc pc = .ok (.getfield 13, 3))
    (kk : W pg l e R s m args below meth c H locs cells slots Q (F0 m (pc + 3) ls (.ref (a 2) :: rest))) : W pg l e R s m args below meth c H locs cells slots Q (F0 m pc ls (.ref (a 0) :: rest)) :=
  va_get (D := D) (ci := 0) (v := .ref (a 2)) (C := RX0) (T := TX0) (N := 5) (fs := [.ref (a 1), .ref (a 2), .ref (a 3), .ref (a 4), .int n]) hx hb hts in_X0 hown I.2 I.1 0 rfl rfl 1 (by decide) (hts _ q27) (fun _ h9 => h9) rfl hdg kk
theorem so_g0C (hx : pg.tables.exec = Jvm.exec) (hb : c.code = cc) (hts : ∀ w ∈ lw_all, w.before args s = true) (hown : s.vm.findClass RX0 = some m.cls) (I : so_I0 D a d n u P C O s H) (hdg : decode cc pc = .ok (.getfield 17, 3))
    (kk : W pg l e R s m args below meth c H locs cells slots Q (F0 m (pc + 3) ls (.ref (a 3) :: rest))) : W pg l e R s m args below meth c H locs cells slots Q (F0 m pc ls (.ref (a 0) :: rest)) :=
  va_get (D := D) (ci := 0) (v := .ref (a 3)) (C := RX0) (T := TX0) (N := 5) (fs := [.ref (a 1), .ref (a 2), .ref (a 3), .ref (a 4), .int n]) hx hb hts in_X0 hown I.2 I.1 0 rfl rfl 2 (by decide) (hts _ q28) (fun _ h9 => h9) rfl hdg kk
theorem so_g0O (hx : pg.tables.exec = Jvm.exec) (hb : c.code = cc) (hts : ∀ w ∈ lw_all, w.before args s = true) (hown : s.vm.findClass RX0 = some m.cls) (I : so_I0 D a d n u P C O s H) (hdg : decode cc pc = .ok (.getfield 20, 3))
    (kk : W pg l e R s m args below meth c H locs cells slots Q (F0 m (pc + 3) ls (.ref (a 4) :: rest))) : W pg l e R s m args below meth c H locs cells slots Q (F0 m pc ls (.ref (a 0) :: rest)) :=
  va_get (D := D) (ci := 0) (v := .ref (a 4)) (C := RX0) (T := TX0) (N := 5) (fs := [.ref (a 1), .ref (a 2), .ref (a 3), .ref (a 4), .int n]) hx hb hts in_X0 hown I.2 I.1 0 rfl rfl 3 (by decide) (hts _ q29) (fun _ h9 => h9) rfl hdg kk
theorem so_g0N (hx : pg.tables.exec = Jvm.exec) (hb : c.code = cc) (hts : ∀ w ∈ lw_all, w.before args s = true) (hown : s.vm.findClass RX0 = some m.cls) (I : so_I0 D a d n u P C O s H) (hdg : decode cc pc = .ok (.getfield 23, 3))
    (kk : W pg l e R s m args below meth c H locs cells slots Q (F0 m (pc + 3) ls (.int n :: rest))) : W pg l e R s m args below meth c H locs cells slots Q (F0 m pc ls (.ref (a 0) :: rest)) :=
  va_get (D := D) (ci := 0) (v := .int n) (C := RX0) (T := TX0) (N := 5) (fs := [.ref (a 1), .ref (a 2), .ref (a 3), .ref (a 4), .int n]) hx hb hts in_X0 hown I.2 I.1 0 rfl rfl 4 (by decide) (hts _ q30) (fun _ h9 => h9) rfl hdg kk
theorem so_g1P (hx : pg.tables.exec = Jvm.exec) (hb : c.code = cc) (hts : ∀ w ∈ lw_all, w.before args s = true) (hown : s.vm.findClass RX1 = some m.cls) (I : so_I1 D a d u P C O s H) (hdg : decode cc pc = .ok (.getfield 7, 3))
    (kk : W pg l e R s m args below meth c H locs cells slots Q (F0 m (pc + 3) ls (.ref (a 1) :: rest))) : W pg l e R s m args below meth c H locs cells slots Q (F0 m pc ls (.ref (a 0) :: rest)) :=
  va_get (D := D) (ci := 1) (v := .ref (a 1)) (C := RX1) (T := TX1) (N := 3) (fs := [.ref (a 1), .ref (a 2), .ref (a 3)]) hx hb hts in_X1 hown I.2 I.1 0 rfl rfl 0 (by decide) (hts _ q124) (fun _ h9 => h9) rfl hdg kk
theorem so_g1C (hx : pg.tables.exec = Jvm.exec) (hb : c.code = cc) (hts : ∀ w ∈ lw_all, w.before args s = true) (hown : s.vm.findClass RX1 = some m.cls) (I : so_I1 D a d u P C O s H) (hdg : decode cc pc = .ok (.getfield 13, 3))
    (kk : W pg l e R s m args below meth c H locs cells slots Q (F0 m (pc + 3) ls (.ref (a 2) :: rest))) : W pg l e R s m args below meth c H locs cells slots Q (F0 m pc ls (.ref (a 0) :: rest)) :=
  va_get (D := D) (ci := 1) (v := .ref (a 2)) (C := RX1) (T := TX1) (N := 3) (fs := [.ref (a 1), .ref (a 2), .ref (a 3)]) hx hb hts in_X1 hown I.2 I.1 0 rfl rfl 1 (by decide) (hts _ q125) (fun _ h9 => h9) rfl hdg kk
theorem so_g1O (hx : pg.tables.exec = Jvm.exec) (hb : c.code = cc) (hts : ∀ w ∈ lw_all, w.before args s = true) (hown : s.vm.findClass RX1 = some m.cls) (I : so_I1 D a d u P C O s H) (hdg : decode cc pc = .ok (.getfield 16, 3))
    (kk : W pg l e R s m args below meth c H locs cells slots Q (F0 m (pc + 3) ls (.ref (a 3) :: rest))) : W pg l e R s m args below meth c H locs cells slots Q (F0 m pc ls (.ref (a 0) :: rest)) :=
  va_get (D := D) (ci := 1) (v := .ref (a 3)) (C := RX1) (T := TX1) (N := 3) (fs := [.ref (a 1), .ref (a 2), .ref (a 3)]) hx hb hts in_X1 hown I.2 I.1 0 rfl rfl 2 (by decide) (hts _ q126) (fun _ h9 => h9) rfl hdg kk
theorem so_l0U (hx : pg.tables.exec = Jvm.exec) (hb : c.code = cc) (I : so_I0 D a d n u P C O s H) {j : Nat} (hdg : decode cc pc = .ok (.baload, 1)) (hj : j < 10)
    (kk : W pg l e R s m args below meth c H locs cells slots Q (F0 m (pc + 1) ls (.int (so_b (u j)) :: rest))) : W pg l e R s m args below meth c H locs cells slots Q (F0 m pc ls (.int (nI j) :: .ref (a 1) :: rest)) := by
  refine va_zald (f := fun j => so_b (u j)) hx hb I.2 I.1 1 0 rfl rfl (vp_in_nI hj (by omega)) hdg ?_
  rw [nI_clamp (show j < 2 ^ 31 by omega)]
  exact kk
theorem so_l0P (hx : pg.tables.exec = Jvm.exec) (hb : c.code = cc) (I : so_I0 D a d n u P C O s H) {j : Nat} (hdg : decode cc pc = .ok (.iaload, 1)) (hj : j < 10)
    (kk : W pg l e R s m args below meth c H locs cells slots Q (F0 m (pc + 1) ls (.int (nI (P j)) :: rest))) : W pg l e R s m args below meth c H locs cells slots Q (F0 m pc ls (.int (nI j) :: .ref (a 2) :: rest)) := by
  refine va_iald (f := fun j => nI (P j)) hx hb I.2 I.1 2 1 rfl rfl (vp_in_nI hj (by omega)) hdg ?_
  rw [nI_clamp (show j < 2 ^ 31 by omega)]
  exact kk
theorem so_l0C (hx : pg.tables.exec = Jvm.exec) (hb : c.code = cc) (I : so_I0 D a d n u P C O s H) {j : Nat} (hdg : decode cc pc = .ok (.iaload, 1)) (hj : j < 10)
    (kk : W pg l e R s m args below meth c H locs cells slots Q (F0 m (pc + 1) ls (.int (nI (C j)) :: rest))) : W pg l e R s m args below meth c H locs cells slots Q (F0 m pc ls (.int (nI j) :: .ref (a 3) :: rest)) := by
  refine va_iald (f := fun j => nI (C j)) hx hb I.2 I.1 3 2 rfl rfl (vp_in_nI hj (by omega)) hdg ?_
  rw [nI_clamp (show j < 2 ^ 31 by omega)]
  exact kk
theorem so_l0O (hx : pg.tables.exec = Jvm.exec) (hb : c.code = cc) (I : so_I0 D a d n u P C O s H) {j : Nat} (hdg : decode cc pc = .ok (.iaload, 1)) (hj : j < 10)
    (kk : W pg l e R s m args below meth c H locs cells slots Q (F0 m (pc + 1) ls (.int (nI (O j)) :: rest))) : W pg l e R s m args below meth c H locs cells slots Q (F0 m pc ls (.int (nI j) :: .ref (a 4) :: rest)) := by
  refine va_iald (f := fun j => nI (O j)) hx hb I.2 I.1 4 3 rfl rfl (vp_in_nI hj (by omega)) hdg ?_
  rw [nI_clamp (show j < 2 ^ 31 by omega)]
  exact kk
theorem so_l1P (hx : pg.tables.exec = Jvm.exec) (hb : c.code = cc) (I : so_I1 D a d u P C O s H) {j : Nat} (hdg : decode cc pc = .ok (.iaload, 1)) (hj : j < 10)
    (kk : W pg l e R s m args below meth c H locs cells slots Q (F0 m (pc + 1) ls (.int (nI (so_p u P j)) :: rest))) : W pg l e R s m args below meth c H locs cells slots Q (F0 m pc ls (.int (nI j) :: .ref (a 1) :: rest)) := by
  refine va_iald (f := fun j => nI (so_p u P j)) hx hb I.2 I.1 1 0 rfl rfl (vp_in_nI hj (by omega)) hdg ?_
  rw [nI_clamp (show j < 2 ^ 31 by omega)]
  exact kk
theorem so_l1C (hx : pg.tables.exec = Jvm.exec) (hb : c.code = cc) (I : so_I1 D a d u P C O s H) {j : Nat} (hdg : decode cc pc = .ok (.iaload, 1)) (hj : j < 10)
    (kk : W pg l e R s m args below meth c H locs cells slots Q (F0 m (pc + 1) ls (.int (nI (C j)) :: rest))) : W pg l e R s m args below meth c H locs cells slots Q (F0 m pc ls (.int (nI j) :: .ref (a 2) :: rest)) := by
  refine va_iald (f := fun j => nI (C j)) hx hb I.2 I.1 2 1 rfl rfl (vp_in_nI hj (by omega)) hdg ?_
  rw [nI_clamp (show j < 2 ^ 31 by omega)]
  exact kk
theorem so_l1O (hx : pg.tables.exec = Jvm.exec) (hb : c.code = cc) (I : so_I1 D a d u P C O s H) {j : Nat} (hdg : decode cc pc = .ok (.iaload, 1)) (hj : j < 10)
    (kk : W pg l e R s m args below meth c H locs cells slots Q (F0 m (pc + 1) ls (.int (nI (O j)) :: rest))) : W pg l e R s m args below meth c H locs cells slots Q (F0 m pc ls (.int (nI j) :: .ref (a 3) :: rest)) := by
  refine va_iald (f := fun j => nI (O j)) hx hb I.2 I.1 3 2 rfl rfl (vp_in_nI hj (by omega)) hdg ?_
  rw [nI_clamp (show j < 2 ^ 31 by omega)]
  exact kk
theorem so_s0U {A : Nat → Prop} {H0 : Heap} (hx : pg.tables.exec = Jvm.exec) (hb : c.code = cc) (I : so_I0 D a d n u P C O s H) (hD : va_D A (so_V0 a d n u P C O)) (hS : va_S A H0 H locs) {j : Nat} {b : Bool} (hdg : decode cc pc = .ok (.bastore, 1)) (hj : j < 10)
    (kk : ∀ (H1 : Heap) (locs1 : List Loc), so_I0 D a d n (va_up u j b) P C O s H1 → va_D A (so_V0 a d n (va_up u j b) P C O) → va_S A H0 H1 locs1 → W pg l e R s m args below meth c H1 locs1 cells slots Q (F0 m (pc + 1) ls rest)) : W pg l e R s m args below meth c H locs cells slots Q (F0 m pc ls (.int (so_b b) :: .int (nI j) :: .ref (a 1) :: rest)) := by
  refine va_zast (f := fun j => so_b (u j)) hx hb I.2 I.1 hD hS 1 0 rfl rfl (vp_in_nI hj (by omega)) hdg (fun H1 locs1 hP1 hD1 hS1 => ?_)
  rw [nI_clamp (show j < 2 ^ 31 by omega), show vp_nar .boolean (so_b b) = so_b b from by cases b <;> rfl, so_upd_u] at hP1 hD1
  exact kk H1 locs1 ⟨hP1, I.2⟩ hD1 hS1
theorem so_s0P {A : Nat → Prop} {H0 : Heap} (hx : pg.tables.exec = Jvm.exec) (hb : c.code = cc) (I : so_I0 D a d n u P C O s H) (hD : va_D A (so_V0 a d n u P C O)) (hS : va_S A H0 H locs) {j : Nat} {v : Nat} (hdg : decode cc pc = .ok (.iastore, 1)) (hj : j < 10)
    (kk : ∀ (H1 : Heap) (locs1 : List Loc), so_I0 D a d n u (va_up P j v) C O s H1 → va_D A (so_V0 a d n u (va_up P j v) C O) → va_S A H0 H1 locs1 → W pg l e R s m args below meth c H1 locs1 cells slots Q (F0 m (pc + 1) ls rest)) : W pg l e R s m args below meth c H locs cells slots Q (F0 m pc ls (.int (nI v) :: .int (nI j) :: .ref (a 2) :: rest)) := by
  refine va_iast (f := fun j => nI (P j)) hx hb I.2 I.1 hD hS 2 1 rfl rfl (vp_in_nI hj (by omega)) hdg (fun H1 locs1 hP1 hD1 hS1 => ?_)
  rw [nI_clamp (show j < 2 ^ 31 by omega), so_upd_P] at hP1 hD1
  exact kk H1 locs1 ⟨hP1, I.2⟩ hD1 hS1
theorem so_s0C {A : Nat → Prop} {H0 : Heap} (hx : pg.tables.exec = Jvm.exec) (hb : c.code = cc) (I : so_I0 D a d n u P C O s H) (hD : va_D A (so_V0 a d n u P C O)) (hS : va_S A H0 H locs) {j : Nat} {v : Nat} (hdg : decode cc pc = .ok (.iastore, 1)) (hj : j < 10)
    (kk : ∀ (H1 : Heap) (locs1 : List Loc), so_I0 D a d n u P (va_up C j v) O s H1 → va_D A (so_V0 a d n u P (va_up C j v) O) → va_S A H0 H1 locs1 → W pg l e R s m args below meth c H1 locs1 cells slots Q (F0 m (pc + 1) ls rest)) : W pg l e R s m args below meth c H locs cells slots Q (F0 m pc ls (.int (nI v) :: .int (nI j) :: .ref (a 3) :: rest)) := by
  refine va_iast (f := fun j => nI (C j)) hx hb I.2 I.1 hD hS 3 2 rfl rfl (vp_in_nI hj (by omega)) hdg (fun H1 locs1 hP1 hD1 hS1 => ?_)
  rw [nI_clamp (show j < 2 ^ 31 by omega), so_upd_P] at hP1 hD1
  exact kk H1 locs1 ⟨hP1, I.2⟩ hD1 hS1
theorem so_s0O {A : Nat → Prop} {H0 : Heap} (hx : pg.tables.exec = Jvm.exec) (hb : c.code = cc) (I : so_I0 D a d n u P C O s H) (hD : va_D A (so_V0 a d n u P C O)) (hS : va_S A H0 H locs) {j : Nat} {v : Nat} (hdg : decode cc pc = .ok (.iastore, 1)) (hj : j < 10)
    (kk : ∀ (H1 : Heap) (locs1 : List Loc), so_I0 D a d n u P C (va_up O j v) s H1 → va_D A (so_V0 a d n u P C (va_up O j v)) → va_S A H0 H1 locs1 → W pg l e R s m args below meth c H1 locs1 cells slots Q (F0 m (pc + 1) ls rest)) : W pg l e R s m args below meth c H locs cells slots Q (F0 m pc ls (.int (nI v) :: .int (nI j) :: .ref (a 4) :: rest)) := by
  refine va_iast (f := fun j => nI (O j)) hx hb I.2 I.1 hD hS 4 3 rfl rfl (vp_in_nI hj (by omega)) hdg (fun H1 locs1 hP1 hD1 hS1 => ?_)
  rw [nI_clamp (show j < 2 ^ 31 by omega), so_upd_P] at hP1 hD1
  exact kk H1 locs1 ⟨hP1, I.2⟩ hD1 hS1
theorem so_s1C {A : Nat → Prop} {H0 : Heap} (hx : pg.tables.exec = Jvm.exec) (hb : c.code = cc) (I : so_I1 D a d u P C O s H) (hD : va_D A (so_V1 a d u P C O)) (hS : va_S A H0 H locs) {j : Nat} {v : Nat} (hdg : decode cc pc = .ok (.iastore, 1)) (hj : j < 10)
    (kk : ∀ (H1 : Heap) (locs1 : List Loc), so_I1 D a d u P (va_up C j v) O s H1 → va_D A (so_V1 a d u P (va_up C j v) O) → va_S A H0 H1 locs1 → W pg l e R s m args below meth c H1 locs1 cells slots Q (F0 m (pc + 1) ls rest)) : W pg l e R s m args below meth c H locs cells slots Q (F0 m pc ls (.int (nI v) :: .int (nI j) :: .ref (a 2) :: rest)) := by
  refine va_iast (f := fun j => nI (C j)) hx hb I.2 I.1 hD hS 2 1 rfl rfl (vp_in_nI hj (by omega)) hdg (fun H1 locs1 hP1 hD1 hS1 => ?_)
  rw [nI_clamp (show j < 2 ^ 31 by omega), so_upd_P] at hP1 hD1
  exact kk H1 locs1 ⟨hP1, I.2⟩ hD1 hS1
theorem so_s1O {A : Nat → Prop} {H0 : Heap} (hx : pg.tables.exec = Jvm.exec) (hb : c.code = cc) (I : so_I1 D a d u P C O s H) (hD : va_D A (so_V1 a d u P C O)) (hS : va_S A H0 H locs) {j : Nat} {v : Nat} (hdg : decode cc pc = .ok (.iastore, 1)) (hj : j < 10)
    (kk : ∀ (H1 : Heap) (locs1 : List Loc), so_I1 D a d u P C (va_up O j v) s H1 → va_D A (so_V1 a d u P C (va_up O j v)) → va_S A H0 H1 locs1 → W pg l e R s m args below meth c H1 locs1 cells slots Q (F0 m (pc + 1) ls rest)) : W pg l e R s m args below meth c H locs cells slots Q (F0 m pc ls (.int (nI v) :: .int (nI j) :: .ref (a 3) :: rest)) := by
  refine va_iast (f := fun j => nI (O j)) hx hb I.2 I.1 hD hS 3 2 rfl rfl (vp_in_nI hj (by omega)) hdg (fun H1 locs1 hP1 hD1 hS1 => ?_)
  rw [nI_clamp (show j < 2 ^ 31 by omega), so_upd_P] at hP1 hD1
  exact kk H1 locs1 ⟨hP1, I.2⟩ hD1 hS1
theorem so_s1P {A : Nat → Prop} {H0 : Heap} (hx : pg.tables.exec = Jvm.exec) (hb : c.code = cc) (I : so_I1 D a d u P C O s H) (hD : va_D A (so_V1 a d u P C O)) (hS : va_S A H0 H locs) {j : Nat} {v : Nat} (hdg : decode cc pc = .ok (.iastore, 1)) (hj : j < 10)
    (kk : ∀ (H1 : Heap) (locs1 : List Loc), so_I1 D a d (va_up u j true) (va_up P j v) C O s H1 → va_D A (so_V1 a d (va_up u j true) (va_up P j v) C O) → va_S A H0 H1 locs1 → W pg l e R s m args below meth c H1 locs1 cells slots Q (F0 m (pc + 1) ls rest)) : W pg l e R s m args below meth c H locs cells slots Q (F0 m pc ls (.int (nI v) :: .int (nI j) :: .ref (a 1) :: rest)) := by
  refine va_iast (f := fun j => nI (so_p u P j)) hx hb I.2 I.1 hD hS 1 0 rfl rfl (vp_in_nI hj (by omega)) hdg (fun H1 locs1 hP1 hD1 hS1 => ?_)
  rw [nI_clamp (show j < 2 ^ 31 by omega), so_upd_P, so_p_put] at hP1 hD1
  exact kk H1 locs1 ⟨hP1, I.2⟩ hD1 hS1
theorem so_s1Z {A : Nat → Prop} {H0 : Heap} (hx : pg.tables.exec = Jvm.exec) (hb : c.code = cc) (I : so_I1 D a d u P C O s H) (hD : va_D A (so_V1 a d u P C O)) (hS : va_S A H0 H locs) {j : Nat} (hdg : decode cc pc = .ok (.iastore, 1)) (hj : j < 10)
    (kk : ∀ (H1 : Heap) (locs1 : List Loc), so_I1 D a d (va_up u j false) P C O s H1 → va_D A (so_V1 a d (va_up u j false) P C O) → va_S A H0 H1 locs1 → W pg l e R s m args below meth c H1 locs1 cells slots Q (F0 m (pc + 1) ls rest)) : W pg l e R s m args below meth c H locs cells slots Q (F0 m pc ls (.int (nI 0) :: .int (nI j) :: .ref (a 1) :: rest)) := by
  refine va_iast (f := fun j => nI (so_p u P j)) hx hb I.2 I.1 hD hS 1 0 rfl rfl (vp_in_nI hj (by omega)) hdg (fun H1 locs1 hP1 hD1 hS1 => ?_)
  rw [nI_clamp (show j < 2 ^ 31 by omega), so_upd_P, so_p_cut] at hP1 hD1
  exact kk H1 locs1 ⟨hP1, I.2⟩ hD1 hS1
theorem so_s0N {A : Nat → Prop} {H0 : Heap} (hx : pg.tables.exec = Jvm.exec) (hb : c.code = cc) (hts : ∀ w ∈ lw_all, w.before args s = true) (hown : s.vm.findClass RX0 = some m.cls) (I : so_I0 D a d n u P C O s H) (hD : va_D A (so_V0 a d n u P C O)) (hS : va_S A H0 H locs) {v : Int32} (hdg : decode cc pc = .ok (.putfield 23, 3))
    (kk : ∀ (H1 : Heap) (locs1 : List Loc), so_I0 D a d v u P C O s H1 → va_D A (so_V0 a d v u P C O) → va_S A H0 H1 locs1 → W pg l e R s m args below meth c H1 locs1 cells slots Q (F0 m (pc + 3) ls rest)) : W pg l e R s m args below meth c H locs cells slots Q (F0 m pc ls (.int v :: .ref (a 0) :: rest)) :=
  va_put (D := D) (ci := 0) (v := .int v) (ty := .int) (C := RX0) (T := TX0) (N := 5) (fs := [.ref (a 1), .ref (a 2), .ref (a 3), .ref (a 4), .int n]) hx hb hts in_X0 tyX0 tyX0_ok nmX0 hown I.2 I.1 hD hS 0 rfl rfl 4 (by decide) (hts _ q30) (fun _ h9 => h9) rfl (by decide +kernel) rfl rfl (Nat.le_of_ble_eq_true rfl) hdg (fun H1 locs1 hP1 hD1 hS1 => kk H1 locs1 ⟨hP1, I.2⟩ hD1 hS1)
end SOB
section SOC
variable {pg : Program} {l : Launch} {e : Env} {R : Room} {s : State} {m : MethodId} {args : Array Value} {below : List Frame} {meth : Method} {c : Code} {H : Heap} {locs : List Loc} {cells slots : Nat} {Q : State → Prop}
variable {cc bytes : ByteArray} {pc nL maxL index N : Nat} {ls : Array Slot} {rest As st : List Value} {D : va_G} {a : Nat → Nat} {d : Nat → ClassId} {n : Int32} {u : Nat → Bool} {P C O : Nat → Nat}
variable {own CC : String} {y : MethodName} {ret : Option FieldType} {b : Addr} {Bp : State → Prop} {post : Int32 → Prop} {k : Nat}
/-- a call that only reads: through an object -/
theorem so_cV (S : CallFix pg m c cc nL s args lw_all own) (hM : Met l y (ws_ y bytes maxL ret) (so_R k) (va_Pc (.ref b :: As) Bp) (vp_Si post) 0 0 (fun _ => False)) (hp : PreV s H CC b (va_Pc (.ref b :: As) Bp) As)
    (h1 : Cond.methodLink own index y ∈ lw_all) (h2 : Cond.instanceMethod y ∈ lw_all) (h3 : Cond.selects CC y y ∈ lw_all) (h4 : Cond.initialized CC ∈ lw_all) (h5 : Cond.code y bytes maxL ret ∈ lw_all)
    (hd : y.cls = CC ∧ y.cls ≠ "java/lang/invoke/MethodHandle" ∧ y.cls ≠ "java/lang/invoke/VarHandle" ∧ (parseMethodDescriptor y.desc).map (fun d => d.parameters.length) = some N) (hR : k + 1 ≤ R.frames ∧ 8 + (maxL + 11) + 27 * k ≤ R.locals)
    (hn : As.length = N) (hsz : ls.size = nL) (hst : st = As.reverse ++ .ref b :: rest) (hW : (rest.map fun v => v.category).sum ≤ 8) (hf : cells ≤ R.cells ∧ slots ≤ R.slots) (hdg : decode cc pc = .ok (.invokevirtual index, 3))
    (kk : ∀ r : Int32, post r → W pg l e R s m args below meth c H locs cells slots Q (F0 m (pc + 3) ls (.int r :: rest))) : W pg l e R s m args below meth c H locs cells slots Q (F0 m pc ls st) :=
  vp_callSi (W.runV (As := As) (rest := rest) S hM (cwV N S.2.2.2.2 (lw_V h1 h2 h3 h4 h5) rfl rfl rfl hd hR) hp rfl hn hsz hst (lv_room hW) hdg hf) kk
/-- a static call that only reads -/
theorem so_cS (S : CallFix pg m c cc nL s args lw_all own) (hM : Met l y (ws_ y bytes maxL ret) (so_R k) (va_Pc As (fun _ => True)) (vp_Si post) 0 0 (fun _ => False))
    (h1 : Cond.methodLink own index y ∈ lw_all) (h2 : Cond.static y ∈ lw_all) (h3 : Cond.initialized y.cls ∈ lw_all) (h5 : Cond.code y bytes maxL ret ∈ lw_all)
    (hd : y.cls ≠ "java/lang/invoke/MethodHandle" ∧ y.cls ≠ "java/lang/invoke/VarHandle" ∧ (parseMethodDescriptor y.desc).map (fun d => d.parameters.length) = some N) (hR : k + 1 ≤ R.frames ∧ 8 + (maxL + 11) + 27 * k ≤ R.locals)
    (hn : As.length = N) (hsz : ls.size = nL) (hst : st = As.reverse ++ rest) (hW : (rest.map fun v => v.category).sum ≤ 8) (hf : cells ≤ R.cells ∧ slots ≤ R.slots) (hdg : decode cc pc = .ok (.invokestatic index, 3))
    (kk : ∀ r : Int32, post r → W pg l e R s m args below meth c H locs cells slots Q (F0 m (pc + 3) ls (.int r :: rest))) : W pg l e R s m args below meth c H locs cells slots Q (F0 m pc ls st) :=
  vp_callSi (W.runS (As := As) (rest := rest) S hM (va_cwS N S.2.2.2.2 (lw_S h1 h2 h3 h5) rfl rfl rfl hd hR) ⟨fun _ _ _ _ q => q, fun _ _ _ => ⟨rfl, trivial⟩⟩ rfl hn hsz hst (lv_room hW) hdg hf) kk
theorem so_pre0 (I : so_I0 D a d n u P C O s H) : PreV s H RX0 (a 0) (va_Pc (.ref (a 0) :: As) (fun U => so_I0 D a d n u P C O U U.heap)) As :=
  ⟨fun _ U g mk q => ⟨q.1, q.2.1, va_K.moved (u := U) (U := U.calling g mk _) (Vm.Alike.refl U.vm) q.2.2⟩, va_recv I.2 I.1 (ci := 0) (q0 := 0) (q := (RX0, TX0, 5)) rfl rfl, fun U hU hW => ⟨rfl, by rw [hU]; exact I.1, va_K.moved hW.alike I.2⟩⟩
theorem so_pre1 (I : so_I1 D a d u P C O s H) : PreV s H RX1 (a 0) (va_Pc (.ref (a 0) :: As) (fun U => so_I1 D a d u P C O U U.heap)) As :=
  ⟨fun _ U g mk q => ⟨q.1, q.2.1, va_K.moved (u := U) (U := U.calling g mk _) (Vm.Alike.refl U.vm) q.2.2⟩, va_recv I.2 I.1 (ci := 1) (q0 := 0) (q := (RX1, TX1, 3)) rfl rfl, fun U hU hW => ⟨rfl, by rw [hU]; exact I.1, va_K.moved hW.alike I.2⟩⟩
theorem so_preU0 (I : so_I0 D a d n u P C O s H) {A : Nat → Prop} (hD : va_D A (so_V0 a d n u P C O)) : PreV s H RX0 (a 0) (va_Pc (.ref (a 0) :: As) (fun U => U.heap.size = H.size ∧ so_I0 D a d n u P C O U U.heap ∧ va_D (fun _ => True) (so_V0 a d n u P C O))) As :=
  ⟨fun _ U g mk q => ⟨q.1, q.2.1, ⟨q.2.2.1.1, va_K.moved (u := U) (U := U.calling g mk _) (Vm.Alike.refl U.vm) q.2.2.1.2⟩, q.2.2.2⟩, va_recv I.2 I.1 (ci := 0) (q0 := 0) (q := (RX0, TX0, 5)) rfl rfl, fun U hU hW => ⟨rfl, by rw [hU], ⟨by rw [hU]; exact I.1, va_K.moved hW.alike I.2⟩, hD.weaken (fun _ _ _ _ => trivial)⟩⟩
theorem so_preU1 (I : so_I1 D a d u P C O s H) {A : Nat → Prop} (hD : va_D A (so_V1 a d u P C O)) : PreV s H RX1 (a 0) (va_Pc (.ref (a 0) :: As) (fun U => U.heap.size = H.size ∧ so_I1 D a d u P C O U U.heap ∧ va_D (fun _ => True) (so_V1 a d u P C O))) As :=
  ⟨fun _ U g mk q => ⟨q.1, q.2.1, ⟨q.2.2.1.1, va_K.moved (u := U) (U := U.calling g mk _) (Vm.Alike.refl U.vm) q.2.2.1.2⟩, q.2.2.2⟩, va_recv I.2 I.1 (ci := 1) (q0 := 0) (q := (RX1, TX1, 3)) rfl rfl, fun U hU hW => ⟨rfl, by rw [hU], ⟨by rw [hU]; exact I.1, va_K.moved hW.alike I.2⟩, hD.weaken (fun _ _ _ _ => trivial)⟩⟩
/-- a call that changes its own cells -/
theorem so_cU {ws : va_W} {ans : Int32} {Inv : State → Heap → Prop} {ws' : va_W} {A0 : Nat → Prop} {H0 : Heap} (S : CallFix pg m c cc nL s args lw_all own)
    (hM : Met l y (ws_ y bytes maxL ret) (so_R k) (va_Pc (.ref b :: As) Bp) (va_Qi (fun (r : Int32) (_ : Unit) => r = ans) (fun _ t => Inv t t.heap ∧ va_D (va_A ws H.size) ws') (va_A ws H.size)) 0 0 (va_A ws H.size)) (hp : PreV s H CC b (va_Pc (.ref b :: As) Bp) As)
    (hmv : ∀ (t : State) (H1 : Heap), t.heap = H1 → s.vm.Alike t.vm → Inv t t.heap → Inv s H1)
    (h1 : Cond.methodLink own index y ∈ lw_all) (h2 : Cond.instanceMethod y ∈ lw_all) (h3 : Cond.selects CC y y ∈ lw_all) (h4 : Cond.initialized CC ∈ lw_all) (h5 : Cond.code y bytes maxL ret ∈ lw_all)
    (hd : y.cls = CC ∧ y.cls ≠ "java/lang/invoke/MethodHandle" ∧ y.cls ≠ "java/lang/invoke/VarHandle" ∧ (parseMethodDescriptor y.desc).map (fun d => d.parameters.length) = some N) (hR : k + 1 ≤ R.frames ∧ 8 + (maxL + 11) + 27 * k ≤ R.locals)
    (hn : As.length = N) (hsz : ls.size = nL) (hst : st = As.reverse ++ .ref b :: rest) (hW : (rest.map fun v => v.category).sum ≤ 8) (hf : cells ≤ R.cells ∧ slots ≤ R.slots) (hdg : decode cc pc = .ok (.invokevirtual index, 3))
    (hS : va_S A0 H0 H locs) (hF : ∀ q, va_A ws H.size q → A0 q)
    (kk : ∀ (H1 : Heap) (locs1 : List Loc), Inv s H1 → va_D (va_A ws H.size) ws' → (∀ q : Nat, q < H.size → ¬ va_A ws H.size q → H1[q]? = H[q]?) → va_S A0 H0 H1 locs1 → W pg l e R s m args below meth c H1 locs1 cells slots Q (F0 m (pc + 3) ls (.int ans :: rest))) : W pg l e R s m args below meth c H locs cells slots Q (F0 m pc ls st) :=
  va_calli (va_runV (As := As) (rest := rest) S hM (cwV N S.2.2.2.2 (lw_V h1 h2 h3 h4 h5) rfl rfl rfl hd hR) hp rfl hn hsz hst (lv_room hW) hdg hf) hS (fun q _ h => hF q h) hF (fun r _ t H1 locs1 ht hvm hw hB hz hk hS1 => by
    subst hw
    exact kk H1 locs1 (hmv t H1 ht hvm hB.1) hB.2 hk hS1)
theorem so_mv0 (t : State) (H1 : Heap) (ht : t.heap = H1) (hvm : s.vm.Alike t.vm) (h : so_I0 D a d n u P C O t t.heap) : so_I0 D a d n u P C O s H1 := ⟨ht ▸ h.1, va_K.moved hvm.symm h.2⟩
theorem so_mv1 (t : State) (H1 : Heap) (ht : t.heap = H1) (hvm : s.vm.Alike t.vm) (h : so_I1 D a d u P C O t t.heap) : so_I1 D a d u P C O s H1 := ⟨ht ▸ h.1, va_K.moved hvm.symm h.2⟩
end SOC
section SOD
variable {l : Launch} {y : MethodName} {cc : ByteArray} {maxL k : Nat} {av : List Value} {Bp : State → Prop} {post : Int32 → Prop}
/-- the contract of a method that only reads, with an int answer -/
theorem so_metI (hy : plainName y.cls = true) (hmx : (lg_sl av).length ≤ maxL)
    (body : ∀ (pg : Program) (e : Env) (s : State) (m : MethodId) (below : List Frame) (meth : Method) (c : Code) (Q : State → Prop), pg.tables.exec = Jvm.exec → c.code = cc → c.maxLocals = maxL → s.vm.findClass y.cls = some m.cls → (∀ w ∈ lw_all, w.before av.toArray s = true) → Bp s →
      (∀ (v : Int32) (pc : Nat) (ls : Array Slot), post v → decode cc pc = .ok (.ireturn, 1) → W pg l e (so_R k) s m av.toArray below meth c s.heap [] 0 0 Q (F0 m pc ls [.int v])) →
      ∀ ls : Array Slot, lv_has ls maxL (lv_args 0 av) → W pg l e (so_R k) s m av.toArray below meth c s.heap [] 0 0 Q (F0 m 0 ls [])) :
    Met l y (ws_ y cc maxL (some .int)) (so_R k) (va_Pc av Bp) (vp_Si post) 0 0 (fun _ => False) := by
  refine Met.ofW (cc := cc) (maxL := maxL) (ret := some .int) hy rfl ?_
  intro pg e s m args below meth c s₁ B hml hv
  obtain ⟨rfl, hB⟩ := hv
  have hts := atoms_spec (ws := ws_ y cc maxL (some .int)) B.pre
  have hts : ∀ w ∈ lw_all, w.before _ s = true := fun w h => hts w (List.mem_cons_of_mem _ h)
  have hr := B.returns
  have hlocks := B.notSynchronized
  rw [lg_entry_eq]
  refine body pg e s m below meth c _ B.exec B.bytes hml (findClass_of_methodNamed B.named) hts hB (fun v pc ls hp hd => ?_) _ (lv_entry av hmx)
  exact W.iret (v := v) B.exec B.bytes hr (fun t ht hW => ⟨v, rfl, hp, ht⟩) (fun q h => by cases h) hd
/-- the same with a boolean answer -/
theorem so_metZ (hy : plainName y.cls = true) (hmx : (lg_sl av).length ≤ maxL)
    (body : ∀ (pg : Program) (e : Env) (s : State) (m : MethodId) (below : List Frame) (meth : Method) (c : Code) (Q : State → Prop), pg.tables.exec = Jvm.exec → c.code = cc → c.maxLocals = maxL → s.vm.findClass y.cls = some m.cls → (∀ w ∈ lw_all, w.before av.toArray s = true) → Bp s →
      (∀ (v : Bool) (pc : Nat) (ls : Array Slot), post (so_b v) → decode cc pc = .ok (.ireturn, 1) → W pg l e (so_R k) s m av.toArray below meth c s.heap [] 0 0 Q (F0 m pc ls [.int (so_b v)])) →
      ∀ ls : Array Slot, lv_has ls maxL (lv_args 0 av) → W pg l e (so_R k) s m av.toArray below meth c s.heap [] 0 0 Q (F0 m 0 ls [])) :
    Met l y (ws_ y cc maxL (some .boolean)) (so_R k) (va_Pc av Bp) (vp_Si post) 0 0 (fun _ => False) := by
  refine Met.ofW (cc := cc) (maxL := maxL) (ret := some .boolean) hy rfl ?_
  intro pg e s m args below meth c s₁ B hml hv
  obtain ⟨rfl, hB⟩ := hv
  have hts := atoms_spec (ws := ws_ y cc maxL (some .boolean)) B.pre
  have hts : ∀ w ∈ lw_all, w.before _ s = true := fun w h => hts w (List.mem_cons_of_mem _ h)
  have hr := B.returns
  have hlocks := B.notSynchronized
  rw [lg_entry_eq]
  refine body pg e s m below meth c _ B.exec B.bytes hml (findClass_of_methodNamed B.named) hts hB (fun v pc ls hp hd => ?_) _ (lv_entry av hmx)
  exact W.zret (v := so_b v) B.exec B.bytes hr (by cases v <;> rfl) (fun t ht hW => ⟨so_b v, rfl, hp, ht⟩) (fun q h => by cases h) hd
/-- the contract of a method that changes its own cells ws to ws', with an int answer -/
theorem so_metU {sz : Nat} {ws ws' : va_W} {Inv Inv' : State → Heap → Prop} {ans : Int32} (hmv : ∀ (u U : State) (H : Heap), u.vm.Alike U.vm → Inv' u H → Inv' U H) (hy : plainName y.cls = true) (hmx : (lg_sl av).length ≤ maxL)
    (body : ∀ (pg : Program) (e : Env) (s : State) (m : MethodId) (below : List Frame) (meth : Method) (c : Code) (Q : State → Prop) (A : Nat → Prop), pg.tables.exec = Jvm.exec → c.code = cc → c.maxLocals = maxL → s.vm.findClass y.cls = some m.cls → (∀ w ∈ lw_all, w.before av.toArray s = true) → Inv s s.heap → va_D A ws → A = va_A ws s.heap.size →
      (∀ (H : Heap) (locs : List Loc) (v : Int32) (pc : Nat) (ls : Array Slot), v = ans → Inv' s H → va_D A ws' → va_S A s.heap H locs → decode cc pc = .ok (.ireturn, 1) → W pg l e (so_R k) s m av.toArray below meth c H locs 0 0 Q (F0 m pc ls [.int v])) →
      ∀ ls : Array Slot, lv_has ls maxL (lv_args 0 av) → W pg l e (so_R k) s m av.toArray below meth c s.heap [] 0 0 Q (F0 m 0 ls [])) :
    Met l y (ws_ y cc maxL (some .int)) (so_R k) (va_Pc av (fun U => U.heap.size = sz ∧ Inv U U.heap ∧ va_D (fun _ => True) ws)) (va_Qi (fun (r : Int32) (_ : Unit) => r = ans) (fun _ t => Inv' t t.heap ∧ va_D (va_A ws sz) ws') (va_A ws sz)) 0 0 (va_A ws sz) := by
  refine Met.ofW (cc := cc) (maxL := maxL) (ret := some .int) hy rfl ?_
  intro pg e s m args below meth c s₁ B hml hv
  obtain ⟨rfl, hsz, hI, hD0⟩ := hv
  have hts := atoms_spec (ws := ws_ y cc maxL (some .int)) B.pre
  have hts : ∀ w ∈ lw_all, w.before _ s = true := fun w h => hts w (List.mem_cons_of_mem _ h)
  have hr := B.returns
  have hlocks := B.notSynchronized
  subst hsz
  have hD := hD0.self (sz := s.heap.size)
  rw [lg_entry_eq]
  refine body pg e s m below meth c _ (va_A ws s.heap.size) B.exec B.bytes hml (findClass_of_methodNamed B.named) hts hI hD rfl (fun H locs v pc ls hv hI2 hD2 hS hd => ?_) _ (lv_entry av hmx)
  exact W.iret (v := v) B.exec B.bytes hr (fun t ht hW => ⟨⟨v, (), rfl, hv, by rw [ht]; exact hmv s t H hW.alike hI2, hD2⟩, hS.F ht⟩) hS.2.2 hd
theorem so_mvI0 {D : va_G} {a : Nat → Nat} {d : Nat → ClassId} {n : Int32} {u : Nat → Bool} {P C O : Nat → Nat} (w U : State) (H : Heap) (h : w.vm.Alike U.vm) (I : so_I0 D a d n u P C O w H) : so_I0 D a d n u P C O U H := ⟨I.1, va_K.moved h I.2⟩
theorem so_mvI1 {D : va_G} {a : Nat → Nat} {d : Nat → ClassId} {u : Nat → Bool} {P C O : Nat → Nat} (w U : State) (H : Heap) (h : w.vm.Alike U.vm) (I : so_I1 D a d u P C O w H) : so_I1 D a d u P C O U H := ⟨I.1, va_K.moved h I.2⟩
end SOD
end
section
/-! ===== small facts that the walks use ===== -/
theorem so_bt_0 {x : Int32} (h1 : ¬ x < 0) (h2 : x ≤ 1000000000) : so_b false = so_b (so_bt x) := by
  have h3 : ¬ 1000000000 < x := by rw [Int32.lt_iff_toInt_lt]; rw [Int32.le_iff_toInt_le] at h2; omega
  simp only [so_bt, h1, h3, decide_false, Bool.false_or]
theorem so_bt_1 {x : Int32} (h : x < 0) : so_b true = so_b (so_bt x) := by simp only [so_bt, h, decide_true, Bool.true_or]
theorem so_bt_2 {x : Int32} (h : ¬ x ≤ 1000000000) : so_b true = so_b (so_bt x) := by
  have h3 : 1000000000 < x := by rw [Int32.lt_iff_toInt_lt]; rw [Int32.le_iff_toInt_le] at h; omega
  simp only [so_bt, h3, decide_true, Bool.or_true]
theorem so_bp_1 {x : Int32} (h : x < 2) : so_b true = so_b (so_bp x) := by simp only [so_bp, h, decide_true, Bool.true_or]
theorem so_bp_2 {x : Int32} (h : 360 < x) : so_b true = so_b (so_bp x) := by simp only [so_bp, h, decide_true, Bool.true_or, Bool.or_true]
theorem so_bp_3 {p : Nat} (h1 : 2 ≤ p) (h2 : p ≤ 360) (h : 0 < 360 % p) : so_b true = so_b (so_bp (nI p)) := by
  rw [so_bp_nI h1 h2, decide_eq_false (by omega)]; rfl
theorem so_bp_4 {p : Nat} (h1 : 2 ≤ p) (h2 : p ≤ 360) (h : 360 % p = 0) : so_b false = so_b (so_bp (nI p)) := by
  rw [so_bp_nI h1 h2, decide_eq_true h]; rfl
theorem so_bp_r {x : Int32} (h1 : ¬ x < 2) (h2 : ¬ 360 < x) : ∃ p : Nat, x = nI p ∧ 2 ≤ p ∧ p ≤ 360 := by
  obtain ⟨j, hj, rfl, hk⟩ := so_rng (n := 360) 2 so_toInt360 (by rw [so_toInt2]; omega) h1 h2
  rw [so_toInt2] at hk
  exact ⟨j, rfl, by omega, hj⟩
theorem so_bp_r2 {x : Int32} (h1 : ¬ x < 2) (h2 : x ≤ 360) : ∃ p : Nat, x = nI p ∧ 2 ≤ p ∧ p ≤ 360 := so_bp_r h1 (by rw [Int32.lt_iff_toInt_lt]; rw [Int32.le_iff_toInt_le] at h2; omega)
theorem so_bp_5 {x : Int32} (h : ¬ x ≤ 360) : so_b true = so_b (so_bp x) := so_bp_2 (by rw [Int32.lt_iff_toInt_lt]; rw [Int32.le_iff_toInt_le] at h; omega)
theorem so_nj_1 {u : Nat → Bool} {x : Int32} (h : x < 0) : so_b true = so_b (so_nj u x) := by simp only [so_nj, h, decide_true, Bool.true_or]
theorem so_nj_2 {u : Nat → Bool} {x : Int32} (h : 10 ≤ x) : so_b true = so_b (so_nj u x) := by simp only [so_nj, h, decide_true, Bool.true_or, Bool.or_true]
theorem so_nj_3 {u : Nat → Bool} {x : Int32} (h : 9 < x) : so_b true = so_b (so_nj u x) := so_nj_2 (by
  rw [Int32.lt_iff_toInt_lt, show (9 : Int32).toInt = 9 from by decide +kernel] at h
  rw [Int32.le_iff_toInt_le, so_toInt10]; omega)
theorem so_nj_r {x : Int32} (h1 : ¬ x < 0) (h2 : ¬ 10 ≤ x) : ∃ j : Nat, x = nI j ∧ j < 10 := by
  obtain ⟨j, hj, rfl⟩ := nI_of h1
  rw [Int32.le_iff_toInt_le, so_toInt10, nI_toInt hj] at h2
  exact ⟨j, rfl, by omega⟩
theorem so_nj_r3 {x : Int32} (h1 : ¬ x < 0) (h2 : ¬ 9 < x) : ∃ j : Nat, x = nI j ∧ j < 10 := so_nj_r h1 (by
  rw [Int32.lt_iff_toInt_lt, show (9 : Int32).toInt = 9 from by decide +kernel] at h2
  rw [Int32.le_iff_toInt_le, so_toInt10]; omega)
theorem so_nj_t {u : Nat → Bool} {j : Nat} (hj : j < 10) (h : u j = true) : so_b false = so_b (so_nj u (nI j)) := by rw [so_nj_nI hj, h]; rfl
theorem so_nj_n {u : Nat → Bool} {j : Nat} (hj : j < 10) (h : u j = false) : so_b true = so_b (so_nj u (nI j)) := by rw [so_nj_nI hj, h]; rfl
theorem so_rb_le {P C O : Nat → Nat} {p o j : Nat} (hp : 0 < p) : so_rb P C O p o j ≤ p := by
  have := so_gle (q := P j) hp
  unfold so_rb
  split <;> omega
theorem so_rm_0 {u : Nat → Bool} {f : Nat → Nat} {p i : Nat} (hi : i ≤ 10) (h : so_rm u f p i = 0) : so_rm u f p 10 = 0 := by
  have := so_rm_step u f p i (10 - i)
  rw [show i + (10 - i) = 10 by omega] at this
  omega
theorem so_rm_f {u : Nat → Bool} {f : Nat → Nat} {p i : Nat} (h : u i = false) : so_rm u f p (i + 1) = so_rm u f p i := by simp only [so_rm, h, Bool.false_eq_true, if_false]
theorem so_rm_k {u : Nat → Bool} {f : Nat → Nat} {p i : Nat} (h : u i = true) (h2 : so_rm u f p i ≤ f i) : so_rm u f p (i + 1) = so_rm u f p i := by simp only [so_rm, h, if_true, if_neg (show ¬ f i < so_rm u f p i by omega)]
theorem so_rm_l {u : Nat → Bool} {f : Nat → Nat} {p i : Nat} (h : u i = true) (h2 : f i < so_rm u f p i) : so_rm u f p (i + 1) = f i := by simp only [so_rm, h, if_true, if_pos h2]
theorem so_find_t {f : Nat → Bool} {k i : Nat} (h : f i = true) : so_find f (k + 1) i = nI i := by simp only [so_find, h, if_true]
theorem so_find_f {f : Nat → Bool} {k i : Nat} (h : f i = false) : so_find f (k + 1) i = so_find f k (i + 1) := by simp only [so_find, h, Bool.false_eq_true, if_false]
theorem so_run_u {u : Nat → Bool} {P C O : Nat → Nat} {j t : Nat} (h : u j = false) : so_run u P C O j t = false := by simp only [so_run, h, Bool.false_and]
theorem so_run_o {u : Nat → Bool} {P C O : Nat → Nat} {j t : Nat} (h : t < O j) : so_run u P C O j t = false := by simp only [so_run, decide_eq_false (show ¬ O j ≤ t by omega), Bool.false_and, Bool.and_false]
theorem so_run_c {u : Nat → Bool} {P C O : Nat → Nat} {j t : Nat} (h : C j ≤ (t - O j) % P j) : so_run u P C O j t = false := by simp only [so_run, decide_eq_false (show ¬ (t - O j) % P j < C j by omega), Bool.and_false]
theorem so_run_t {u : Nat → Bool} {P C O : Nat → Nat} {j t : Nat} (h1 : u j = true) (h2 : O j ≤ t) (h3 : (t - O j) % P j < C j) : so_run u P C O j t = true := by simp only [so_run, h1, decide_eq_true h2, decide_eq_true h3, Bool.and_self]
theorem so_aRun_v {u : Nat → Bool} {P C O : Nat → Nat} {t : Nat} (h : t ≤ 1000000000) : so_aRun u P C O (nI t) = so_find (fun j => so_run u P C O j t) 10 0 := by
  simp only [so_aRun, so_bt_nI h, Bool.false_eq_true, if_false, nI_clamp (show t < 2 ^ 31 by omega)]
theorem so_rn_0 {P C O : Nat → Nat} {j t : Nat} (h : t ≤ O j) : so_rn P C O j t = 0 := by
  simp [so_rn, Nat.sub_eq_zero_of_le h]
theorem so_fs_f {u : Nat → Bool} {f : Nat → Int32} {acc : Int32} {i : Nat} (h : u i = false) : so_fs u f acc (i + 1) = so_fs u f acc i := by simp only [so_fs, h, Bool.false_eq_true, if_false]
theorem so_fs_t {u : Nat → Bool} {f : Nat → Int32} {acc : Int32} {i : Nat} (h : u i = true) : so_fs u f acc (i + 1) = so_fs u f acc i - f i := by simp only [so_fs, h, if_true]
theorem so_aFree_v {u : Nat → Bool} {P C O : Nat → Nat} {t v : Nat} (h1 : t ≤ 1000000000) (h2 : v ≤ 1000000000) (h : t ≤ v) : so_aFree u P C O (nI t) (nI v) = so_fs u (fun j => nI (so_rn P C O j (v + 1)) - nI (so_rn P C O j t)) (nI v - nI t + 1) 10 := by
  simp only [so_aFree, so_bt_nI h1, so_bt_nI h2, Bool.false_eq_true, if_false, nI_clamp (show t < 2 ^ 31 by omega), nI_clamp (show v < 2 ^ 31 by omega), if_neg (nI_nlt h (by omega))]
theorem so_aFree_0 {u : Nat → Bool} {P C O : Nat → Nat} {t v : Nat} (h1 : t ≤ 1000000000) (h2 : v ≤ 1000000000) (h : v < t) : nI 0 = so_aFree u P C O (nI t) (nI v) := by
  simp only [so_aFree, so_bt_nI h1, so_bt_nI h2, Bool.false_eq_true, if_false, if_pos (nI_lt h (show t < 2 ^ 31 by omega))]
  rfl
theorem so_aSt_v {u : Nat → Bool} {P O : Nat → Nat} {j t v : Nat} (hj : j < 10) (hu : u j = true) (h1 : t ≤ 1000000000) (h2 : v ≤ 1000000000) (h : t ≤ v) : so_aSt u P O (nI j) (nI t) (nI v) = nI (so_bg P O j (v + 1)) - nI (so_bg P O j t) := by
  simp only [so_aSt, so_nj_nI hj, hu, Bool.not_true, so_bt_nI h1, so_bt_nI h2, Bool.false_eq_true, if_false, nI_clamp (show t < 2 ^ 31 by omega), nI_clamp (show v < 2 ^ 31 by omega), nI_clamp (show j < 2 ^ 31 by omega), if_neg (nI_nlt h (by omega))]
theorem so_aSt_0 {u : Nat → Bool} {P O : Nat → Nat} {j t v : Nat} (hj : j < 10) (hu : u j = true) (h1 : t ≤ 1000000000) (h2 : v ≤ 1000000000) (h : v < t) : nI 0 = so_aSt u P O (nI j) (nI t) (nI v) := by
  simp only [so_aSt, so_nj_nI hj, hu, Bool.not_true, so_bt_nI h1, so_bt_nI h2, Bool.false_eq_true, if_false, if_pos (nI_lt h (show t < 2 ^ 31 by omega))]
  rfl
theorem so_bg_le {P O : Nat → Nat} {j t : Nat} : so_bg P O j t ≤ t := by
  unfold so_bg
  split
  · omega
  · have := Nat.div_le_self (t - O j - 1) (P j)
    omega
theorem so_aNext_v {u : Nat → Bool} {P O : Nat → Nat} {t : Nat} (h : t ≤ 1000000000) : so_aNext u P O (nI t) = so_an (so_nm u (so_nx P O t) 10) := by
  simp only [so_aNext, so_bt_nI h, Bool.false_eq_true, if_false, nI_clamp (show t < 2 ^ 31 by omega)]
theorem so_nm_f {u : Nat → Bool} {f : Nat → Nat} {i : Nat} (h : u i = false) : so_nm u f (i + 1) = so_nm u f i := by simp only [so_nm, h, Bool.false_eq_true, if_false]
theorem so_nm_t {u : Nat → Bool} {f : Nat → Nat} {i : Nat} (h : u i = true) : so_nm u f (i + 1) = so_nm1 (f i) (so_nm u f i) := by simp only [so_nm, h, if_true]
theorem so_nm_lt {u : Nat → Bool} {P C O : Nat → Nat} (ok : so_ok u P C O) {t i z : Nat} (ht : t ≤ 1000000000) (hi : i ≤ 10) (h : so_nm u (so_nx P O t) i = some z) : z < 1000000720 := by
  obtain ⟨⟨j, hj, hu, rfl⟩, -⟩ := (so_nm_spec u (so_nx P O t) i).2 z h
  obtain ⟨a1, a2, a3, a4, a5, a6⟩ := ok j (by omega) hu
  exact so_nx_lt (by omega) a2 a6 ht
theorem so_aRoom_v {u : Nat → Bool} {P C O : Nat → Nat} {p : Nat} (h1 : 2 ≤ p) (h2 : p ≤ 360) (h3 : 360 % p = 0) : so_aRoom u P C O (nI p) = nI (so_mx (so_ra u P C O p) p) := by
  simp only [so_aRoom, so_bp_nI h1 h2, decide_eq_true h3, Bool.not_true, Bool.false_eq_true, if_false, nI_clamp (show p < 2 ^ 31 by omega)]
theorem so_mx_k {f : Nat → Nat} {i : Nat} (h : f i ≤ so_mx f i) : so_mx f (i + 1) = so_mx f i := by simp only [so_mx, if_neg (show ¬ so_mx f i < f i by omega)]
theorem so_mx_l {f : Nat → Nat} {i : Nat} (h : so_mx f i < f i) : so_mx f (i + 1) = f i := by simp only [so_mx, if_pos h]
theorem so_ld_f {u : Nat → Bool} {P C : Nat → Nat} {i : Nat} (h : u i = false) : so_ld u P C (i + 1) = so_ld u P C i := by simp only [so_ld, h, Bool.false_eq_true, if_false]
theorem so_ld_t {u : Nat → Bool} {P C : Nat → Nat} {i : Nat} (h : u i = true) : so_ld u P C (i + 1) = so_ld u P C i + 360 / P i * C i := by simp only [so_ld, h, if_true]
theorem so_p_t {u : Nat → Bool} {P : Nat → Nat} {j : Nat} (h : u j = true) : so_p u P j = P j := if_pos h
theorem so_p_f {u : Nat → Bool} {P : Nat → Nat} {j : Nat} (h : u j = false) : so_p u P j = 0 := if_neg (by rw [h]; exact Bool.false_ne_true)
theorem so_p_le {u : Nat → Bool} {P C O : Nat → Nat} (ok : so_ok u P C O) {j : Nat} (hj : j < 10) : so_p u P j ≤ 360 := by
  cases hu : u j with
  | false => rw [so_p_f hu]; omega
  | true => rw [so_p_t hu]; exact (ok j hj hu).2.1
theorem so_p_0 {u : Nat → Bool} {P C O : Nat → Nat} (ok : so_ok u P C O) {j : Nat} (hj : j < 10) (h : so_p u P j = 0) : u j = false := by
  cases hu : u j with
  | false => rfl
  | true => rw [so_p_t hu] at h; have := (ok j hj hu).1; omega
theorem so_p_1 {u : Nat → Bool} {P : Nat → Nat} {j : Nat} (h : 0 < so_p u P j) : u j = true := by
  cases hu : u j with
  | false => rw [so_p_f hu] at h; omega
  | true => rfl
theorem so_fo_t {f : Nat → Nat} {c k i : Nat} (h : c ≤ f i) : so_fo f c (k + 1) i = some i := by simp only [so_fo, if_pos h]
theorem so_fo_f {f : Nat → Nat} {c k i : Nat} (h : f i < c) : so_fo f c (k + 1) i = so_fo f c k (i + 1) := by simp only [so_fo, if_neg (show ¬ c ≤ f i by omega)]
theorem so_fk_t {u : Nat → Bool} {k i : Nat} (h : u i = true) : so_fk u (k + 1) i = so_fk u k (i + 1) := by simp only [so_fk, h, if_true]
theorem so_fk_f {u : Nat → Bool} {k i : Nat} (h : u i = false) : so_fk u (k + 1) i = i := by simp only [so_fk, h, Bool.false_eq_true, if_false]
/-! the decisions, case by case -/
theorem so_dAdm_1 {u : Nat → Bool} {P C O : Nat → Nat} {x y : Int32} (h : so_bp x = true) : so_dAdm u P C O x y = .inl (-1) := by simp only [so_dAdm, h, if_true]
theorem so_bp_v {p : Nat} (h1 : 2 ≤ p) (h2 : p ≤ 360) (h3 : 360 % p = 0) : so_bp (nI p) = false := by rw [so_bp_nI h1 h2, decide_eq_true h3]; rfl
theorem so_dAdm_2 {u : Nat → Bool} {P C O : Nat → Nat} {p : Nat} {y : Int32} (hb : so_bp (nI p) = false) (h : y < 1) : so_dAdm u P C O (nI p) y = .inl (-2) := by simp only [so_dAdm, hb, Bool.false_eq_true, if_false, if_pos h]
theorem so_dAdm_3 {u : Nat → Bool} {P C O : Nat → Nat} {p : Nat} {y : Int32} (hb : so_bp (nI p) = false) (h0 : ¬ y < 1) (h : ¬ y ≤ nI p) : so_dAdm u P C O (nI p) y = .inl (-2) := by
  have h2 : nI p < y := by rw [Int32.lt_iff_toInt_lt]; rw [Int32.le_iff_toInt_le] at h; omega
  simp only [so_dAdm, hb, Bool.false_eq_true, if_false, if_neg h0, if_pos h2]
theorem so_yle {p : Nat} {y : Int32} (hp : p ≤ 360) (h1 : ¬ y < 1) (h2 : y ≤ nI p) : ∃ c : Nat, y = nI c ∧ 1 ≤ c ∧ c ≤ p := so_y hp h1 (by rw [Int32.lt_iff_toInt_lt]; rw [Int32.le_iff_toInt_le] at h2; omega)
theorem so_n1 {q : Nat} (h1 : 1 ≤ q) (h : q < 2 ^ 31) : ¬ nI q < 1 := by rw [Int32.lt_iff_toInt_lt, so_toInt1, nI_toInt h]; omega
theorem so_dAdm_4 {u : Nat → Bool} {P C O : Nat → Nat} {p q : Nat} (hb : so_bp (nI p) = false) (hp : p ≤ 360) (h1 : 1 ≤ q) (h2 : q ≤ p) (h : 10 ≤ fb_ct u 10) : so_dAdm u P C O (nI p) (nI q) = .inl (-4) := by
  simp only [so_dAdm, hb, Bool.false_eq_true, if_false, if_neg (so_n1 h1 (show q < 2 ^ 31 by omega)), if_neg (nI_nlt h2 (show p < 2 ^ 31 by omega)), if_pos h]
theorem so_dAdm_5 {u : Nat → Bool} {P C O : Nat → Nat} {p q : Nat} (hb : so_bp (nI p) = false) (hp : p ≤ 360) (h1 : 1 ≤ q) (h2 : q ≤ p) (h : fb_ct u 10 < 10) : so_dAdm u P C O (nI p) (nI q) = so_oE p q (so_fo (so_ra u P C O p) q p 0) := by
  simp only [so_dAdm, hb, Bool.false_eq_true, if_false, if_neg (so_n1 h1 (show q < 2 ^ 31 by omega)), if_neg (nI_nlt h2 (show p < 2 ^ 31 by omega)), if_neg (show ¬ 10 ≤ fb_ct u 10 by omega), nI_clamp (show p < 2 ^ 31 by omega), nI_clamp (show q < 2 ^ 31 by omega)]
theorem so_dAt_1 {u : Nat → Bool} {P C O : Nat → Nat} {x y z : Int32} (h : so_bp x = true) : so_dAt u P C O x y z = .inl (-1) := by simp only [so_dAt, h, if_true]
theorem so_dAt_2 {u : Nat → Bool} {P C O : Nat → Nat} {p : Nat} {y z : Int32} (hb : so_bp (nI p) = false) (h : y < 1) : so_dAt u P C O (nI p) y z = .inl (-2) := by simp only [so_dAt, hb, Bool.false_eq_true, if_false, if_pos h]
theorem so_dAt_3 {u : Nat → Bool} {P C O : Nat → Nat} {p : Nat} {y z : Int32} (hb : so_bp (nI p) = false) (h0 : ¬ y < 1) (h : ¬ y ≤ nI p) : so_dAt u P C O (nI p) y z = .inl (-2) := by
  have h2 : nI p < y := by rw [Int32.lt_iff_toInt_lt]; rw [Int32.le_iff_toInt_le] at h; omega
  simp only [so_dAt, hb, Bool.false_eq_true, if_false, if_neg h0, if_pos h2]
theorem so_dAt_4 {u : Nat → Bool} {P C O : Nat → Nat} {p q : Nat} {z : Int32} (hb : so_bp (nI p) = false) (hp : p ≤ 360) (h1 : 1 ≤ q) (h2 : q ≤ p) (h : z < 0) : so_dAt u P C O (nI p) (nI q) z = .inl (-3) := by
  simp only [so_dAt, hb, Bool.false_eq_true, if_false, if_neg (so_n1 h1 (show q < 2 ^ 31 by omega)), if_neg (nI_nlt h2 (show p < 2 ^ 31 by omega)), if_pos h]
theorem so_dAt_5 {u : Nat → Bool} {P C O : Nat → Nat} {p q : Nat} {z : Int32} (hb : so_bp (nI p) = false) (hp : p ≤ 360) (h1 : 1 ≤ q) (h2 : q ≤ p) (h0 : ¬ z < 0) (h : ¬ z < nI p) : so_dAt u P C O (nI p) (nI q) z = .inl (-3) := by
  have h3 : nI p ≤ z := by rw [Int32.le_iff_toInt_le]; rw [Int32.lt_iff_toInt_lt] at h; omega
  simp only [so_dAt, hb, Bool.false_eq_true, if_false, if_neg (so_n1 h1 (show q < 2 ^ 31 by omega)), if_neg (nI_nlt h2 (show p < 2 ^ 31 by omega)), if_neg h0, if_pos h3]
theorem so_zlt {p : Nat} {z : Int32} (hp : p ≤ 360) (h1 : ¬ z < 0) (h2 : z < nI p) : ∃ o : Nat, z = nI o ∧ o < p := so_z hp h1 (by rw [Int32.le_iff_toInt_le]; rw [Int32.lt_iff_toInt_lt] at h2; omega)
theorem so_dAt_6 {u : Nat → Bool} {P C O : Nat → Nat} {p q o : Nat} (hb : so_bp (nI p) = false) (hp : p ≤ 360) (h1 : 1 ≤ q) (h2 : q ≤ p) (h3 : o < p) (h : 10 ≤ fb_ct u 10) : so_dAt u P C O (nI p) (nI q) (nI o) = .inl (-4) := by
  simp only [so_dAt, hb, Bool.false_eq_true, if_false, if_neg (so_n1 h1 (show q < 2 ^ 31 by omega)), if_neg (nI_nlt h2 (show p < 2 ^ 31 by omega)), if_neg (nI_pos (show o < 2 ^ 31 by omega)), if_neg (nI_ge h3 (show p < 2 ^ 31 by omega)), if_pos h]
theorem so_dAt_7 {u : Nat → Bool} {P C O : Nat → Nat} {p q o : Nat} (hb : so_bp (nI p) = false) (hp : p ≤ 360) (h1 : 1 ≤ q) (h2 : q ≤ p) (h3 : o < p) (h4 : fb_ct u 10 < 10) (h : so_ra u P C O p o < q) : so_dAt u P C O (nI p) (nI q) (nI o) = .inl (-5) := by
  simp only [so_dAt, hb, Bool.false_eq_true, if_false, if_neg (so_n1 h1 (show q < 2 ^ 31 by omega)), if_neg (nI_nlt h2 (show p < 2 ^ 31 by omega)), if_neg (nI_pos (show o < 2 ^ 31 by omega)), if_neg (nI_ge h3 (show p < 2 ^ 31 by omega)), if_neg (show ¬ 10 ≤ fb_ct u 10 by omega), nI_clamp (show p < 2 ^ 31 by omega), nI_clamp (show q < 2 ^ 31 by omega), nI_clamp (show o < 2 ^ 31 by omega), if_pos h]
theorem so_dAt_8 {u : Nat → Bool} {P C O : Nat → Nat} {p q o : Nat} (hb : so_bp (nI p) = false) (hp : p ≤ 360) (h1 : 1 ≤ q) (h2 : q ≤ p) (h3 : o < p) (h4 : fb_ct u 10 < 10) (h : q ≤ so_ra u P C O p o) : so_dAt u P C O (nI p) (nI q) (nI o) = .inr (p, q, o) := by
  simp only [so_dAt, hb, Bool.false_eq_true, if_false, if_neg (so_n1 h1 (show q < 2 ^ 31 by omega)), if_neg (nI_nlt h2 (show p < 2 ^ 31 by omega)), if_neg (nI_pos (show o < 2 ^ 31 by omega)), if_neg (nI_ge h3 (show p < 2 ^ 31 by omega)), if_neg (show ¬ 10 ≤ fb_ct u 10 by omega), nI_clamp (show p < 2 ^ 31 by omega), nI_clamp (show q < 2 ^ 31 by omega), nI_clamp (show o < 2 ^ 31 by omega), if_neg (show ¬ so_ra u P C O p o < q by omega)]
theorem so_ru_n {u : Nat → Bool} {x : Int32} (h : so_nj u x = true) : so_ru u x = u := by simp only [so_ru, h, if_true]
theorem so_ru_v {u : Nat → Bool} {j : Nat} (hj : j < 10) (h : u j = true) : so_ru u (nI j) = va_up u j false := by simp only [so_ru, so_nj_nI hj, h, Bool.not_true, Bool.false_eq_true, if_false, nI_clamp (show j < 2 ^ 31 by omega)]
theorem so_aRem_n {u : Nat → Bool} {x : Int32} (h : so_nj u x = true) : so_aRem u x = -6 := by simp only [so_aRem, h, if_true]
theorem so_aRem_v {u : Nat → Bool} {j : Nat} (hj : j < 10) (h : u j = true) : so_aRem u (nI j) = nI (fb_ct (va_up u j false) 10) := by rw [so_aRem, so_ru_v hj h, so_nj_nI hj, h]; rfl
theorem so_aOff_v {u : Nat → Bool} {O : Nat → Nat} {j : Nat} (hj : j < 10) (h : u j = true) : nI (O j) = so_aOff u O (nI j) := by rw [so_aOff, so_nj_nI hj, h, nI_clamp (show j < 2 ^ 31 by omega)]; rfl
end
section
/-! ===== StrictOffsets: the methods that only read ===== -/
set_option maxRecDepth 100000
set_option maxHeartbeats 4000000 in
theorem m0_badPeriod (l : Launch) (x : Int32) : Met l yX0_badPeriod (ws_ yX0_badPeriod cX0_badPeriod 1 (some .boolean)) (so_R 0) (va_Pc [.int x] (fun _ => True)) (vp_Si (fun r => r = so_b (so_bp x))) 0 0 (fun _ => False) := by
  refine so_metZ (by decide) (Nat.le_of_ble_eq_true rfl) ?_
  intro pg e s m below meth c Q hx hb hml hown hts I fin ls hl
  have hl : lv_has ls 1 [(0, .int x)] := hl
  have hown : s.vm.findClass RX0 = some m.cls := hown
  refine lv_iload_n hx hb dX0_badPeriod_0 rfl (lv_at hl 0 rfl) ?_
  refine lv_iconst (v := 2) hx hb dX0_badPeriod_1 (by decide +kernel) ?_
  refine lv_icmp_lt (tgt := 20) hx hb dX0_badPeriod_2 (by decide) (fun c1 => ?_) (fun c1 => ?_)
  · refine lv_iconst (v := so_b true) hx hb dX0_badPeriod_20 (by decide +kernel) ?_
    refine lv_goto (tgt := 25) hx hb dX0_badPeriod_21 (by decide) ?_
    exact fin true _ _ (so_bp_1 c1) dX0_badPeriod_25
  · refine lv_iload_n hx hb dX0_badPeriod_5 rfl (lv_at hl 0 rfl) ?_
    refine lv_sipush (v := 360) hx hb dX0_badPeriod_6 (by decide +kernel) ?_
    refine lv_icmp_gt (tgt := 20) hx hb dX0_badPeriod_9 (by decide) (fun c2 => ?_) (fun c2 => ?_)
    · refine lv_iconst (v := so_b true) hx hb dX0_badPeriod_20 (by decide +kernel) ?_
      refine lv_goto (tgt := 25) hx hb dX0_badPeriod_21 (by decide) ?_
      exact fin true _ _ (so_bp_2 c2) dX0_badPeriod_25
    · obtain ⟨p, rfl, hp1, hp2⟩ := so_bp_r c1 c2
      have hm := Nat.mod_le 360 p
      refine lv_sipush (v := nI 360) hx hb dX0_badPeriod_12 (by decide +kernel) ?_
      refine lv_iload_n hx hb dX0_badPeriod_15 rfl (lv_at hl 0 rfl) ?_
      refine so_rem hx hb dX0_badPeriod_16 (by omega) (by omega) (by omega) ?_
      refine so_zeq (tgt := 24) hx hb dX0_badPeriod_17 (by decide) (by omega) (fun c3 => ?_) (fun c3 => ?_)
      · refine lv_iconst (v := so_b false) hx hb dX0_badPeriod_24 (by decide +kernel) ?_
        exact fin false _ _ (so_bp_4 hp1 hp2 c3) dX0_badPeriod_25
      · refine lv_iconst (v := so_b true) hx hb dX0_badPeriod_20 (by decide +kernel) ?_
        refine lv_goto (tgt := 25) hx hb dX0_badPeriod_21 (by decide) ?_
        exact fin true _ _ (so_bp_3 hp1 hp2 c3) dX0_badPeriod_25
set_option maxHeartbeats 4000000 in
theorem m0_badTime (l : Launch) (x : Int32) : Met l yX0_badTime (ws_ yX0_badTime cX0_badTime 1 (some .boolean)) (so_R 0) (va_Pc [.int x] (fun _ => True)) (vp_Si (fun r => r = so_b (so_bt x))) 0 0 (fun _ => False) := by
  refine so_metZ (by decide) (Nat.le_of_ble_eq_true rfl) ?_
  intro pg e s m below meth c Q hx hb hml hown hts I fin ls hl
  have hl : lv_has ls 1 [(0, .int x)] := hl
  have hown : s.vm.findClass RX0 = some m.cls := hown
  refine lv_iload_n hx hb dX0_badTime_0 rfl (lv_at hl 0 rfl) ?_
  refine lv_if_lt (tgt := 10) hx hb dX0_badTime_1 (by decide) (fun c1 => ?_) (fun c1 => ?_)
  · refine lv_iconst (v := so_b true) hx hb dX0_badTime_10 (by decide +kernel) ?_
    refine lv_goto (tgt := 15) hx hb dX0_badTime_11 (by decide) ?_
    exact fin true _ _ (so_bt_1 c1) dX0_badTime_15
  · refine lv_iload_n hx hb dX0_badTime_4 rfl (lv_at hl 0 rfl) ?_
    refine lv_ldc (v := 1000000000) hx hb hown (hts _ q89) dX0_badTime_5 ?_
    refine lv_icmp_le (tgt := 14) hx hb dX0_badTime_7 (by decide) (fun c2 => ?_) (fun c2 => ?_)
    · refine lv_iconst (v := so_b false) hx hb dX0_badTime_14 (by decide +kernel) ?_
      exact fin false _ _ (so_bt_0 c1 c2) dX0_badTime_15
    · refine lv_iconst (v := so_b true) hx hb dX0_badTime_10 (by decide +kernel) ?_
      refine lv_goto (tgt := 15) hx hb dX0_badTime_11 (by decide) ?_
      exact fin true _ _ (so_bt_2 c2) dX0_badTime_15
set_option maxHeartbeats 4000000 in
theorem m0_noJob (l : Launch) (D : va_G) (a : Nat → Nat) (d : Nat → ClassId) (n : Int32) (u : Nat → Bool) (P C O : Nat → Nat) (x : Int32) : Met l yX0_noJob (ws_ yX0_noJob cX0_noJob 2 (some .boolean)) (so_R 0) (va_Pc [.ref (a 0), .int x] (fun U => so_I0 D a d n u P C O U U.heap)) (vp_Si (fun r => r = so_b (so_nj u x))) 0 0 (fun _ => False) := by
  refine so_metZ (by decide) (Nat.le_of_ble_eq_true rfl) ?_
  intro pg e s m below meth c Q hx hb hml hown hts I fin ls hl
  have hl : lv_has ls 2 [(0, .ref (a 0)), (1, .int x)] := hl
  have hown : s.vm.findClass RX0 = some m.cls := hown
  refine lv_iload_n hx hb dX0_noJob_0 rfl (lv_at hl 1 rfl) ?_
  refine lv_if_lt (tgt := 19) hx hb dX0_noJob_1 (by decide) (fun c1 => ?_) (fun c1 => ?_)
  · refine lv_iconst (v := so_b true) hx hb dX0_noJob_19 (by decide +kernel) ?_
    refine lv_goto (tgt := 24) hx hb dX0_noJob_20 (by decide) ?_
    exact fin true _ _ (so_nj_1 c1) dX0_noJob_24
  · refine lv_iload_n hx hb dX0_noJob_4 rfl (lv_at hl 1 rfl) ?_
    refine lv_bipush (v := 10) hx hb dX0_noJob_5 (by decide +kernel) ?_
    refine lv_icmp_ge (tgt := 19) hx hb dX0_noJob_7 (by decide) (fun c2 => ?_) (fun c2 => ?_)
    · refine lv_iconst (v := so_b true) hx hb dX0_noJob_19 (by decide +kernel) ?_
      refine lv_goto (tgt := 24) hx hb dX0_noJob_20 (by decide) ?_
      exact fin true _ _ (so_nj_2 c2) dX0_noJob_24
    · obtain ⟨j, rfl, hj⟩ := so_nj_r c1 c2
      refine lv_aload_n hx hb dX0_noJob_10 rfl (lv_at hl 0 rfl) ?_
      refine so_g0U hx hb hts hown I dX0_noJob_11 ?_
      refine lv_iload_n hx hb dX0_noJob_14 rfl (lv_at hl 1 rfl) ?_
      refine so_l0U hx hb I dX0_noJob_15 (by omega) ?_
      refine so_bne (tgt := 23) hx hb dX0_noJob_16 (by decide) (fun c3 => ?_) (fun c3 => ?_)
      · refine lv_iconst (v := so_b false) hx hb dX0_noJob_23 (by decide +kernel) ?_
        exact fin false _ _ (so_nj_t hj c3) dX0_noJob_24
      · refine lv_iconst (v := so_b true) hx hb dX0_noJob_19 (by decide +kernel) ?_
        refine lv_goto (tgt := 24) hx hb dX0_noJob_20 (by decide) ?_
        exact fin true _ _ (so_nj_n hj c3) dX0_noJob_24
set_option maxHeartbeats 4000000 in
theorem m0_gcd (l : Launch) (x0 y0 : Nat) (hx0 : x0 < 2 ^ 31) (hy0 : y0 < 2 ^ 31) : Met l yX0_gcd (ws_ yX0_gcd cX0_gcd 6 (some .int)) (so_R 0) (va_Pc [.int (nI x0), .int (nI y0)] (fun _ => True)) (vp_Si (fun r => r = nI (so_gcd 20 x0 y0))) 0 0 (fun _ => False) := by
  refine so_metI (by decide) (Nat.le_of_ble_eq_true rfl) ?_
  intro pg e s m below meth c Q hx hb hml hown hts I fin ls hl
  have hl : lv_has ls 6 [(0, .int (nI x0)), (1, .int (nI y0))] := hl
  have hown : s.vm.findClass RX0 = some m.cls := hown
  have loop : ∀ (k i x y : Nat), (i + k = 20) → (x < 2 ^ 31) → (y < 2 ^ 31) → (so_gcd k x y = so_gcd 20 x0 y0) → ∀ ls : Array Slot, lv_has ls 6 [(4, .int (nI i)), (3, .int (nI y)), (2, .int (nI x))] → W pg l e (so_R 0) s m ([.int (nI x0), .int (nI y0)] : List Value).toArray below meth c s.heap [] 0 0 Q (F0 m 7 ls []) := by
    intro k
    induction k with
    | zero =>
      intro i x y hi hx1 hy1 hG ls hl
      refine lv_iload hx hb dX0_gcd_7 (lv_at hl 0 rfl) ?_
      refine lv_bipush (v := nI 20) hx hb dX0_gcd_9 (by decide +kernel) ?_
      refine so_ige (tgt := 34) hx hb dX0_gcd_11 (by decide) (by omega) (by omega) (fun c1 => ?_) (fun c1 => ?_)
      · refine lv_iload_n hx hb dX0_gcd_34 rfl (lv_at hl 2 rfl) ?_
        exact fin (nI x) _ _ (by rw [← hG]; rfl) dX0_gcd_35
      · exfalso; omega
    | succ k ih =>
      intro i x y hi hx1 hy1 hG ls hl
      refine lv_iload hx hb dX0_gcd_7 (lv_at hl 0 rfl) ?_
      refine lv_bipush (v := nI 20) hx hb dX0_gcd_9 (by decide +kernel) ?_
      refine so_ige (tgt := 34) hx hb dX0_gcd_11 (by decide) (by omega) (by omega) (fun c1 => ?_) (fun c1 => ?_)
      · exfalso; omega
      · refine lv_iload_n hx hb dX0_gcd_14 rfl (lv_at hl 1 rfl) ?_
        refine so_zle (tgt := 34) hx hb dX0_gcd_15 (by decide) (by omega) (fun c2 => ?_) (fun c2 => ?_)
        · refine lv_iload_n hx hb dX0_gcd_34 rfl (lv_at hl 2 rfl) ?_
          exact fin (nI x) _ _ (by rw [← hG]; simp only [so_gcd, if_pos c2]) dX0_gcd_35
        · have hm := Nat.mod_lt x c2
          refine lv_iload_n hx hb dX0_gcd_18 rfl (lv_at hl 2 rfl) ?_
          refine lv_iload_n hx hb dX0_gcd_19 rfl (lv_at hl 1 rfl) ?_
          refine so_rem hx hb dX0_gcd_20 (by omega) (by omega) (by omega) ?_
          refine lv_istore (lv' := [(5, .int (nI (x % y))), (4, .int (nI i)), (3, .int (nI y)), (2, .int (nI x))]) hx hb dX0_gcd_21 hl (by decide) rfl (fun ls hl => ?_)
          refine lv_iload_n hx hb dX0_gcd_23 rfl (lv_at hl 2 rfl) ?_
          refine lv_istore_n (lv' := [(2, .int (nI y)), (5, .int (nI (x % y))), (4, .int (nI i)), (3, .int (nI y))]) hx hb dX0_gcd_24 rfl hl (by decide) rfl (fun ls hl => ?_)
          refine lv_iload hx hb dX0_gcd_25 (lv_at hl 1 rfl) ?_
          refine lv_istore_n (lv' := [(3, .int (nI (x % y))), (2, .int (nI y)), (5, .int (nI (x % y))), (4, .int (nI i))]) hx hb dX0_gcd_27 rfl hl (by decide) rfl (fun ls hl => ?_)
          refine lv_iinc (v := nI (i + 1)) (lv' := [(4, .int (nI (i + 1))), (3, .int (nI (x % y))), (2, .int (nI y)), (5, .int (nI (x % y)))]) hx hb dX0_gcd_28 hl (k := 3) rfl (so_inc i) (by decide) rfl (fun ls hl => ?_)
          refine lv_goto (tgt := 7) hx hb dX0_gcd_31 (by decide) ?_
          exact ih (i + 1) y (x % y) (by omega) hy1 (by omega) (by rw [← hG]; simp only [so_gcd, if_neg (show ¬ y = 0 by omega)]) ls (lv_sub hl [0, 1, 2] rfl)
  refine lv_iload_n hx hb dX0_gcd_0 rfl (lv_at hl 0 rfl) ?_
  refine lv_istore_n (lv' := [(2, .int (nI x0)), (0, .int (nI x0)), (1, .int (nI y0))]) hx hb dX0_gcd_1 rfl hl (by decide) rfl (fun ls hl => ?_)
  refine lv_iload_n hx hb dX0_gcd_2 rfl (lv_at hl 2 rfl) ?_
  refine lv_istore_n (lv' := [(3, .int (nI y0)), (2, .int (nI x0)), (0, .int (nI x0)), (1, .int (nI y0))]) hx hb dX0_gcd_3 rfl hl (by decide) rfl (fun ls hl => ?_)
  refine lv_iconst (v := nI 0) hx hb dX0_gcd_4 (by decide +kernel) ?_
  refine lv_istore (lv' := [(4, .int (nI 0)), (3, .int (nI y0)), (2, .int (nI x0)), (0, .int (nI x0)), (1, .int (nI y0))]) hx hb dX0_gcd_5 hl (by decide) rfl (fun ls hl => ?_)
  exact loop 20 0 x0 y0 (by omega) hx0 hy0 rfl ls (lv_sub hl [0, 1, 2] rfl)
set_option maxHeartbeats 4000000 in
theorem m0_roomBeside (l : Launch) (D : va_G) (a : Nat → Nat) (d : Nat → ClassId) (n : Int32) (u : Nat → Bool) (P C O : Nat → Nat) (ok : so_ok u P C O) (j : Nat) (hj : j < 10) (hu : u j = true) (p : Nat) (hp1 : 2 ≤ p) (hp2 : p ≤ 360) (hp3 : 360 % p = 0) (o : Nat) (ho : o < p) : Met l yX0_roomBeside (ws_ yX0_roomBeside cX0_roomBeside 6 (some .int)) (so_R 1) (va_Pc [.ref (a 0), .int (nI j), .int (nI p), .int (nI o)] (fun U => so_I0 D a d n u P C O U U.heap)) (vp_Si (fun r => r = nI (so_rb P C O p o j))) 0 0 (fun _ => False) := by
  refine so_metI (by decide) (Nat.le_of_ble_eq_true rfl) ?_
  intro pg e s m below meth c Q hx hb hml hown hts I fin ls hl
  have hl : lv_has ls 6 [(0, .ref (a 0)), (1, .int (nI j)), (2, .int (nI p)), (3, .int (nI o))] := hl
  have hown : s.vm.findClass RX0 = some m.cls := hown
  obtain ⟨a1, a2, a3, a4, a5, a6⟩ := ok j hj hu
  have hg0 : 0 < Nat.gcd p (P j) := so_gpos (by omega)
  have hg1 : Nat.gcd p (P j) ≤ p := so_gle (by omega)
  have hg2 : 360 % Nat.gcd p (P j) = 0 := so_g360 hp3
  have hb0 : (o + 360 - O j) % Nat.gcd p (P j) < Nat.gcd p (P j) := Nat.mod_lt _ hg0
  have k37 : ∀ ls : Array Slot, lv_has ls 6 [(5, .int (nI ((o + 360 - O j) % Nat.gcd p (P j)))), (4, .int (nI (Nat.gcd p (P j)))), (0, .ref (a 0)), (1, .int (nI j))] → W pg l e (so_R 1) s m ([.ref (a 0), .int (nI j), .int (nI p), .int (nI o)] : List Value).toArray below meth c s.heap [] 0 0 Q (F0 m 37 ls []) := by
    intro ls hl
    refine lv_iload hx hb dX0_roomBeside_37 (lv_at hl 0 rfl) ?_
    refine lv_aload_n hx hb dX0_roomBeside_39 rfl (lv_at hl 2 rfl) ?_
    refine so_g0C hx hb hts hown I dX0_roomBeside_40 ?_
    refine lv_iload_n hx hb dX0_roomBeside_43 rfl (lv_at hl 3 rfl) ?_
    refine so_l0C hx hb I dX0_roomBeside_44 (by omega) ?_
    refine so_ige (tgt := 52) hx hb dX0_roomBeside_45 (by decide) (by omega) (by omega) (fun c1 => ?_) (fun c1 => ?_)
    · refine lv_iload hx hb dX0_roomBeside_52 (lv_at hl 1 rfl) ?_
      refine lv_iload hx hb dX0_roomBeside_54 (lv_at hl 0 rfl) ?_
      refine so_sub hx hb dX0_roomBeside_56 (by omega) ?_
      exact fin (nI ((Nat.gcd p (P j)) - ((o + 360 - O j) % Nat.gcd p (P j)))) _ _ (by rw [so_rb, if_neg (by omega)]) dX0_roomBeside_57
    · refine lv_iconst (v := nI 0) hx hb dX0_roomBeside_48 (by decide +kernel) ?_
      refine lv_goto (tgt := 57) hx hb dX0_roomBeside_49 (by decide) ?_
      exact fin (nI 0) _ _ (by rw [so_rb, if_pos c1]) dX0_roomBeside_57
  refine lv_iload_n hx hb dX0_roomBeside_0 rfl (lv_at hl 2 rfl) ?_
  refine lv_aload_n hx hb dX0_roomBeside_1 rfl (lv_at hl 0 rfl) ?_
  refine so_g0P hx hb hts hown I dX0_roomBeside_2 ?_
  refine lv_iload_n hx hb dX0_roomBeside_5 rfl (lv_at hl 1 rfl) ?_
  refine so_l0P hx hb I dX0_roomBeside_6 (by omega) ?_
  refine so_cS (N := 2) (As := [.int (nI p), .int (nI (P j))]) (rest := []) ⟨hx, hb, hml, hown, hts⟩ (m0_gcd l p (P j) (by omega) (by omega)) q59 q60 q16 q61 (by decide +kernel) ⟨Nat.le_of_ble_eq_true rfl, Nat.le_of_ble_eq_true rfl⟩ rfl hl.1 rfl (by decide) ⟨Nat.zero_le _, Nat.zero_le _⟩ dX0_roomBeside_7 (fun r hr => ?_)
  rw [so_gcd20 (by omega) hp3 (by omega) a3] at hr
  have hr : r = nI (Nat.gcd p (P j)) := hr
  subst hr
  refine lv_istore (lv' := [(4, .int (nI (Nat.gcd p (P j)))), (0, .ref (a 0)), (1, .int (nI j)), (2, .int (nI p)), (3, .int (nI o))]) hx hb dX0_roomBeside_10 hl (by decide) rfl (fun ls hl => ?_)
  refine lv_iload_n hx hb dX0_roomBeside_12 rfl (lv_at hl 4 rfl) ?_
  refine lv_aload_n hx hb dX0_roomBeside_13 rfl (lv_at hl 1 rfl) ?_
  refine so_g0O hx hb hts hown I dX0_roomBeside_14 ?_
  refine lv_iload_n hx hb dX0_roomBeside_17 rfl (lv_at hl 2 rfl) ?_
  refine so_l0O hx hb I dX0_roomBeside_18 (by omega) ?_
  refine lv_isub hx hb dX0_roomBeside_19 ?_
  refine lv_iload hx hb dX0_roomBeside_20 (lv_at hl 0 rfl) ?_
  refine lv_irem hx hb dX0_roomBeside_22 (nI_ne0 hg0 (by omega)) ?_
  refine lv_topi (fun r er => ?_)
  have hB := so_beh (by omega) (by omega) hg0 hg2 er
  refine lv_istore (lv' := [(5, .int r), (4, .int (nI (Nat.gcd p (P j)))), (0, .ref (a 0)), (1, .int (nI j)), (2, .int (nI p)), (3, .int (nI o))]) hx hb dX0_roomBeside_23 hl (by decide) rfl (fun ls hl => ?_)
  refine lv_iload hx hb dX0_roomBeside_25 (lv_at hl 0 rfl) ?_
  refine lv_if_ge (tgt := 37) hx hb dX0_roomBeside_27 (by decide) (fun c1 => ?_) (fun c1 => ?_)
  · have e1 := hB.1 c1
    subst e1
    exact k37 ls (lv_sub hl [0, 1, 2, 3] rfl)
  · refine lv_iload hx hb dX0_roomBeside_30 (lv_at hl 0 rfl) ?_
    refine lv_iload hx hb dX0_roomBeside_32 (lv_at hl 1 rfl) ?_
    refine lv_iadd hx hb dX0_roomBeside_34 ?_
    refine so_as (y := nI ((o + 360 - O j) % Nat.gcd p (P j))) (hB.2 c1) ?_
    refine lv_istore (lv' := [(5, .int (nI ((o + 360 - O j) % Nat.gcd p (P j)))), (4, .int (nI (Nat.gcd p (P j)))), (0, .ref (a 0)), (1, .int (nI j)), (2, .int (nI p)), (3, .int (nI o))]) hx hb dX0_roomBeside_35 hl (by decide) rfl (fun ls hl => ?_)
    exact k37 ls (lv_sub hl [0, 1, 2, 3] rfl)
set_option maxHeartbeats 4000000 in
theorem m0_roomAt (l : Launch) (D : va_G) (a : Nat → Nat) (d : Nat → ClassId) (n : Int32) (u : Nat → Bool) (P C O : Nat → Nat) (ok : so_ok u P C O) (p : Nat) (hp1 : 2 ≤ p) (hp2 : p ≤ 360) (hp3 : 360 % p = 0) (o : Nat) (ho : o < p) : Met l yX0_roomAt (ws_ yX0_roomAt cX0_roomAt 6 (some .int)) (so_R 2) (va_Pc [.ref (a 0), .int (nI p), .int (nI o)] (fun U => so_I0 D a d n u P C O U U.heap)) (vp_Si (fun r => r = nI (so_ra u P C O p o))) 0 0 (fun _ => False) := by
  refine so_metI (by decide) (Nat.le_of_ble_eq_true rfl) ?_
  intro pg e s m below meth c Q hx hb hml hown hts I fin ls hl
  have hl : lv_has ls 6 [(0, .ref (a 0)), (1, .int (nI p)), (2, .int (nI o))] := hl
  have hown : s.vm.findClass RX0 = some m.cls := hown
  have loop : ∀ (k i r : Nat), (i + k = 10) → (r = so_rm u (so_rb P C O p o) p i) → ∀ ls : Array Slot, lv_has ls 6 [(4, .int (nI i)), (3, .int (nI r)), (0, .ref (a 0)), (1, .int (nI p)), (2, .int (nI o))] → W pg l e (so_R 2) s m ([.ref (a 0), .int (nI p), .int (nI o)] : List Value).toArray below meth c s.heap [] 0 0 Q (F0 m 5 ls []) := by
    intro k
    induction k with
    | zero =>
      intro i r hi hr ls hl
      have hrl := so_rm_le u (so_rb P C O p o) p i
      refine lv_iload hx hb dX0_roomAt_5 (lv_at hl 0 rfl) ?_
      refine lv_bipush (v := nI 10) hx hb dX0_roomAt_7 (by decide +kernel) ?_
      refine so_ige (tgt := 51) hx hb dX0_roomAt_9 (by decide) (by omega) (by omega) (fun c1 => ?_) (fun c1 => ?_)
      · refine lv_iload_n hx hb dX0_roomAt_51 rfl (lv_at hl 1 rfl) ?_
        exact fin (nI r) _ _ (by rw [hr, show i = 10 by omega]; rfl) dX0_roomAt_52
      · exfalso; omega
    | succ k ih =>
      intro i r hi hr ls hl
      have hrl := so_rm_le u (so_rb P C O p o) p i
      refine lv_iload hx hb dX0_roomAt_5 (lv_at hl 0 rfl) ?_
      refine lv_bipush (v := nI 10) hx hb dX0_roomAt_7 (by decide +kernel) ?_
      refine so_ige (tgt := 51) hx hb dX0_roomAt_9 (by decide) (by omega) (by omega) (fun c1 => ?_) (fun c1 => ?_)
      · exfalso; omega
      · refine lv_iload_n hx hb dX0_roomAt_12 rfl (lv_at hl 1 rfl) ?_
        refine so_zle (tgt := 51) hx hb dX0_roomAt_13 (by decide) (by omega) (fun c2 => ?_) (fun c2 => ?_)
        · refine lv_iload_n hx hb dX0_roomAt_51 rfl (lv_at hl 1 rfl) ?_
          exact fin (nI r) _ _ (by rw [c2, so_ra, so_rm_0 (show i ≤ 10 by omega) (by omega)]) dX0_roomAt_52
        · refine lv_aload_n hx hb dX0_roomAt_16 rfl (lv_at hl 2 rfl) ?_
          refine so_g0U hx hb hts hown I dX0_roomAt_17 ?_
          refine lv_iload hx hb dX0_roomAt_20 (lv_at hl 0 rfl) ?_
          refine so_l0U hx hb I dX0_roomAt_22 (by omega) ?_
          refine so_beq (tgt := 45) hx hb dX0_roomAt_23 (by decide) (fun c3 => ?_) (fun c3 => ?_)
          · refine lv_iinc (v := nI (i + 1)) (lv' := [(4, .int (nI (i + 1))), (3, .int (nI r)), (0, .ref (a 0)), (1, .int (nI p)), (2, .int (nI o))]) hx hb dX0_roomAt_45 hl (k := 0) rfl (so_inc i) (by decide) rfl (fun ls hl => ?_)
            refine lv_goto (tgt := 5) hx hb dX0_roomAt_48 (by decide) ?_
            exact ih (i + 1) r (by omega) (by rw [hr, so_rm_f c3]) ls (lv_sub hl [0, 1, 2, 3, 4] rfl)
          · have hfl := so_rb_le (P := P) (C := C) (O := O) (o := o) (j := i) (show 0 < p by omega)
            refine lv_aload_n hx hb dX0_roomAt_26 rfl (lv_at hl 2 rfl) ?_
            refine lv_iload hx hb dX0_roomAt_27 (lv_at hl 0 rfl) ?_
            refine lv_iload_n hx hb dX0_roomAt_29 rfl (lv_at hl 3 rfl) ?_
            refine lv_iload_n hx hb dX0_roomAt_30 rfl (lv_at hl 4 rfl) ?_
            refine so_cV (N := 3) (As := [.int (nI i), .int (nI p), .int (nI o)]) (rest := []) ⟨hx, hb, hml, hown, hts⟩ (m0_roomBeside l D a d n u P C O ok i (by omega) c3 p hp1 hp2 hp3 o ho) (so_pre0 I) q55 q57 qs1 q16 q58 (by decide +kernel) ⟨Nat.le_of_ble_eq_true rfl, Nat.le_of_ble_eq_true rfl⟩ rfl hl.1 rfl (by decide) ⟨Nat.zero_le _, Nat.zero_le _⟩ dX0_roomAt_31 (fun r2 hr2 => ?_)
            have hr2 : r2 = nI (so_rb P C O p o i) := hr2
            subst hr2
            refine lv_istore (lv' := [(5, .int (nI (so_rb P C O p o i))), (4, .int (nI i)), (3, .int (nI r)), (0, .ref (a 0)), (1, .int (nI p)), (2, .int (nI o))]) hx hb dX0_roomAt_34 hl (by decide) rfl (fun ls hl => ?_)
            refine lv_iload hx hb dX0_roomAt_36 (lv_at hl 0 rfl) ?_
            refine lv_iload_n hx hb dX0_roomAt_38 rfl (lv_at hl 2 rfl) ?_
            refine so_ige (tgt := 45) hx hb dX0_roomAt_39 (by decide) (by omega) (by omega) (fun c4 => ?_) (fun c4 => ?_)
            · refine lv_iinc (v := nI (i + 1)) (lv' := [(4, .int (nI (i + 1))), (5, .int (nI (so_rb P C O p o i))), (3, .int (nI r)), (0, .ref (a 0)), (1, .int (nI p)), (2, .int (nI o))]) hx hb dX0_roomAt_45 hl (k := 1) rfl (so_inc i) (by decide) rfl (fun ls hl => ?_)
              refine lv_goto (tgt := 5) hx hb dX0_roomAt_48 (by decide) ?_
              exact ih (i + 1) r (by omega) (by rw [hr, so_rm_k c3 (by omega)]) ls (lv_sub hl [0, 2, 3, 4, 5] rfl)
            · refine lv_iload hx hb dX0_roomAt_42 (lv_at hl 0 rfl) ?_
              refine lv_istore_n (lv' := [(3, .int (nI (so_rb P C O p o i))), (5, .int (nI (so_rb P C O p o i))), (4, .int (nI i)), (0, .ref (a 0)), (1, .int (nI p)), (2, .int (nI o))]) hx hb dX0_roomAt_44 rfl hl (by decide) rfl (fun ls hl => ?_)
              refine lv_iinc (v := nI (i + 1)) (lv' := [(4, .int (nI (i + 1))), (3, .int (nI (so_rb P C O p o i))), (5, .int (nI (so_rb P C O p o i))), (0, .ref (a 0)), (1, .int (nI p)), (2, .int (nI o))]) hx hb dX0_roomAt_45 hl (k := 2) rfl (so_inc i) (by decide) rfl (fun ls hl => ?_)
              refine lv_goto (tgt := 5) hx hb dX0_roomAt_48 (by decide) ?_
              exact ih (i + 1) (so_rb P C O p o i) (by omega) (by rw [so_rm_l c3 (by omega)]) ls (lv_sub hl [0, 1, 3, 4, 5] rfl)
  refine lv_iload_n hx hb dX0_roomAt_0 rfl (lv_at hl 1 rfl) ?_
  refine lv_istore_n (lv' := [(3, .int (nI p)), (0, .ref (a 0)), (1, .int (nI p)), (2, .int (nI o))]) hx hb dX0_roomAt_1 rfl hl (by decide) rfl (fun ls hl => ?_)
  refine lv_iconst (v := nI 0) hx hb dX0_roomAt_2 (by decide +kernel) ?_
  refine lv_istore (lv' := [(4, .int (nI 0)), (3, .int (nI p)), (0, .ref (a 0)), (1, .int (nI p)), (2, .int (nI o))]) hx hb dX0_roomAt_3 hl (by decide) rfl (fun ls hl => ?_)
  exact loop 10 0 p (by omega) rfl ls (lv_sub hl [0, 1, 2, 3, 4] rfl)
set_option maxHeartbeats 4000000 in
theorem m0_offset (l : Launch) (D : va_G) (a : Nat → Nat) (d : Nat → ClassId) (n : Int32) (u : Nat → Bool) (P C O : Nat → Nat) (x : Int32) : Met l yX0_offset (ws_ yX0_offset cX0_offset 2 (some .int)) (so_R 1) (va_Pc [.ref (a 0), .int x] (fun U => so_I0 D a d n u P C O U U.heap)) (vp_Si (fun r => r = so_aOff u O x)) 0 0 (fun _ => False) := by
  refine so_metI (by decide) (Nat.le_of_ble_eq_true rfl) ?_
  intro pg e s m below meth c Q hx hb hml hown hts I fin ls hl
  have hl : lv_has ls 2 [(0, .ref (a 0)), (1, .int x)] := hl
  have hown : s.vm.findClass RX0 = some m.cls := hown
  refine lv_aload_n hx hb dX0_offset_0 rfl (lv_at hl 0 rfl) ?_
  refine lv_iload_n hx hb dX0_offset_1 rfl (lv_at hl 1 rfl) ?_
  refine so_cV (N := 1) (As := [.int x]) (rest := []) ⟨hx, hb, hml, hown, hts⟩ (m0_noJob l D a d n u P C O x) (so_pre0 I) q74 q76 qs3 q16 q77 (by decide +kernel) ⟨Nat.le_of_ble_eq_true rfl, Nat.le_of_ble_eq_true rfl⟩ rfl hl.1 rfl (by decide) ⟨Nat.zero_le _, Nat.zero_le _⟩ dX0_offset_2 (fun r hr => ?_)
  have hr : r = so_b (so_nj u x) := hr
  subst hr
  refine so_beq (tgt := 13) hx hb dX0_offset_5 (by decide) (fun c1 => ?_) (fun c1 => ?_)
  · obtain ⟨j, rfl, hj, hu⟩ := so_nj_f c1
    refine lv_aload_n hx hb dX0_offset_13 rfl (lv_at hl 0 rfl) ?_
    refine so_g0O hx hb hts hown I dX0_offset_14 ?_
    refine lv_iload_n hx hb dX0_offset_17 rfl (lv_at hl 1 rfl) ?_
    refine so_l0O hx hb I dX0_offset_18 (by omega) ?_
    exact fin (nI (O j)) _ _ (so_aOff_v hj hu) dX0_offset_19
  · refine lv_bipush (v := (-6)) hx hb dX0_offset_8 (by decide +kernel) ?_
    refine lv_goto (tgt := 19) hx hb dX0_offset_10 (by decide) ?_
    exact fin ((-6)) _ _ (by simp only [so_aOff, c1, if_true]) dX0_offset_19
set_option maxHeartbeats 4000000 in
theorem m0_running (l : Launch) (D : va_G) (a : Nat → Nat) (d : Nat → ClassId) (n : Int32) (u : Nat → Bool) (P C O : Nat → Nat) (ok : so_ok u P C O) (x : Int32) : Met l yX0_running (ws_ yX0_running cX0_running 3 (some .int)) (so_R 1) (va_Pc [.ref (a 0), .int x] (fun U => so_I0 D a d n u P C O U U.heap)) (vp_Si (fun r => r = so_aRun u P C O x)) 0 0 (fun _ => False) := by
  refine so_metI (by decide) (Nat.le_of_ble_eq_true rfl) ?_
  intro pg e s m below meth c Q hx hb hml hown hts I fin ls hl
  have hl : lv_has ls 3 [(0, .ref (a 0)), (1, .int x)] := hl
  have hown : s.vm.findClass RX0 = some m.cls := hown
  refine lv_iload_n hx hb dX0_running_0 rfl (lv_at hl 1 rfl) ?_
  refine so_cS (N := 1) (As := [.int x]) (rest := []) ⟨hx, hb, hml, hown, hts⟩ (m0_badTime l x) q86 q87 q16 q88 (by decide +kernel) ⟨Nat.le_of_ble_eq_true rfl, Nat.le_of_ble_eq_true rfl⟩ rfl hl.1 rfl (by decide) ⟨Nat.zero_le _, Nat.zero_le _⟩ dX0_running_1 (fun r hr => ?_)
  have hr : r = so_b (so_bt x) := hr
  subst hr
  refine so_beq (tgt := 10) hx hb dX0_running_4 (by decide) (fun c0 => ?_) (fun c0 => ?_)
  · obtain ⟨t, rfl, ht⟩ := so_bt_f c0
    have loop : ∀ (k i : Nat), (i + k = 10) → (so_find (fun j => so_run u P C O j t) k i = so_find (fun j => so_run u P C O j t) 10 0) → ∀ ls : Array Slot, lv_has ls 3 [(2, .int (nI i)), (0, .ref (a 0)), (1, .int (nI t))] → W pg l e (so_R 1) s m ([.ref (a 0), .int (nI t)] : List Value).toArray below meth c s.heap [] 0 0 Q (F0 m 12 ls []) := by
      intro k
      induction k with
      | zero =>
        intro i hi hF ls hl
        refine lv_iload_n hx hb dX0_running_12 rfl (lv_at hl 0 rfl) ?_
        refine lv_bipush (v := nI 10) hx hb dX0_running_13 (by decide +kernel) ?_
        refine so_ige (tgt := 69) hx hb dX0_running_15 (by decide) (by omega) (by omega) (fun c1 => ?_) (fun c1 => ?_)
        · refine lv_bipush (v := (-6)) hx hb dX0_running_69 (by decide +kernel) ?_
          exact fin ((-6)) _ _ (by rw [so_aRun_v ht, ← hF]; rfl) dX0_running_71
        · exfalso; omega
      | succ k ih =>
        intro i hi hF ls hl
        have k63 : (so_run u P C O i t = false) → ∀ ls : Array Slot, lv_has ls 3 [(2, .int (nI i)), (0, .ref (a 0)), (1, .int (nI t))] → W pg l e (so_R 1) s m ([.ref (a 0), .int (nI t)] : List Value).toArray below meth c s.heap [] 0 0 Q (F0 m 63 ls []) := by
          intro hf ls hl
          refine lv_iinc (v := nI (i + 1)) (lv' := [(2, .int (nI (i + 1))), (0, .ref (a 0)), (1, .int (nI t))]) hx hb dX0_running_63 hl (k := 0) rfl (so_inc i) (by decide) rfl (fun ls hl => ?_)
          refine lv_goto (tgt := 12) hx hb dX0_running_66 (by decide) ?_
          exact ih (i + 1) (by omega) (by rw [← hF]; exact (so_find_f (f := fun j => so_run u P C O j t) hf).symm) ls (lv_sub hl [0, 1, 2] rfl)
        refine lv_iload_n hx hb dX0_running_12 rfl (lv_at hl 0 rfl) ?_
        refine lv_bipush (v := nI 10) hx hb dX0_running_13 (by decide +kernel) ?_
        refine so_ige (tgt := 69) hx hb dX0_running_15 (by decide) (by omega) (by omega) (fun c1 => ?_) (fun c1 => ?_)
        · exfalso; omega
        · refine lv_aload_n hx hb dX0_running_18 rfl (lv_at hl 1 rfl) ?_
          refine so_g0U hx hb hts hown I dX0_running_19 ?_
          refine lv_iload_n hx hb dX0_running_22 rfl (lv_at hl 0 rfl) ?_
          refine so_l0U hx hb I dX0_running_23 (by omega) ?_
          refine so_beq (tgt := 63) hx hb dX0_running_24 (by decide) (fun c2 => ?_) (fun c2 => ?_)
          · exact k63 (so_run_u c2) ls (lv_sub hl [0, 1, 2] rfl)
          · obtain ⟨a1, a2, a3, a4, a5, a6⟩ := ok i (by omega) c2
            refine lv_iload_n hx hb dX0_running_27 rfl (lv_at hl 2 rfl) ?_
            refine lv_aload_n hx hb dX0_running_28 rfl (lv_at hl 1 rfl) ?_
            refine so_g0O hx hb hts hown I dX0_running_29 ?_
            refine lv_iload_n hx hb dX0_running_32 rfl (lv_at hl 0 rfl) ?_
            refine so_l0O hx hb I dX0_running_33 (by omega) ?_
            refine so_ilt (tgt := 63) hx hb dX0_running_34 (by decide) (by omega) (by omega) (fun c3 => ?_) (fun c3 => ?_)
            · exact k63 (so_run_o c3) ls (lv_sub hl [0, 1, 2] rfl)
            · have hm := Nat.mod_lt (t - O i) (show 0 < P i by omega)
              refine lv_iload_n hx hb dX0_running_37 rfl (lv_at hl 2 rfl) ?_
              refine lv_aload_n hx hb dX0_running_38 rfl (lv_at hl 1 rfl) ?_
              refine so_g0O hx hb hts hown I dX0_running_39 ?_
              refine lv_iload_n hx hb dX0_running_42 rfl (lv_at hl 0 rfl) ?_
              refine so_l0O hx hb I dX0_running_43 (by omega) ?_
              refine so_sub hx hb dX0_running_44 (by omega) ?_
              refine lv_aload_n hx hb dX0_running_45 rfl (lv_at hl 1 rfl) ?_
              refine so_g0P hx hb hts hown I dX0_running_46 ?_
              refine lv_iload_n hx hb dX0_running_49 rfl (lv_at hl 0 rfl) ?_
              refine so_l0P hx hb I dX0_running_50 (by omega) ?_
              refine so_rem hx hb dX0_running_51 (by omega) (by omega) (by omega) ?_
              refine lv_aload_n hx hb dX0_running_52 rfl (lv_at hl 1 rfl) ?_
              refine so_g0C hx hb hts hown I dX0_running_53 ?_
              refine lv_iload_n hx hb dX0_running_56 rfl (lv_at hl 0 rfl) ?_
              refine so_l0C hx hb I dX0_running_57 (by omega) ?_
              refine so_ige (tgt := 63) hx hb dX0_running_58 (by decide) (by omega) (by omega) (fun c4 => ?_) (fun c4 => ?_)
              · exact k63 (so_run_c c4) ls (lv_sub hl [0, 1, 2] rfl)
              · refine lv_iload_n hx hb dX0_running_61 rfl (lv_at hl 0 rfl) ?_
                exact fin (nI i) _ _ (by rw [so_aRun_v ht, ← hF]; exact (so_find_t (f := fun j => so_run u P C O j t) (so_run_t c2 c3 c4)).symm) dX0_running_62
    refine lv_iconst (v := nI 0) hx hb dX0_running_10 (by decide +kernel) ?_
    refine lv_istore_n (lv' := [(2, .int (nI 0)), (0, .ref (a 0)), (1, .int (nI t))]) hx hb dX0_running_11 rfl hl (by decide) rfl (fun ls hl => ?_)
    exact loop 10 0 (by omega) rfl ls (lv_sub hl [0, 1, 2] rfl)
  · refine lv_bipush (v := (-7)) hx hb dX0_running_7 (by decide +kernel) ?_
    exact fin ((-7)) _ _ (by simp only [so_aRun, c0, if_true]) dX0_running_9
set_option maxHeartbeats 4000000 in
theorem m0_ranBefore (l : Launch) (D : va_G) (a : Nat → Nat) (d : Nat → ClassId) (n : Int32) (u : Nat → Bool) (P C O : Nat → Nat) (ok : so_ok u P C O) (j : Nat) (hj : j < 10) (hu : u j = true) (t : Nat) (ht : t ≤ 1000000001) : Met l yX0_ranBefore (ws_ yX0_ranBefore cX0_ranBefore 5 (some .int)) (so_R 0) (va_Pc [.ref (a 0), .int (nI j), .int (nI t)] (fun U => so_I0 D a d n u P C O U U.heap)) (vp_Si (fun r => r = nI (so_rn P C O j t))) 0 0 (fun _ => False) := by
  refine so_metI (by decide) (Nat.le_of_ble_eq_true rfl) ?_
  intro pg e s m below meth c Q hx hb hml hown hts I fin ls hl
  have hl : lv_has ls 5 [(0, .ref (a 0)), (1, .int (nI j)), (2, .int (nI t))] := hl
  have hown : s.vm.findClass RX0 = some m.cls := hown
  obtain ⟨a1, a2, a3, a4, a5, a6⟩ := ok j hj hu
  rcases Nat.lt_or_ge (O j) t with hO | hO
  · have hm := Nat.mod_lt (t - O j) (show 0 < P j by omega)
    have k44 : ∀ (z : Nat), (z = if C j < (t - O j) % P j then C j else (t - O j) % P j) → ∀ ls : Array Slot, lv_has ls 5 [(4, .int (nI z)), (3, .int (nI (t - O j))), (0, .ref (a 0)), (1, .int (nI j))] → W pg l e (so_R 0) s m ([.ref (a 0), .int (nI j), .int (nI t)] : List Value).toArray below meth c s.heap [] 0 0 Q (F0 m 44 ls []) := by
      intro z hz ls hl
      refine lv_iload_n hx hb dX0_ranBefore_44 rfl (lv_at hl 1 rfl) ?_
      refine lv_aload_n hx hb dX0_ranBefore_45 rfl (lv_at hl 2 rfl) ?_
      refine so_g0P hx hb hts hown I dX0_ranBefore_46 ?_
      refine lv_iload_n hx hb dX0_ranBefore_49 rfl (lv_at hl 3 rfl) ?_
      refine so_l0P hx hb I dX0_ranBefore_50 (by omega) ?_
      refine so_div hx hb dX0_ranBefore_51 (by omega) (by omega) (by omega) ?_
      refine lv_aload_n hx hb dX0_ranBefore_52 rfl (lv_at hl 2 rfl) ?_
      refine so_g0C hx hb hts hown I dX0_ranBefore_53 ?_
      refine lv_iload_n hx hb dX0_ranBefore_56 rfl (lv_at hl 3 rfl) ?_
      refine so_l0C hx hb I dX0_ranBefore_57 (by omega) ?_
      refine so_mul hx hb dX0_ranBefore_58 ?_
      refine lv_iload hx hb dX0_ranBefore_59 (lv_at hl 0 rfl) ?_
      refine so_add hx hb dX0_ranBefore_61 ?_
      exact fin (nI ((((t - O j) / (P j)) * (C j)) + z)) _ _ (by rw [hz]; rfl) dX0_ranBefore_62
    refine lv_iload_n hx hb dX0_ranBefore_0 rfl (lv_at hl 2 rfl) ?_
    refine lv_aload_n hx hb dX0_ranBefore_1 rfl (lv_at hl 0 rfl) ?_
    refine so_g0O hx hb hts hown I dX0_ranBefore_2 ?_
    refine lv_iload_n hx hb dX0_ranBefore_5 rfl (lv_at hl 1 rfl) ?_
    refine so_l0O hx hb I dX0_ranBefore_6 (by omega) ?_
    refine so_sub hx hb dX0_ranBefore_7 (by omega) ?_
    refine lv_istore_n (lv' := [(3, .int (nI (t - (O j)))), (0, .ref (a 0)), (1, .int (nI j)), (2, .int (nI t))]) hx hb dX0_ranBefore_8 rfl hl (by decide) rfl (fun ls hl => ?_)
    refine lv_iload_n hx hb dX0_ranBefore_9 rfl (lv_at hl 0 rfl) ?_
    refine so_zgt (tgt := 15) hx hb dX0_ranBefore_10 (by decide) (by omega) (by omega) ?_
    refine lv_iload_n hx hb dX0_ranBefore_15 rfl (lv_at hl 0 rfl) ?_
    refine lv_aload_n hx hb dX0_ranBefore_16 rfl (lv_at hl 1 rfl) ?_
    refine so_g0P hx hb hts hown I dX0_ranBefore_17 ?_
    refine lv_iload_n hx hb dX0_ranBefore_20 rfl (lv_at hl 2 rfl) ?_
    refine so_l0P hx hb I dX0_ranBefore_21 (by omega) ?_
    refine so_rem hx hb dX0_ranBefore_22 (by omega) (by omega) (by omega) ?_
    refine lv_istore (lv' := [(4, .int (nI ((t - (O j)) % (P j)))), (3, .int (nI (t - (O j)))), (0, .ref (a 0)), (1, .int (nI j)), (2, .int (nI t))]) hx hb dX0_ranBefore_23 hl (by decide) rfl (fun ls hl => ?_)
    refine lv_iload hx hb dX0_ranBefore_25 (lv_at hl 0 rfl) ?_
    refine lv_aload_n hx hb dX0_ranBefore_27 rfl (lv_at hl 2 rfl) ?_
    refine so_g0C hx hb hts hown I dX0_ranBefore_28 ?_
    refine lv_iload_n hx hb dX0_ranBefore_31 rfl (lv_at hl 3 rfl) ?_
    refine so_l0C hx hb I dX0_ranBefore_32 (by omega) ?_
    refine so_ile (tgt := 44) hx hb dX0_ranBefore_33 (by decide) (by omega) (by omega) (fun c1 => ?_) (fun c1 => ?_)
    · exact k44 ((t - O j) % P j) (by rw [if_neg (by omega)]) ls (lv_sub hl [0, 1, 2, 3] rfl)
    · refine lv_aload_n hx hb dX0_ranBefore_36 rfl (lv_at hl 2 rfl) ?_
      refine so_g0C hx hb hts hown I dX0_ranBefore_37 ?_
      refine lv_iload_n hx hb dX0_ranBefore_40 rfl (lv_at hl 3 rfl) ?_
      refine so_l0C hx hb I dX0_ranBefore_41 (by omega) ?_
      refine lv_istore (lv' := [(4, .int (nI (C j))), (3, .int (nI (t - (O j)))), (0, .ref (a 0)), (1, .int (nI j)), (2, .int (nI t))]) hx hb dX0_ranBefore_42 hl (by decide) rfl (fun ls hl => ?_)
      exact k44 (C j) (by rw [if_pos c1]) ls (lv_sub hl [0, 1, 2, 3] rfl)
  · refine lv_iload_n hx hb dX0_ranBefore_0 rfl (lv_at hl 2 rfl) ?_
    refine lv_aload_n hx hb dX0_ranBefore_1 rfl (lv_at hl 0 rfl) ?_
    refine so_g0O hx hb hts hown I dX0_ranBefore_2 ?_
    refine lv_iload_n hx hb dX0_ranBefore_5 rfl (lv_at hl 1 rfl) ?_
    refine so_l0O hx hb I dX0_ranBefore_6 (by omega) ?_
    refine lv_isub hx hb dX0_ranBefore_7 ?_
    refine lv_istore_n (lv' := [(3, .int ((nI t) - (nI (O j)))), (0, .ref (a 0)), (1, .int (nI j)), (2, .int (nI t))]) hx hb dX0_ranBefore_8 rfl hl (by decide) rfl (fun ls hl => ?_)
    refine lv_iload_n hx hb dX0_ranBefore_9 rfl (lv_at hl 0 rfl) ?_
    refine lv_if_gt (tgt := 15) hx hb dX0_ranBefore_10 (by decide) (fun c0 => ?_) (fun c0 => ?_)
    · exact absurd c0 (so_sub0 (by omega) (by omega) hO)
    · refine lv_iconst (v := nI 0) hx hb dX0_ranBefore_13 (by decide +kernel) ?_
      exact fin (nI 0) _ _ (by rw [so_rn_0 hO]) dX0_ranBefore_14
set_option maxHeartbeats 4000000 in
theorem m0_begunBefore (l : Launch) (D : va_G) (a : Nat → Nat) (d : Nat → ClassId) (n : Int32) (u : Nat → Bool) (P C O : Nat → Nat) (ok : so_ok u P C O) (j : Nat) (hj : j < 10) (hu : u j = true) (t : Nat) (ht : t ≤ 1000000001) : Met l yX0_begunBefore (ws_ yX0_begunBefore cX0_begunBefore 4 (some .int)) (so_R 0) (va_Pc [.ref (a 0), .int (nI j), .int (nI t)] (fun U => so_I0 D a d n u P C O U U.heap)) (vp_Si (fun r => r = nI (so_bg P O j t))) 0 0 (fun _ => False) := by
  refine so_metI (by decide) (Nat.le_of_ble_eq_true rfl) ?_
  intro pg e s m below meth c Q hx hb hml hown hts I fin ls hl
  have hl : lv_has ls 4 [(0, .ref (a 0)), (1, .int (nI j)), (2, .int (nI t))] := hl
  have hown : s.vm.findClass RX0 = some m.cls := hown
  obtain ⟨a1, a2, a3, a4, a5, a6⟩ := ok j hj hu
  rcases Nat.lt_or_ge (O j) t with hO | hO
  · refine lv_iload_n hx hb dX0_begunBefore_0 rfl (lv_at hl 2 rfl) ?_
    refine lv_aload_n hx hb dX0_begunBefore_1 rfl (lv_at hl 0 rfl) ?_
    refine so_g0O hx hb hts hown I dX0_begunBefore_2 ?_
    refine lv_iload_n hx hb dX0_begunBefore_5 rfl (lv_at hl 1 rfl) ?_
    refine so_l0O hx hb I dX0_begunBefore_6 (by omega) ?_
    refine so_sub hx hb dX0_begunBefore_7 (by omega) ?_
    refine lv_istore_n (lv' := [(3, .int (nI (t - (O j)))), (0, .ref (a 0)), (1, .int (nI j)), (2, .int (nI t))]) hx hb dX0_begunBefore_8 rfl hl (by decide) rfl (fun ls hl => ?_)
    refine lv_iload_n hx hb dX0_begunBefore_9 rfl (lv_at hl 0 rfl) ?_
    refine so_zgt (tgt := 17) hx hb dX0_begunBefore_10 (by decide) (by omega) (by omega) ?_
    refine lv_iload_n hx hb dX0_begunBefore_17 rfl (lv_at hl 0 rfl) ?_
    refine lv_iconst (v := nI 1) hx hb dX0_begunBefore_18 (by decide +kernel) ?_
    refine so_sub hx hb dX0_begunBefore_19 (by omega) ?_
    refine lv_aload_n hx hb dX0_begunBefore_20 rfl (lv_at hl 1 rfl) ?_
    refine so_g0P hx hb hts hown I dX0_begunBefore_21 ?_
    refine lv_iload_n hx hb dX0_begunBefore_24 rfl (lv_at hl 2 rfl) ?_
    refine so_l0P hx hb I dX0_begunBefore_25 (by omega) ?_
    refine so_div hx hb dX0_begunBefore_26 (by omega) (by omega) (by omega) ?_
    refine lv_iconst (v := nI 1) hx hb dX0_begunBefore_27 (by decide +kernel) ?_
    refine so_add hx hb dX0_begunBefore_28 ?_
    exact fin (nI ((((t - (O j)) - 1) / (P j)) + 1)) _ _ (by rw [so_bg, if_neg (by omega)]) dX0_begunBefore_29
  · refine lv_iload_n hx hb dX0_begunBefore_0 rfl (lv_at hl 2 rfl) ?_
    refine lv_aload_n hx hb dX0_begunBefore_1 rfl (lv_at hl 0 rfl) ?_
    refine so_g0O hx hb hts hown I dX0_begunBefore_2 ?_
    refine lv_iload_n hx hb dX0_begunBefore_5 rfl (lv_at hl 1 rfl) ?_
    refine so_l0O hx hb I dX0_begunBefore_6 (by omega) ?_
    refine lv_isub hx hb dX0_begunBefore_7 ?_
    refine lv_istore_n (lv' := [(3, .int ((nI t) - (nI (O j)))), (0, .ref (a 0)), (1, .int (nI j)), (2, .int (nI t))]) hx hb dX0_begunBefore_8 rfl hl (by decide) rfl (fun ls hl => ?_)
    refine lv_iload_n hx hb dX0_begunBefore_9 rfl (lv_at hl 0 rfl) ?_
    refine lv_if_gt (tgt := 17) hx hb dX0_begunBefore_10 (by decide) (fun c0 => ?_) (fun c0 => ?_)
    · exact absurd c0 (so_sub0 (by omega) (by omega) hO)
    · refine lv_iconst (v := nI 0) hx hb dX0_begunBefore_13 (by decide +kernel) ?_
      refine lv_goto (tgt := 29) hx hb dX0_begunBefore_14 (by decide) ?_
      exact fin (nI 0) _ _ (by rw [so_bg, if_pos hO]) dX0_begunBefore_29
set_option maxHeartbeats 4000000 in
theorem m0_free (l : Launch) (D : va_G) (a : Nat → Nat) (d : Nat → ClassId) (n : Int32) (u : Nat → Bool) (P C O : Nat → Nat) (ok : so_ok u P C O) (x y : Int32) : Met l yX0_free (ws_ yX0_free cX0_free 7 (some .int)) (so_R 1) (va_Pc [.ref (a 0), .int x, .int y] (fun U => so_I0 D a d n u P C O U U.heap)) (vp_Si (fun r => r = so_aFree u P C O x y)) 0 0 (fun _ => False) := by
  refine so_metI (by decide) (Nat.le_of_ble_eq_true rfl) ?_
  intro pg e s m below meth c Q hx hb hml hown hts I fin ls hl
  have hl : lv_has ls 7 [(0, .ref (a 0)), (1, .int x), (2, .int y)] := hl
  have hown : s.vm.findClass RX0 = some m.cls := hown
  refine lv_iload_n hx hb dX0_free_0 rfl (lv_at hl 1 rfl) ?_
  refine so_cS (N := 1) (As := [.int x]) (rest := []) ⟨hx, hb, hml, hown, hts⟩ (m0_badTime l x) q86 q87 q16 q88 (by decide +kernel) ⟨Nat.le_of_ble_eq_true rfl, Nat.le_of_ble_eq_true rfl⟩ rfl hl.1 rfl (by decide) ⟨Nat.zero_le _, Nat.zero_le _⟩ dX0_free_1 (fun r hr => ?_)
  have hr : r = so_b (so_bt x) := hr
  subst hr
  refine so_bne (tgt := 14) hx hb dX0_free_4 (by decide) (fun c0 => ?_) (fun c0 => ?_)
  · refine lv_bipush (v := (-7)) hx hb dX0_free_14 (by decide +kernel) ?_
    exact fin ((-7)) _ _ (by simp only [so_aFree, c0, if_true]) dX0_free_16
  · refine lv_iload_n hx hb dX0_free_7 rfl (lv_at hl 2 rfl) ?_
    refine so_cS (N := 1) (As := [.int y]) (rest := []) ⟨hx, hb, hml, hown, hts⟩ (m0_badTime l y) q86 q87 q16 q88 (by decide +kernel) ⟨Nat.le_of_ble_eq_true rfl, Nat.le_of_ble_eq_true rfl⟩ rfl hl.1 rfl (by decide) ⟨Nat.zero_le _, Nat.zero_le _⟩ dX0_free_8 (fun r hr => ?_)
    have hr : r = so_b (so_bt y) := hr
    subst hr
    refine so_beq (tgt := 17) hx hb dX0_free_11 (by decide) (fun c1 => ?_) (fun c1 => ?_)
    · obtain ⟨t, rfl, ht⟩ := so_bt_f c0
      obtain ⟨v, rfl, hv⟩ := so_bt_f c1
      refine lv_iload_n hx hb dX0_free_17 rfl (lv_at hl 1 rfl) ?_
      refine lv_iload_n hx hb dX0_free_18 rfl (lv_at hl 2 rfl) ?_
      refine so_ile (tgt := 24) hx hb dX0_free_19 (by decide) (by omega) (by omega) (fun c2 => ?_) (fun c2 => ?_)
      · have loop : ∀ (k i : Nat) (acc : Int32), (i + k = 10) → (acc = so_fs u (fun j => nI (so_rn P C O j (v + 1)) - nI (so_rn P C O j t)) (nI v - nI t + 1) i) → ∀ ls : Array Slot, lv_has ls 7 [(4, .int (nI i)), (3, .int acc), (0, .ref (a 0)), (1, .int (nI t)), (2, .int (nI v))] → W pg l e (so_R 1) s m ([.ref (a 0), .int (nI t), .int (nI v)] : List Value).toArray below meth c s.heap [] 0 0 Q (F0 m 33 ls []) := by
          intro k
          induction k with
          | zero =>
            intro i acc hi hF ls hl
            refine lv_iload hx hb dX0_free_33 (lv_at hl 0 rfl) ?_
            refine lv_bipush (v := nI 10) hx hb dX0_free_35 (by decide +kernel) ?_
            refine so_ige (tgt := 84) hx hb dX0_free_37 (by decide) (by omega) (by omega) (fun c3 => ?_) (fun c3 => ?_)
            · refine lv_iload_n hx hb dX0_free_84 rfl (lv_at hl 1 rfl) ?_
              exact fin (acc) _ _ (by rw [so_aFree_v ht hv c2, hF, show i = 10 by omega]) dX0_free_85
            · exfalso; omega
          | succ k ih =>
            intro i acc hi hF ls hl
            refine lv_iload hx hb dX0_free_33 (lv_at hl 0 rfl) ?_
            refine lv_bipush (v := nI 10) hx hb dX0_free_35 (by decide +kernel) ?_
            refine so_ige (tgt := 84) hx hb dX0_free_37 (by decide) (by omega) (by omega) (fun c3 => ?_) (fun c3 => ?_)
            · exfalso; omega
            · refine lv_aload_n hx hb dX0_free_40 rfl (lv_at hl 2 rfl) ?_
              refine so_g0U hx hb hts hown I dX0_free_41 ?_
              refine lv_iload hx hb dX0_free_44 (lv_at hl 0 rfl) ?_
              refine so_l0U hx hb I dX0_free_46 (by omega) ?_
              refine so_beq (tgt := 78) hx hb dX0_free_47 (by decide) (fun c4 => ?_) (fun c4 => ?_)
              · refine lv_iinc (v := nI (i + 1)) (lv' := [(4, .int (nI (i + 1))), (3, .int acc), (0, .ref (a 0)), (1, .int (nI t)), (2, .int (nI v))]) hx hb dX0_free_78 hl (k := 0) rfl (so_inc i) (by decide) rfl (fun ls hl => ?_)
                refine lv_goto (tgt := 33) hx hb dX0_free_81 (by decide) ?_
                exact ih (i + 1) acc (by omega) (by rw [hF, so_fs_f c4]) ls (lv_sub hl [0, 1, 2, 3, 4] rfl)
              · refine lv_aload_n hx hb dX0_free_50 rfl (lv_at hl 2 rfl) ?_
                refine lv_iload hx hb dX0_free_51 (lv_at hl 0 rfl) ?_
                refine lv_iload_n hx hb dX0_free_53 rfl (lv_at hl 4 rfl) ?_
                refine lv_iconst (v := nI 1) hx hb dX0_free_54 (by decide +kernel) ?_
                refine so_add hx hb dX0_free_55 ?_
                refine so_cV (N := 2) (As := [.int (nI i), .int (nI (v + 1))]) (rest := []) ⟨hx, hb, hml, hown, hts⟩ (m0_ranBefore l D a d n u P C O ok i (by omega) c4 (v + 1) (by omega)) (so_pre0 I) q94 q96 qs4 q16 q97 (by decide +kernel) ⟨Nat.le_of_ble_eq_true rfl, Nat.le_of_ble_eq_true rfl⟩ rfl hl.1 rfl (by decide) ⟨Nat.zero_le _, Nat.zero_le _⟩ dX0_free_56 (fun r1 hr1 => ?_)
                have hr1 : r1 = nI (so_rn P C O i (v + 1)) := hr1
                subst hr1
                refine lv_istore (lv' := [(5, .int (nI (so_rn P C O i (v + 1)))), (4, .int (nI i)), (3, .int acc), (0, .ref (a 0)), (1, .int (nI t)), (2, .int (nI v))]) hx hb dX0_free_59 hl (by decide) rfl (fun ls hl => ?_)
                refine lv_aload_n hx hb dX0_free_61 rfl (lv_at hl 3 rfl) ?_
                refine lv_iload hx hb dX0_free_62 (lv_at hl 1 rfl) ?_
                refine lv_iload_n hx hb dX0_free_64 rfl (lv_at hl 4 rfl) ?_
                refine so_cV (N := 2) (As := [.int (nI i), .int (nI t)]) (rest := []) ⟨hx, hb, hml, hown, hts⟩ (m0_ranBefore l D a d n u P C O ok i (by omega) c4 t (by omega)) (so_pre0 I) q94 q96 qs4 q16 q97 (by decide +kernel) ⟨Nat.le_of_ble_eq_true rfl, Nat.le_of_ble_eq_true rfl⟩ rfl hl.1 rfl (by decide) ⟨Nat.zero_le _, Nat.zero_le _⟩ dX0_free_65 (fun r2 hr2 => ?_)
                have hr2 : r2 = nI (so_rn P C O i t) := hr2
                subst hr2
                refine lv_istore (lv' := [(6, .int (nI (so_rn P C O i t))), (5, .int (nI (so_rn P C O i (v + 1)))), (4, .int (nI i)), (3, .int acc), (0, .ref (a 0)), (1, .int (nI t)), (2, .int (nI v))]) hx hb dX0_free_68 hl (by decide) rfl (fun ls hl => ?_)
                refine lv_iload_n hx hb dX0_free_70 rfl (lv_at hl 3 rfl) ?_
                refine lv_iload hx hb dX0_free_71 (lv_at hl 1 rfl) ?_
                refine lv_iload hx hb dX0_free_73 (lv_at hl 0 rfl) ?_
                refine lv_isub hx hb dX0_free_75 ?_
                refine lv_isub hx hb dX0_free_76 ?_
                refine lv_istore_n (lv' := [(3, .int (acc - ((nI (so_rn P C O i (v + 1))) - (nI (so_rn P C O i t))))), (6, .int (nI (so_rn P C O i t))), (5, .int (nI (so_rn P C O i (v + 1)))), (4, .int (nI i)), (0, .ref (a 0)), (1, .int (nI t)), (2, .int (nI v))]) hx hb dX0_free_77 rfl hl (by decide) rfl (fun ls hl => ?_)
                refine lv_iinc (v := nI (i + 1)) (lv' := [(4, .int (nI (i + 1))), (3, .int (acc - ((nI (so_rn P C O i (v + 1))) - (nI (so_rn P C O i t))))), (6, .int (nI (so_rn P C O i t))), (5, .int (nI (so_rn P C O i (v + 1)))), (0, .ref (a 0)), (1, .int (nI t)), (2, .int (nI v))]) hx hb dX0_free_78 hl (k := 3) rfl (so_inc i) (by decide) rfl (fun ls hl => ?_)
                refine lv_goto (tgt := 33) hx hb dX0_free_81 (by decide) ?_
                exact ih (i + 1) _ (by omega) (by rw [hF, so_fs_t c4]) ls (lv_sub hl [0, 1, 4, 5, 6] rfl)
        refine lv_iload_n hx hb dX0_free_24 rfl (lv_at hl 2 rfl) ?_
        refine lv_iload_n hx hb dX0_free_25 rfl (lv_at hl 1 rfl) ?_
        refine lv_isub hx hb dX0_free_26 ?_
        refine lv_iconst (v := 1) hx hb dX0_free_27 (by decide +kernel) ?_
        refine lv_iadd hx hb dX0_free_28 ?_
        refine lv_istore_n (lv' := [(3, .int (((nI v) - (nI t)) + 1)), (0, .ref (a 0)), (1, .int (nI t)), (2, .int (nI v))]) hx hb dX0_free_29 rfl hl (by decide) rfl (fun ls hl => ?_)
        refine lv_iconst (v := nI 0) hx hb dX0_free_30 (by decide +kernel) ?_
        refine lv_istore (lv' := [(4, .int (nI 0)), (3, .int (((nI v) - (nI t)) + 1)), (0, .ref (a 0)), (1, .int (nI t)), (2, .int (nI v))]) hx hb dX0_free_31 hl (by decide) rfl (fun ls hl => ?_)
        exact loop 10 0 _ (by omega) rfl ls (lv_sub hl [0, 1, 2, 3, 4] rfl)
      · refine lv_iconst (v := nI 0) hx hb dX0_free_22 (by decide +kernel) ?_
        exact fin (nI 0) _ _ (so_aFree_0 ht hv c2) dX0_free_23
    · refine lv_bipush (v := (-7)) hx hb dX0_free_14 (by decide +kernel) ?_
      exact fin ((-7)) _ _ (by simp only [so_aFree, c0, c1, Bool.false_eq_true, if_false, if_true]) dX0_free_16
set_option maxHeartbeats 4000000 in
theorem m0_starts (l : Launch) (D : va_G) (a : Nat → Nat) (d : Nat → ClassId) (n : Int32) (u : Nat → Bool) (P C O : Nat → Nat) (ok : so_ok u P C O) (x y z : Int32) : Met l yX0_starts (ws_ yX0_starts cX0_starts 6 (some .int)) (so_R 1) (va_Pc [.ref (a 0), .int x, .int y, .int z] (fun U => so_I0 D a d n u P C O U U.heap)) (vp_Si (fun r => r = so_aSt u P O x y z)) 0 0 (fun _ => False) := by
  refine so_metI (by decide) (Nat.le_of_ble_eq_true rfl) ?_
  intro pg e s m below meth c Q hx hb hml hown hts I fin ls hl
  have hl : lv_has ls 6 [(0, .ref (a 0)), (1, .int x), (2, .int y), (3, .int z)] := hl
  have hown : s.vm.findClass RX0 = some m.cls := hown
  refine lv_aload_n hx hb dX0_starts_0 rfl (lv_at hl 0 rfl) ?_
  refine lv_iload_n hx hb dX0_starts_1 rfl (lv_at hl 1 rfl) ?_
  refine so_cV (N := 1) (As := [.int x]) (rest := []) ⟨hx, hb, hml, hown, hts⟩ (m0_noJob l D a d n u P C O x) (so_pre0 I) q74 q76 qs3 q16 q77 (by decide +kernel) ⟨Nat.le_of_ble_eq_true rfl, Nat.le_of_ble_eq_true rfl⟩ rfl hl.1 rfl (by decide) ⟨Nat.zero_le _, Nat.zero_le _⟩ dX0_starts_2 (fun r hr => ?_)
  have hr : r = so_b (so_nj u x) := hr
  subst hr
  refine so_beq (tgt := 11) hx hb dX0_starts_5 (by decide) (fun c9 => ?_) (fun c9 => ?_)
  · refine lv_iload_n hx hb dX0_starts_11 rfl (lv_at hl 2 rfl) ?_
    refine so_cS (N := 1) (As := [.int y]) (rest := []) ⟨hx, hb, hml, hown, hts⟩ (m0_badTime l y) q86 q87 q16 q88 (by decide +kernel) ⟨Nat.le_of_ble_eq_true rfl, Nat.le_of_ble_eq_true rfl⟩ rfl hl.1 rfl (by decide) ⟨Nat.zero_le _, Nat.zero_le _⟩ dX0_starts_12 (fun r hr => ?_)
    have hr : r = so_b (so_bt y) := hr
    subst hr
    refine so_bne (tgt := 25) hx hb dX0_starts_15 (by decide) (fun c0 => ?_) (fun c0 => ?_)
    · refine lv_bipush (v := (-7)) hx hb dX0_starts_25 (by decide +kernel) ?_
      exact fin ((-7)) _ _ (by simp only [so_aSt, c9, c0, Bool.false_eq_true, if_false, if_true]) dX0_starts_27
    · refine lv_iload_n hx hb dX0_starts_18 rfl (lv_at hl 3 rfl) ?_
      refine so_cS (N := 1) (As := [.int z]) (rest := []) ⟨hx, hb, hml, hown, hts⟩ (m0_badTime l z) q86 q87 q16 q88 (by decide +kernel) ⟨Nat.le_of_ble_eq_true rfl, Nat.le_of_ble_eq_true rfl⟩ rfl hl.1 rfl (by decide) ⟨Nat.zero_le _, Nat.zero_le _⟩ dX0_starts_19 (fun r hr => ?_)
      have hr : r = so_b (so_bt z) := hr
      subst hr
      refine so_beq (tgt := 28) hx hb dX0_starts_22 (by decide) (fun c1 => ?_) (fun c1 => ?_)
      · obtain ⟨j, rfl, hj, hu⟩ := so_nj_f c9
        obtain ⟨t, rfl, ht⟩ := so_bt_f c0
        obtain ⟨v, rfl, hv⟩ := so_bt_f c1
        refine lv_iload_n hx hb dX0_starts_28 rfl (lv_at hl 2 rfl) ?_
        refine lv_iload_n hx hb dX0_starts_29 rfl (lv_at hl 3 rfl) ?_
        refine so_ile (tgt := 35) hx hb dX0_starts_30 (by decide) (by omega) (by omega) (fun c2 => ?_) (fun c2 => ?_)
        · refine lv_aload_n hx hb dX0_starts_35 rfl (lv_at hl 0 rfl) ?_
          refine lv_iload_n hx hb dX0_starts_36 rfl (lv_at hl 1 rfl) ?_
          refine lv_iload_n hx hb dX0_starts_37 rfl (lv_at hl 3 rfl) ?_
          refine lv_iconst (v := nI 1) hx hb dX0_starts_38 (by decide +kernel) ?_
          refine so_add hx hb dX0_starts_39 ?_
          refine so_cV (N := 2) (As := [.int (nI j), .int (nI (v + 1))]) (rest := []) ⟨hx, hb, hml, hown, hts⟩ (m0_begunBefore l D a d n u P C O ok j hj hu (v + 1) (by omega)) (so_pre0 I) q102 q104 qs5 q16 q105 (by decide +kernel) ⟨Nat.le_of_ble_eq_true rfl, Nat.le_of_ble_eq_true rfl⟩ rfl hl.1 rfl (by decide) ⟨Nat.zero_le _, Nat.zero_le _⟩ dX0_starts_40 (fun r1 hr1 => ?_)
          have hr1 : r1 = nI (so_bg P O j (v + 1)) := hr1
          subst hr1
          refine lv_istore (lv' := [(4, .int (nI (so_bg P O j (v + 1)))), (0, .ref (a 0)), (1, .int (nI j)), (2, .int (nI t)), (3, .int (nI v))]) hx hb dX0_starts_43 hl (by decide) rfl (fun ls hl => ?_)
          refine lv_aload_n hx hb dX0_starts_45 rfl (lv_at hl 1 rfl) ?_
          refine lv_iload_n hx hb dX0_starts_46 rfl (lv_at hl 2 rfl) ?_
          refine lv_iload_n hx hb dX0_starts_47 rfl (lv_at hl 3 rfl) ?_
          refine so_cV (N := 2) (As := [.int (nI j), .int (nI t)]) (rest := []) ⟨hx, hb, hml, hown, hts⟩ (m0_begunBefore l D a d n u P C O ok j hj hu t (by omega)) (so_pre0 I) q102 q104 qs5 q16 q105 (by decide +kernel) ⟨Nat.le_of_ble_eq_true rfl, Nat.le_of_ble_eq_true rfl⟩ rfl hl.1 rfl (by decide) ⟨Nat.zero_le _, Nat.zero_le _⟩ dX0_starts_48 (fun r2 hr2 => ?_)
          have hr2 : r2 = nI (so_bg P O j t) := hr2
          subst hr2
          refine lv_istore (lv' := [(5, .int (nI (so_bg P O j t))), (4, .int (nI (so_bg P O j (v + 1)))), (0, .ref (a 0)), (1, .int (nI j)), (2, .int (nI t)), (3, .int (nI v))]) hx hb dX0_starts_51 hl (by decide) rfl (fun ls hl => ?_)
          refine lv_iload hx hb dX0_starts_53 (lv_at hl 1 rfl) ?_
          refine lv_iload hx hb dX0_starts_55 (lv_at hl 0 rfl) ?_
          refine lv_isub hx hb dX0_starts_57 ?_
          exact fin ((nI (so_bg P O j (v + 1))) - (nI (so_bg P O j t))) _ _ (by rw [so_aSt_v hj hu ht hv c2]) dX0_starts_58
        · refine lv_iconst (v := nI 0) hx hb dX0_starts_33 (by decide +kernel) ?_
          exact fin (nI 0) _ _ (so_aSt_0 hj hu ht hv c2) dX0_starts_34
      · refine lv_bipush (v := (-7)) hx hb dX0_starts_25 (by decide +kernel) ?_
        exact fin ((-7)) _ _ (by simp only [so_aSt, c9, c0, c1, Bool.false_eq_true, if_false, if_true]) dX0_starts_27
  · refine lv_bipush (v := (-6)) hx hb dX0_starts_8 (by decide +kernel) ?_
    exact fin ((-6)) _ _ (by simp only [so_aSt, c9, if_true]) dX0_starts_10
set_option maxHeartbeats 4000000 in
theorem m0_nextStart (l : Launch) (D : va_G) (a : Nat → Nat) (d : Nat → ClassId) (n : Int32) (u : Nat → Bool) (P C O : Nat → Nat) (ok : so_ok u P C O) (x : Int32) : Met l yX0_nextStart (ws_ yX0_nextStart cX0_nextStart 6 (some .int)) (so_R 1) (va_Pc [.ref (a 0), .int x] (fun U => so_I0 D a d n u P C O U U.heap)) (vp_Si (fun r => r = so_aNext u P O x)) 0 0 (fun _ => False) := by
  refine so_metI (by decide) (Nat.le_of_ble_eq_true rfl) ?_
  intro pg e s m below meth c Q hx hb hml hown hts I fin ls hl
  have hl : lv_has ls 6 [(0, .ref (a 0)), (1, .int x)] := hl
  have hown : s.vm.findClass RX0 = some m.cls := hown
  refine lv_iload_n hx hb dX0_nextStart_0 rfl (lv_at hl 1 rfl) ?_
  refine so_cS (N := 1) (As := [.int x]) (rest := []) ⟨hx, hb, hml, hown, hts⟩ (m0_badTime l x) q86 q87 q16 q88 (by decide +kernel) ⟨Nat.le_of_ble_eq_true rfl, Nat.le_of_ble_eq_true rfl⟩ rfl hl.1 rfl (by decide) ⟨Nat.zero_le _, Nat.zero_le _⟩ dX0_nextStart_1 (fun r hr => ?_)
  have hr : r = so_b (so_bt x) := hr
  subst hr
  refine so_beq (tgt := 10) hx hb dX0_nextStart_4 (by decide) (fun c0 => ?_) (fun c0 => ?_)
  · obtain ⟨t, rfl, ht⟩ := so_bt_f c0
    have loop : ∀ (k i : Nat) (b : Option Nat), (i + k = 10) → (b = so_nm u (so_nx P O t) i) → ∀ ls : Array Slot, lv_has ls 6 [(3, .int (nI i)), (2, .int (so_an b)), (0, .ref (a 0)), (1, .int (nI t))] → W pg l e (so_R 1) s m ([.ref (a 0), .int (nI t)] : List Value).toArray below meth c s.heap [] 0 0 Q (F0 m 15 ls []) := by
      intro k
      induction k with
      | zero =>
        intro i b hi hF ls hl
        refine lv_iload_n hx hb dX0_nextStart_15 rfl (lv_at hl 0 rfl) ?_
        refine lv_bipush (v := nI 10) hx hb dX0_nextStart_16 (by decide +kernel) ?_
        refine so_ige (tgt := 75) hx hb dX0_nextStart_18 (by decide) (by omega) (by omega) (fun c1 => ?_) (fun c1 => ?_)
        · refine lv_iload_n hx hb dX0_nextStart_75 rfl (lv_at hl 1 rfl) ?_
          exact fin (so_an b) _ _ (by rw [so_aNext_v ht, hF, show i = 10 by omega]) dX0_nextStart_76
        · exfalso; omega
      | succ k ih =>
        intro i b hi hF ls hl
        refine lv_iload_n hx hb dX0_nextStart_15 rfl (lv_at hl 0 rfl) ?_
        refine lv_bipush (v := nI 10) hx hb dX0_nextStart_16 (by decide +kernel) ?_
        refine so_ige (tgt := 75) hx hb dX0_nextStart_18 (by decide) (by omega) (by omega) (fun c1 => ?_) (fun c1 => ?_)
        · exfalso; omega
        · refine lv_aload_n hx hb dX0_nextStart_21 rfl (lv_at hl 2 rfl) ?_
          refine so_g0U hx hb hts hown I dX0_nextStart_22 ?_
          refine lv_iload_n hx hb dX0_nextStart_25 rfl (lv_at hl 0 rfl) ?_
          refine so_l0U hx hb I dX0_nextStart_26 (by omega) ?_
          refine so_beq (tgt := 69) hx hb dX0_nextStart_27 (by decide) (fun c2 => ?_) (fun c2 => ?_)
          · refine lv_iinc (v := nI (i + 1)) (lv' := [(3, .int (nI (i + 1))), (2, .int (so_an b)), (0, .ref (a 0)), (1, .int (nI t))]) hx hb dX0_nextStart_69 hl (k := 0) rfl (so_inc i) (by decide) rfl (fun ls hl => ?_)
            refine lv_goto (tgt := 15) hx hb dX0_nextStart_72 (by decide) ?_
            exact ih (i + 1) b (by omega) (by rw [hF, so_nm_f c2]) ls (lv_sub hl [0, 1, 2, 3] rfl)
          · obtain ⟨a1, a2, a3, a4, a5, a6⟩ := ok i (by omega) c2
            have hN : so_nm u (so_nx P O t) (i + 1) = so_nm1 (so_nx P O t i) b := by rw [hF, so_nm_t c2]
            have hnl := so_nx_lt (O := O) (j := i) (a := t) (show 0 < P i by omega) a2 a6 ht
            refine lv_aload_n hx hb dX0_nextStart_30 rfl (lv_at hl 2 rfl) ?_
            refine lv_iload_n hx hb dX0_nextStart_31 rfl (lv_at hl 0 rfl) ?_
            refine lv_iload_n hx hb dX0_nextStart_32 rfl (lv_at hl 3 rfl) ?_
            refine so_cV (N := 2) (As := [.int (nI i), .int (nI t)]) (rest := []) ⟨hx, hb, hml, hown, hts⟩ (m0_begunBefore l D a d n u P C O ok i (by omega) c2 t (by omega)) (so_pre0 I) q102 q104 qs5 q16 q105 (by decide +kernel) ⟨Nat.le_of_ble_eq_true rfl, Nat.le_of_ble_eq_true rfl⟩ rfl hl.1 rfl (by decide) ⟨Nat.zero_le _, Nat.zero_le _⟩ dX0_nextStart_33 (fun r1 hr1 => ?_)
            have hr1 : r1 = nI (so_bg P O i t) := hr1
            subst hr1
            refine lv_istore (lv' := [(4, .int (nI (so_bg P O i t))), (3, .int (nI i)), (2, .int (so_an b)), (0, .ref (a 0)), (1, .int (nI t))]) hx hb dX0_nextStart_36 hl (by decide) rfl (fun ls hl => ?_)
            refine lv_aload_n hx hb dX0_nextStart_38 rfl (lv_at hl 3 rfl) ?_
            refine so_g0O hx hb hts hown I dX0_nextStart_39 ?_
            refine lv_iload_n hx hb dX0_nextStart_42 rfl (lv_at hl 1 rfl) ?_
            refine so_l0O hx hb I dX0_nextStart_43 (by omega) ?_
            refine lv_iload hx hb dX0_nextStart_44 (lv_at hl 0 rfl) ?_
            refine lv_aload_n hx hb dX0_nextStart_46 rfl (lv_at hl 3 rfl) ?_
            refine so_g0P hx hb hts hown I dX0_nextStart_47 ?_
            refine lv_iload_n hx hb dX0_nextStart_50 rfl (lv_at hl 1 rfl) ?_
            refine so_l0P hx hb I dX0_nextStart_51 (by omega) ?_
            refine so_mul hx hb dX0_nextStart_52 ?_
            refine so_add hx hb dX0_nextStart_53 ?_
            refine so_as (y := nI (so_nx P O t i)) (rfl) ?_
            cases b with
            | none =>
              refine lv_istore (lv' := [(5, .int (nI (so_nx P O t i))), (4, .int (nI (so_bg P O i t))), (3, .int (nI i)), (2, .int (so_an none)), (0, .ref (a 0)), (1, .int (nI t))]) hx hb dX0_nextStart_54 hl (by decide) rfl (fun ls hl => ?_)
              refine lv_iload_n hx hb dX0_nextStart_56 rfl (lv_at hl 3 rfl) ?_
              refine lv_if_lt (tgt := 66) hx hb dX0_nextStart_57 (by decide) (fun c3 => ?_) (fun c3 => ?_)
              · refine lv_iload hx hb dX0_nextStart_66 (lv_at hl 0 rfl) ?_
                refine lv_istore_n (lv' := [(2, .int (nI (so_nx P O t i))), (5, .int (nI (so_nx P O t i))), (4, .int (nI (so_bg P O i t))), (3, .int (nI i)), (0, .ref (a 0)), (1, .int (nI t))]) hx hb dX0_nextStart_68 rfl hl (by decide) rfl (fun ls hl => ?_)
                refine lv_iinc (v := nI (i + 1)) (lv' := [(3, .int (nI (i + 1))), (2, .int (nI (so_nx P O t i))), (5, .int (nI (so_nx P O t i))), (4, .int (nI (so_bg P O i t))), (0, .ref (a 0)), (1, .int (nI t))]) hx hb dX0_nextStart_69 hl (k := 3) rfl (so_inc i) (by decide) rfl (fun ls hl => ?_)
                refine lv_goto (tgt := 15) hx hb dX0_nextStart_72 (by decide) ?_
                exact ih (i + 1) (some (so_nx P O t i)) (by omega) hN.symm ls (lv_sub hl [0, 1, 4, 5] rfl)
              · exact absurd (show so_an none < 0 by decide +kernel) c3
            | some z =>
              have hz := so_nm_lt ok ht (show i ≤ 10 by omega) hF.symm
              have hl : lv_has ls 6 [(4, .int (nI (so_bg P O i t))), (3, .int (nI i)), (2, .int (nI z)), (0, .ref (a 0)), (1, .int (nI t))] := hl
              refine lv_istore (lv' := [(5, .int (nI (so_nx P O t i))), (4, .int (nI (so_bg P O i t))), (3, .int (nI i)), (2, .int (nI z)), (0, .ref (a 0)), (1, .int (nI t))]) hx hb dX0_nextStart_54 hl (by decide) rfl (fun ls hl => ?_)
              refine lv_iload_n hx hb dX0_nextStart_56 rfl (lv_at hl 3 rfl) ?_
              refine lv_if_lt (tgt := 66) hx hb dX0_nextStart_57 (by decide) (fun c3 => ?_) (fun c3 => ?_)
              · exact absurd c3 (nI_pos (by omega))
              · refine lv_iload hx hb dX0_nextStart_60 (lv_at hl 0 rfl) ?_
                refine lv_iload_n hx hb dX0_nextStart_62 rfl (lv_at hl 3 rfl) ?_
                refine so_ige (tgt := 69) hx hb dX0_nextStart_63 (by decide) (by omega) (by omega) (fun c4 => ?_) (fun c4 => ?_)
                · refine lv_iinc (v := nI (i + 1)) (lv' := [(3, .int (nI (i + 1))), (5, .int (nI (so_nx P O t i))), (4, .int (nI (so_bg P O i t))), (2, .int (nI z)), (0, .ref (a 0)), (1, .int (nI t))]) hx hb dX0_nextStart_69 hl (k := 2) rfl (so_inc i) (by decide) rfl (fun ls hl => ?_)
                  refine lv_goto (tgt := 15) hx hb dX0_nextStart_72 (by decide) ?_
                  exact ih (i + 1) (some z) (by omega) (by rw [hN, so_nm1, if_neg (by omega)]) ls (lv_sub hl [0, 3, 4, 5] rfl)
                · refine lv_iload hx hb dX0_nextStart_66 (lv_at hl 0 rfl) ?_
                  refine lv_istore_n (lv' := [(2, .int (nI (so_nx P O t i))), (5, .int (nI (so_nx P O t i))), (4, .int (nI (so_bg P O i t))), (3, .int (nI i)), (0, .ref (a 0)), (1, .int (nI t))]) hx hb dX0_nextStart_68 rfl hl (by decide) rfl (fun ls hl => ?_)
                  refine lv_iinc (v := nI (i + 1)) (lv' := [(3, .int (nI (i + 1))), (2, .int (nI (so_nx P O t i))), (5, .int (nI (so_nx P O t i))), (4, .int (nI (so_bg P O i t))), (0, .ref (a 0)), (1, .int (nI t))]) hx hb dX0_nextStart_69 hl (k := 3) rfl (so_inc i) (by decide) rfl (fun ls hl => ?_)
                  refine lv_goto (tgt := 15) hx hb dX0_nextStart_72 (by decide) ?_
                  exact ih (i + 1) (some (so_nx P O t i)) (by omega) (by rw [hN, so_nm1, if_pos c4]) ls (lv_sub hl [0, 1, 4, 5] rfl)
    refine lv_bipush (v := (-6)) hx hb dX0_nextStart_10 (by decide +kernel) ?_
    refine so_as (y := so_an none) (rfl) ?_
    refine lv_istore_n (lv' := [(2, .int (so_an none)), (0, .ref (a 0)), (1, .int (nI t))]) hx hb dX0_nextStart_12 rfl hl (by decide) rfl (fun ls hl => ?_)
    refine lv_iconst (v := nI 0) hx hb dX0_nextStart_13 (by decide +kernel) ?_
    refine lv_istore_n (lv' := [(3, .int (nI 0)), (2, .int (so_an none)), (0, .ref (a 0)), (1, .int (nI t))]) hx hb dX0_nextStart_14 rfl hl (by decide) rfl (fun ls hl => ?_)
    exact loop 10 0 none (by omega) rfl ls (lv_sub hl [0, 1, 2, 3] rfl)
  · refine lv_bipush (v := (-7)) hx hb dX0_nextStart_7 (by decide +kernel) ?_
    exact fin ((-7)) _ _ (by simp only [so_aNext, c0, if_true]) dX0_nextStart_9
set_option maxHeartbeats 4000000 in
theorem m0_room (l : Launch) (D : va_G) (a : Nat → Nat) (d : Nat → ClassId) (n : Int32) (u : Nat → Bool) (P C O : Nat → Nat) (ok : so_ok u P C O) (x : Int32) : Met l yX0_room (ws_ yX0_room cX0_room 5 (some .int)) (so_R 3) (va_Pc [.ref (a 0), .int x] (fun U => so_I0 D a d n u P C O U U.heap)) (vp_Si (fun r => r = so_aRoom u P C O x)) 0 0 (fun _ => False) := by
  refine so_metI (by decide) (Nat.le_of_ble_eq_true rfl) ?_
  intro pg e s m below meth c Q hx hb hml hown hts I fin ls hl
  have hl : lv_has ls 5 [(0, .ref (a 0)), (1, .int x)] := hl
  have hown : s.vm.findClass RX0 = some m.cls := hown
  refine lv_iload_n hx hb dX0_room_0 rfl (lv_at hl 1 rfl) ?_
  refine so_cS (N := 1) (As := [.int x]) (rest := []) ⟨hx, hb, hml, hown, hts⟩ (m0_badPeriod l x) q48 q49 q16 q50 (by decide +kernel) ⟨Nat.le_of_ble_eq_true rfl, Nat.le_of_ble_eq_true rfl⟩ rfl hl.1 rfl (by decide) ⟨Nat.zero_le _, Nat.zero_le _⟩ dX0_room_1 (fun r hr => ?_)
  have hr : r = so_b (so_bp x) := hr
  subst hr
  refine so_beq (tgt := 9) hx hb dX0_room_4 (by decide) (fun c0 => ?_) (fun c0 => ?_)
  · obtain ⟨p, rfl, hp1, hp2, hp3⟩ := so_bp_f c0
    have loop : ∀ (k i r : Nat), (i + k = p) → (r = so_mx (so_ra u P C O p) i) → ∀ ls : Array Slot, lv_has ls 5 [(3, .int (nI i)), (2, .int (nI r)), (0, .ref (a 0)), (1, .int (nI p))] → W pg l e (so_R 3) s m ([.ref (a 0), .int (nI p)] : List Value).toArray below meth c s.heap [] 0 0 Q (F0 m 13 ls []) := by
      intro k
      induction k with
      | zero =>
        intro i r hi hr ls hl
        refine lv_iload_n hx hb dX0_room_13 rfl (lv_at hl 0 rfl) ?_
        refine lv_iload_n hx hb dX0_room_14 rfl (lv_at hl 3 rfl) ?_
        refine so_ige (tgt := 41) hx hb dX0_room_15 (by decide) (by omega) (by omega) (fun c1 => ?_) (fun c1 => ?_)
        · refine lv_iload_n hx hb dX0_room_41 rfl (lv_at hl 1 rfl) ?_
          exact fin (nI r) _ _ (by rw [so_aRoom_v hp1 hp2 hp3, hr, show i = p by omega]) dX0_room_42
        · exfalso; omega
      | succ k ih =>
        intro i r hi hr ls hl
        have hml2 := so_mx_le (so_ra u P C O p) p (so_ra_le u P C O p) i
        have hrl := so_ra_le u P C O p i
        refine lv_iload_n hx hb dX0_room_13 rfl (lv_at hl 0 rfl) ?_
        refine lv_iload_n hx hb dX0_room_14 rfl (lv_at hl 3 rfl) ?_
        refine so_ige (tgt := 41) hx hb dX0_room_15 (by decide) (by omega) (by omega) (fun c1 => ?_) (fun c1 => ?_)
        · exfalso; omega
        · refine lv_aload_n hx hb dX0_room_18 rfl (lv_at hl 2 rfl) ?_
          refine lv_iload_n hx hb dX0_room_19 rfl (lv_at hl 3 rfl) ?_
          refine lv_iload_n hx hb dX0_room_20 rfl (lv_at hl 0 rfl) ?_
          refine so_cV (N := 2) (As := [.int (nI p), .int (nI i)]) (rest := []) ⟨hx, hb, hml, hown, hts⟩ (m0_roomAt l D a d n u P C O ok p hp1 hp2 hp3 i (by omega)) (so_pre0 I) q51 q53 qs0 q16 q54 (by decide +kernel) ⟨Nat.le_of_ble_eq_true rfl, Nat.le_of_ble_eq_true rfl⟩ rfl hl.1 rfl (by decide) ⟨Nat.zero_le _, Nat.zero_le _⟩ dX0_room_21 (fun r1 hr1 => ?_)
          have hr1 : r1 = nI (so_ra u P C O p i) := hr1
          subst hr1
          refine lv_istore (lv' := [(4, .int (nI (so_ra u P C O p i))), (3, .int (nI i)), (2, .int (nI r)), (0, .ref (a 0)), (1, .int (nI p))]) hx hb dX0_room_24 hl (by decide) rfl (fun ls hl => ?_)
          refine lv_iload hx hb dX0_room_26 (lv_at hl 0 rfl) ?_
          refine lv_iload_n hx hb dX0_room_28 rfl (lv_at hl 2 rfl) ?_
          refine so_ile (tgt := 35) hx hb dX0_room_29 (by decide) (by omega) (by omega) (fun c2 => ?_) (fun c2 => ?_)
          · refine lv_iinc (v := nI (i + 1)) (lv' := [(3, .int (nI (i + 1))), (4, .int (nI (so_ra u P C O p i))), (2, .int (nI r)), (0, .ref (a 0)), (1, .int (nI p))]) hx hb dX0_room_35 hl (k := 1) rfl (so_inc i) (by decide) rfl (fun ls hl => ?_)
            refine lv_goto (tgt := 13) hx hb dX0_room_38 (by decide) ?_
            exact ih (i + 1) r (by omega) (by rw [hr, so_mx_k (by omega)]) ls (lv_sub hl [0, 2, 3, 4] rfl)
          · refine lv_iload hx hb dX0_room_32 (lv_at hl 0 rfl) ?_
            refine lv_istore_n (lv' := [(2, .int (nI (so_ra u P C O p i))), (4, .int (nI (so_ra u P C O p i))), (3, .int (nI i)), (0, .ref (a 0)), (1, .int (nI p))]) hx hb dX0_room_34 rfl hl (by decide) rfl (fun ls hl => ?_)
            refine lv_iinc (v := nI (i + 1)) (lv' := [(3, .int (nI (i + 1))), (2, .int (nI (so_ra u P C O p i))), (4, .int (nI (so_ra u P C O p i))), (0, .ref (a 0)), (1, .int (nI p))]) hx hb dX0_room_35 hl (k := 2) rfl (so_inc i) (by decide) rfl (fun ls hl => ?_)
            refine lv_goto (tgt := 13) hx hb dX0_room_38 (by decide) ?_
            exact ih (i + 1) (so_ra u P C O p i) (by omega) (by rw [so_mx_l (by omega)]) ls (lv_sub hl [0, 1, 3, 4] rfl)
    refine lv_iconst (v := nI 0) hx hb dX0_room_9 (by decide +kernel) ?_
    refine lv_istore_n (lv' := [(2, .int (nI 0)), (0, .ref (a 0)), (1, .int (nI p))]) hx hb dX0_room_10 rfl hl (by decide) rfl (fun ls hl => ?_)
    refine lv_iconst (v := nI 0) hx hb dX0_room_11 (by decide +kernel) ?_
    refine lv_istore_n (lv' := [(3, .int (nI 0)), (2, .int (nI 0)), (0, .ref (a 0)), (1, .int (nI p))]) hx hb dX0_room_12 rfl hl (by decide) rfl (fun ls hl => ?_)
    exact loop p 0 0 (by omega) rfl ls (lv_sub hl [0, 1, 2, 3] rfl)
  · refine lv_iconst (v := (-1)) hx hb dX0_room_7 (by decide +kernel) ?_
    exact fin ((-1)) _ _ (by simp only [so_aRoom, c0, if_true]) dX0_room_8
set_option maxHeartbeats 4000000 in
theorem m0_load (l : Launch) (D : va_G) (a : Nat → Nat) (d : Nat → ClassId) (n : Int32) (u : Nat → Bool) (P C O : Nat → Nat) (ok : so_ok u P C O) : Met l yX0_load (ws_ yX0_load cX0_load 3 (some .int)) (so_R 0) (va_Pc [.ref (a 0)] (fun U => so_I0 D a d n u P C O U U.heap)) (vp_Si (fun r => r = so_aLoad u P C)) 0 0 (fun _ => False) := by
  refine so_metI (by decide) (Nat.le_of_ble_eq_true rfl) ?_
  intro pg e s m below meth c Q hx hb hml hown hts I fin ls hl
  have hl : lv_has ls 3 [(0, .ref (a 0))] := hl
  have hown : s.vm.findClass RX0 = some m.cls := hown
  have loop : ∀ (k i r : Nat), (i + k = 10) → (r = so_ld u P C i) → ∀ ls : Array Slot, lv_has ls 3 [(2, .int (nI i)), (1, .int (nI r)), (0, .ref (a 0))] → W pg l e (so_R 0) s m ([.ref (a 0)] : List Value).toArray below meth c s.heap [] 0 0 Q (F0 m 4 ls []) := by
    intro k
    induction k with
    | zero =>
      intro i r hi hr ls hl
      refine lv_iload_n hx hb dX0_load_4 rfl (lv_at hl 0 rfl) ?_
      refine lv_bipush (v := nI 10) hx hb dX0_load_5 (by decide +kernel) ?_
      refine so_ige (tgt := 45) hx hb dX0_load_7 (by decide) (by omega) (by omega) (fun c1 => ?_) (fun c1 => ?_)
      · refine lv_iload_n hx hb dX0_load_45 rfl (lv_at hl 1 rfl) ?_
        exact fin (nI r) _ _ (by rw [hr, show i = 10 by omega]; rfl) dX0_load_46
      · exfalso; omega
    | succ k ih =>
      intro i r hi hr ls hl
      refine lv_iload_n hx hb dX0_load_4 rfl (lv_at hl 0 rfl) ?_
      refine lv_bipush (v := nI 10) hx hb dX0_load_5 (by decide +kernel) ?_
      refine so_ige (tgt := 45) hx hb dX0_load_7 (by decide) (by omega) (by omega) (fun c1 => ?_) (fun c1 => ?_)
      · exfalso; omega
      · refine lv_aload_n hx hb dX0_load_10 rfl (lv_at hl 2 rfl) ?_
        refine so_g0U hx hb hts hown I dX0_load_11 ?_
        refine lv_iload_n hx hb dX0_load_14 rfl (lv_at hl 0 rfl) ?_
        refine so_l0U hx hb I dX0_load_15 (by omega) ?_
        refine so_beq (tgt := 39) hx hb dX0_load_16 (by decide) (fun c2 => ?_) (fun c2 => ?_)
        · refine lv_iinc (v := nI (i + 1)) (lv' := [(2, .int (nI (i + 1))), (1, .int (nI r)), (0, .ref (a 0))]) hx hb dX0_load_39 hl (k := 0) rfl (so_inc i) (by decide) rfl (fun ls hl => ?_)
          refine lv_goto (tgt := 4) hx hb dX0_load_42 (by decide) ?_
          exact ih (i + 1) r (by omega) (by rw [hr, so_ld_f c2]) ls (lv_sub hl [0, 1, 2] rfl)
        · obtain ⟨a1, a2, a3, a4, a5, a6⟩ := ok i (by omega) c2
          refine lv_iload_n hx hb dX0_load_19 rfl (lv_at hl 1 rfl) ?_
          refine lv_sipush (v := nI 360) hx hb dX0_load_20 (by decide +kernel) ?_
          refine lv_aload_n hx hb dX0_load_23 rfl (lv_at hl 2 rfl) ?_
          refine so_g0P hx hb hts hown I dX0_load_24 ?_
          refine lv_iload_n hx hb dX0_load_27 rfl (lv_at hl 0 rfl) ?_
          refine so_l0P hx hb I dX0_load_28 (by omega) ?_
          refine so_div hx hb dX0_load_29 (by omega) (by omega) (by omega) ?_
          refine lv_aload_n hx hb dX0_load_30 rfl (lv_at hl 2 rfl) ?_
          refine so_g0C hx hb hts hown I dX0_load_31 ?_
          refine lv_iload_n hx hb dX0_load_34 rfl (lv_at hl 0 rfl) ?_
          refine so_l0C hx hb I dX0_load_35 (by omega) ?_
          refine so_mul hx hb dX0_load_36 ?_
          refine so_add hx hb dX0_load_37 ?_
          refine lv_istore_n (lv' := [(1, .int (nI (r + ((360 / (P i)) * (C i))))), (2, .int (nI i)), (0, .ref (a 0))]) hx hb dX0_load_38 rfl hl (by decide) rfl (fun ls hl => ?_)
          refine lv_iinc (v := nI (i + 1)) (lv' := [(2, .int (nI (i + 1))), (1, .int (nI (r + ((360 / (P i)) * (C i))))), (0, .ref (a 0))]) hx hb dX0_load_39 hl (k := 1) rfl (so_inc i) (by decide) rfl (fun ls hl => ?_)
          refine lv_goto (tgt := 4) hx hb dX0_load_42 (by decide) ?_
          exact ih (i + 1) _ (by omega) (by rw [hr, so_ld_t c2]) ls (lv_sub hl [0, 1, 2] rfl)
  refine lv_iconst (v := nI 0) hx hb dX0_load_0 (by decide +kernel) ?_
  refine lv_istore_n (lv' := [(1, .int (nI 0)), (0, .ref (a 0))]) hx hb dX0_load_1 rfl hl (by decide) rfl (fun ls hl => ?_)
  refine lv_iconst (v := nI 0) hx hb dX0_load_2 (by decide +kernel) ?_
  refine lv_istore_n (lv' := [(2, .int (nI 0)), (1, .int (nI 0)), (0, .ref (a 0))]) hx hb dX0_load_3 rfl hl (by decide) rfl (fun ls hl => ?_)
  exact loop 10 0 0 (by omega) rfl ls (lv_sub hl [0, 1, 2] rfl)
end
section
/-! ===== small facts for the model's walks ===== -/
theorem so_cs_t {g : Nat → Bool} {t : Nat} (h : g t = true) : fb_ct g (t + 1) = fb_ct g t + 1 := by rw [fb_ct_succ, h]; rfl
theorem so_cs_f {g : Nat → Bool} {t : Nat} (h : g t = false) : fb_ct g (t + 1) = fb_ct g t := by rw [fb_ct_succ, h]; rfl
theorem so_g1_1 {f : Nat → Bool} {n t : Nat} (hf : f t = true) (h1 : t < 360) (h2 : t < n) : so_g1 f n t = true := by simp only [so_g1, hf, decide_eq_true h1, decide_eq_true h2, Bool.and_self]
theorem so_g1_0 {f : Nat → Bool} {n t : Nat} (h : ¬ (t < 360 ∧ t < n)) : so_g1 f n t = false := by
  by_cases h1 : t < 360
  · simp only [so_g1, decide_eq_false (show ¬ t < n from fun q => h ⟨h1, q⟩), Bool.and_false]
  · simp only [so_g1, decide_eq_false h1, Bool.false_and, Bool.and_false]
theorem so_g2_1 {f : Nat → Bool} {r t : Nat} (hf : f t = true) (h1 : 360 ≤ t) (h2 : t < 360 + r) : so_g2 f r t = true := by simp only [so_g2, hf, decide_eq_true h1, decide_eq_true h2, Bool.and_self]
theorem so_g2_0 {f : Nat → Bool} {r t : Nat} (h : ¬ (360 ≤ t ∧ t < 360 + r)) : so_g2 f r t = false := by
  by_cases h1 : 360 ≤ t
  · simp only [so_g2, decide_eq_false (show ¬ t < 360 + r from fun q => h ⟨h1, q⟩), Bool.and_false]
  · simp only [so_g2, decide_eq_false h1, Bool.false_and, Bool.and_false]
theorem so_g3_1 {f : Nat → Bool} {t : Nat} (hf : f t = true) (h1 : 360 ≤ t) : so_g3 f t = true := by simp only [so_g3, hf, decide_eq_true h1, Bool.and_self]
theorem so_g3_0 {f : Nat → Bool} {t : Nat} (h : ¬ 360 ≤ t) : so_g3 f t = false := by simp only [so_g3, decide_eq_false h, Bool.and_false]
theorem so_gx {f : Nat → Bool} {n r t : Nat} (hf : f t = false) : so_g1 f n t = false ∧ so_g2 f r t = false ∧ so_g3 f t = false := by simp only [so_g1, so_g2, so_g3, hf, Bool.false_and, and_self]
/-- the inner loop of 'longest': kk slots looked at, all begun within 360 -/
def so_J (f : Nat → Bool) (p y r i kk : Nat) (bv : Bool) : Prop := (∀ z, z < kk → z * p < 360) ∧ (bv = true ↔ r = i ∧ ∀ z, z < kk → f (360 + (y + z * p)) = true)
theorem so_J_0 {f : Nat → Bool} {p y r i : Nat} {bv : Bool} (h : bv = true ↔ r = i) : so_J f p y r i 0 bv := ⟨fun z hz => by omega, by rw [h]; exact ⟨fun q => ⟨q, fun z hz => by omega⟩, fun q => q.1⟩⟩
theorem so_J_s {f : Nat → Bool} {p y r i kk : Nat} {bv : Bool} (h : so_J f p y r i kk true) (hk : kk * p < 360) (hb : bv = f (360 + (y + kk * p))) : so_J f p y r i (kk + 1) bv := by
  obtain ⟨h1, h2⟩ := h
  obtain ⟨h3, h4⟩ := h2.mp rfl
  refine ⟨fun z hz => ?_, ?_⟩
  · rcases Nat.lt_or_ge z kk with q | q
    · exact h1 z q
    · rw [show z = kk by omega]; exact hk
  · constructor
    · intro q
      refine ⟨h3, fun z hz => ?_⟩
      rcases Nat.lt_or_ge z kk with q2 | q2
      · exact h4 z q2
      · rw [show z = kk by omega, ← hb]; exact q
    · intro q
      rw [hb]; exact q.2 kk (by omega)
theorem so_J_x {f : Nat → Bool} {p y r i kk : Nat} {bv : Bool} (hp : 0 < p) (h : so_J f p y r i kk bv) (hx : bv = false ∨ 360 ≤ kk * p) : bv = true ↔ r = i ∧ so_gd f p y = true := by
  obtain ⟨h1, h2⟩ := h
  have small : ∀ z, z * p < 360 → z < 360 := fun z hz => by
    have : z * 1 ≤ z * p := Nat.mul_le_mul_left z hp
    omega
  constructor
  · intro q
    obtain ⟨h3, h4⟩ := h2.mp q
    refine ⟨h3, so_gd_def.mpr (fun z _ hz => h4 z ?_)⟩
    rcases hx with e | e
    · rw [e] at q; cases q
    · exact Nat.lt_of_mul_lt_mul_right (a := p) (by omega)
  · intro q
    exact h2.mpr ⟨q.1, fun z hz => so_gd_def.mp q.2 z (small z (h1 z hz)) (h1 z hz)⟩
theorem so_lg_t {g : Nat → Bool} {i : Nat} (h : so_lg g i = i ∧ g i = true) : so_lg g (i + 1) = so_lg g i + 1 := by simp only [so_lg, if_pos h]
theorem so_lg_f {g : Nat → Bool} {i : Nat} (h : ¬ (so_lg g i = i ∧ g i = true)) : so_lg g (i + 1) = so_lg g i := by simp only [so_lg, if_neg h]
theorem so_frT {u : Nat → Bool} {P C O : Nat → Nat} {t : Nat} (ht : t ≤ 1000000000) (h : so_aRun u P C O (nI t) = -6) : so_fr u P C O t = true := (so_free_iff u P C O t).mp (by rw [← so_aRun_v ht]; exact h)
theorem so_frF {u : Nat → Bool} {P C O : Nat → Nat} {t : Nat} (ht : t ≤ 1000000000) (h : ¬ so_aRun u P C O (nI t) = -6) : so_fr u P C O t = false := by
  cases hf : so_fr u P C O t with
  | false => rfl
  | true => exact absurd (by rw [so_aRun_v ht]; exact (so_free_iff u P C O t).mpr hf) h
theorem so_any_t {f : Nat → Bool} {k i : Nat} (h : f i = true) : so_any f (k + 1) i = true := by simp only [so_any, h, Bool.true_or]
theorem so_any_f {f : Nat → Bool} {k i : Nat} (h : f i = false) : so_any f (k + 1) i = so_any f k (i + 1) := by simp only [so_any, h, Bool.false_or]
theorem so_bgs_u {u : Nat → Bool} {P O : Nat → Nat} {t j : Nat} (h : u j = false) : so_bgs u P O t j = false := by simp only [so_bgs, h, Bool.false_and]
theorem so_bgs_o {u : Nat → Bool} {P O : Nat → Nat} {t j : Nat} (h : t < O j) : so_bgs u P O t j = false := by simp only [so_bgs, decide_eq_false (show ¬ O j ≤ t by omega), Bool.false_and, Bool.and_false]
theorem so_bgs_r {u : Nat → Bool} {P O : Nat → Nat} {t j : Nat} (h : 0 < (t - O j) % P j) : so_bgs u P O t j = false := by simp only [so_bgs, decide_eq_false (show ¬ (t - O j) % P j = 0 by omega), Bool.and_false]
theorem so_bgs_t {u : Nat → Bool} {P O : Nat → Nat} {t j : Nat} (h1 : u j = true) (h2 : O j ≤ t) (h3 : (t - O j) % P j = 0) : so_bgs u P O t j = true := by simp only [so_bgs, h1, decide_eq_true h2, decide_eq_true h3, Bool.and_self]
theorem so_tn_t {f : Nat → Bool} {k i : Nat} (h : f i = true) : so_tn f (k + 1) i = some i := by simp only [so_tn, h, if_true]
theorem so_tn_f {f : Nat → Bool} {k i : Nat} (h : f i = false) : so_tn f (k + 1) i = so_tn f k (i + 1) := by simp only [so_tn, h, Bool.false_eq_true, if_false]
theorem so_bg_0 {P O : Nat → Nat} {j t : Nat} (h : t ≤ O j) : so_bg P O j t = 0 := by rw [so_bg, if_pos h]
theorem so_bg_v {P O : Nat → Nat} {j t : Nat} (h : O j ≤ t) : so_bg P O j (t + 1) = (t - O j) / P j + 1 := by rw [so_bg, if_neg (by omega), show t + 1 - O j - 1 = t - O j by omega]
theorem so_bg_w {P O : Nat → Nat} {j t : Nat} (h : O j < t) : so_bg P O j t = (t - 1 - O j) / P j + 1 := by rw [so_bg, if_neg (by omega), show t - O j - 1 = t - 1 - O j by omega]
end
section
/-! ===== StrictOffsetsModel: the methods that only read ===== -/
set_option maxRecDepth 100000
set_option maxHeartbeats 4000000 in
theorem m1_badPeriod (l : Launch) (D : va_G) (a : Nat → Nat) (d : Nat → ClassId) (u : Nat → Bool) (P C O : Nat → Nat) (x : Int32) : Met l yX1_badPeriod (ws_ yX1_badPeriod cX1_badPeriod 2 (some .boolean)) (so_R 0) (va_Pc [.ref (a 0), .int x] (fun U => so_I1 D a d u P C O U U.heap)) (vp_Si (fun r => r = so_b (so_bp x))) 0 0 (fun _ => False) := by
  refine so_metZ (by decide) (Nat.le_of_ble_eq_true rfl) ?_
  intro pg e s m below meth c Q hx hb hml hown hts I fin ls hl
  have hl : lv_has ls 2 [(0, .ref (a 0)), (1, .int x)] := hl
  have hown : s.vm.findClass RX1 = some m.cls := hown
  refine lv_iload_n hx hb dX1_badPeriod_0 rfl (lv_at hl 1 rfl) ?_
  refine lv_iconst (v := 2) hx hb dX1_badPeriod_1 (by decide +kernel) ?_
  refine lv_icmp_lt (tgt := 12) hx hb dX1_badPeriod_2 (by decide) (fun c1 => ?_) (fun c1 => ?_)
  · refine lv_iconst (v := so_b true) hx hb dX1_badPeriod_12 (by decide +kernel) ?_
    exact fin true _ _ (so_bp_1 c1) dX1_badPeriod_13
  · refine lv_iload_n hx hb dX1_badPeriod_5 rfl (lv_at hl 1 rfl) ?_
    refine lv_sipush (v := 360) hx hb dX1_badPeriod_6 (by decide +kernel) ?_
    refine lv_icmp_le (tgt := 14) hx hb dX1_badPeriod_9 (by decide) (fun c2 => ?_) (fun c2 => ?_)
    · obtain ⟨p, rfl, hp1, hp2⟩ := so_bp_r2 c1 c2
      have hm := Nat.mod_le 360 p
      refine lv_sipush (v := nI 360) hx hb dX1_badPeriod_14 (by decide +kernel) ?_
      refine lv_iload_n hx hb dX1_badPeriod_17 rfl (lv_at hl 1 rfl) ?_
      refine so_rem hx hb dX1_badPeriod_18 (by omega) (by omega) (by omega) ?_
      refine so_zeq (tgt := 26) hx hb dX1_badPeriod_19 (by decide) (by omega) (fun c3 => ?_) (fun c3 => ?_)
      · refine lv_iconst (v := so_b false) hx hb dX1_badPeriod_26 (by decide +kernel) ?_
        exact fin false _ _ (so_bp_4 hp1 hp2 c3) dX1_badPeriod_27
      · refine lv_iconst (v := so_b true) hx hb dX1_badPeriod_22 (by decide +kernel) ?_
        refine lv_goto (tgt := 27) hx hb dX1_badPeriod_23 (by decide) ?_
        exact fin true _ _ (so_bp_3 hp1 hp2 c3) dX1_badPeriod_27
    · refine lv_iconst (v := so_b true) hx hb dX1_badPeriod_12 (by decide +kernel) ?_
      exact fin true _ _ (so_bp_5 c2) dX1_badPeriod_13
set_option maxHeartbeats 4000000 in
theorem m1_badTime (l : Launch) (D : va_G) (a : Nat → Nat) (d : Nat → ClassId) (u : Nat → Bool) (P C O : Nat → Nat) (x : Int32) : Met l yX1_badTime (ws_ yX1_badTime cX1_badTime 2 (some .boolean)) (so_R 0) (va_Pc [.ref (a 0), .int x] (fun U => so_I1 D a d u P C O U U.heap)) (vp_Si (fun r => r = so_b (so_bt x))) 0 0 (fun _ => False) := by
  refine so_metZ (by decide) (Nat.le_of_ble_eq_true rfl) ?_
  intro pg e s m below meth c Q hx hb hml hown hts I fin ls hl
  have hl : lv_has ls 2 [(0, .ref (a 0)), (1, .int x)] := hl
  have hown : s.vm.findClass RX1 = some m.cls := hown
  refine lv_iload_n hx hb dX1_badTime_0 rfl (lv_at hl 1 rfl) ?_
  refine lv_if_lt (tgt := 10) hx hb dX1_badTime_1 (by decide) (fun c1 => ?_) (fun c1 => ?_)
  · refine lv_iconst (v := so_b true) hx hb dX1_badTime_10 (by decide +kernel) ?_
    refine lv_goto (tgt := 15) hx hb dX1_badTime_11 (by decide) ?_
    exact fin true _ _ (so_bt_1 c1) dX1_badTime_15
  · refine lv_iload_n hx hb dX1_badTime_4 rfl (lv_at hl 1 rfl) ?_
    refine lv_ldc (v := 1000000000) hx hb hown (hts _ q158) dX1_badTime_5 ?_
    refine lv_icmp_le (tgt := 14) hx hb dX1_badTime_7 (by decide) (fun c2 => ?_) (fun c2 => ?_)
    · refine lv_iconst (v := so_b false) hx hb dX1_badTime_14 (by decide +kernel) ?_
      exact fin false _ _ (so_bt_0 c1 c2) dX1_badTime_15
    · refine lv_iconst (v := so_b true) hx hb dX1_badTime_10 (by decide +kernel) ?_
      refine lv_goto (tgt := 15) hx hb dX1_badTime_11 (by decide) ?_
      exact fin true _ _ (so_bt_2 c2) dX1_badTime_15
set_option maxHeartbeats 4000000 in
theorem m1_none (l : Launch) (D : va_G) (a : Nat → Nat) (d : Nat → ClassId) (u : Nat → Bool) (P C O : Nat → Nat) (ok : so_ok u P C O) (x : Int32) : Met l yX1_none (ws_ yX1_none cX1_none 2 (some .boolean)) (so_R 0) (va_Pc [.ref (a 0), .int x] (fun U => so_I1 D a d u P C O U U.heap)) (vp_Si (fun r => r = so_b (so_nj u x))) 0 0 (fun _ => False) := by
  refine so_metZ (by decide) (Nat.le_of_ble_eq_true rfl) ?_
  intro pg e s m below meth c Q hx hb hml hown hts I fin ls hl
  have hl : lv_has ls 2 [(0, .ref (a 0)), (1, .int x)] := hl
  have hown : s.vm.findClass RX1 = some m.cls := hown
  refine lv_iload_n hx hb dX1_none_0 rfl (lv_at hl 1 rfl) ?_
  refine lv_if_lt (tgt := 19) hx hb dX1_none_1 (by decide) (fun c1 => ?_) (fun c1 => ?_)
  · refine lv_iconst (v := so_b true) hx hb dX1_none_19 (by decide +kernel) ?_
    refine lv_goto (tgt := 24) hx hb dX1_none_20 (by decide) ?_
    exact fin true _ _ (so_nj_1 c1) dX1_none_24
  · refine lv_iload_n hx hb dX1_none_4 rfl (lv_at hl 1 rfl) ?_
    refine lv_bipush (v := 9) hx hb dX1_none_5 (by decide +kernel) ?_
    refine lv_icmp_gt (tgt := 19) hx hb dX1_none_7 (by decide) (fun c2 => ?_) (fun c2 => ?_)
    · refine lv_iconst (v := so_b true) hx hb dX1_none_19 (by decide +kernel) ?_
      refine lv_goto (tgt := 24) hx hb dX1_none_20 (by decide) ?_
      exact fin true _ _ (so_nj_3 c2) dX1_none_24
    · obtain ⟨j, rfl, hj⟩ := so_nj_r3 c1 c2
      have hpl := so_p_le ok hj
      refine lv_aload_n hx hb dX1_none_10 rfl (lv_at hl 0 rfl) ?_
      refine so_g1P hx hb hts hown I dX1_none_11 ?_
      refine lv_iload_n hx hb dX1_none_14 rfl (lv_at hl 1 rfl) ?_
      refine so_l1P hx hb I dX1_none_15 (by omega) ?_
      refine so_zne (tgt := 23) hx hb dX1_none_16 (by decide) (by omega) (fun c3 => ?_) (fun c3 => ?_)
      · refine lv_iconst (v := so_b false) hx hb dX1_none_23 (by decide +kernel) ?_
        exact fin false _ _ (so_nj_t hj (so_p_1 c3)) dX1_none_24
      · refine lv_iconst (v := so_b true) hx hb dX1_none_19 (by decide +kernel) ?_
        refine lv_goto (tgt := 24) hx hb dX1_none_20 (by decide) ?_
        exact fin true _ _ (so_nj_n hj (so_p_0 ok hj c3)) dX1_none_24
set_option maxHeartbeats 4000000 in
theorem m1_runs (l : Launch) (D : va_G) (a : Nat → Nat) (d : Nat → ClassId) (u : Nat → Bool) (P C O : Nat → Nat) (ok : so_ok u P C O) (j : Nat) (hj : j < 10) (t : Nat) (ht : t < 2 ^ 31) : Met l yX1_runs (ws_ yX1_runs cX1_runs 4 (some .boolean)) (so_R 0) (va_Pc [.ref (a 0), .int (nI j), .int (nI t)] (fun U => so_I1 D a d u P C O U U.heap)) (vp_Si (fun r => r = so_b (so_run u P C O j t))) 0 0 (fun _ => False) := by
  refine so_metZ (by decide) (Nat.le_of_ble_eq_true rfl) ?_
  intro pg e s m below meth c Q hx hb hml hown hts I fin ls hl
  have hl : lv_has ls 4 [(0, .ref (a 0)), (1, .int (nI j)), (2, .int (nI t))] := hl
  have hown : s.vm.findClass RX1 = some m.cls := hown
  have hpl := so_p_le ok hj
  refine lv_aload_n hx hb dX1_runs_0 rfl (lv_at hl 0 rfl) ?_
  refine so_g1P hx hb hts hown I dX1_runs_1 ?_
  refine lv_iload_n hx hb dX1_runs_4 rfl (lv_at hl 1 rfl) ?_
  refine so_l1P hx hb I dX1_runs_5 (by omega) ?_
  refine lv_istore_n (lv' := [(3, .int (nI (so_p u P j))), (0, .ref (a 0)), (1, .int (nI j)), (2, .int (nI t))]) hx hb dX1_runs_6 rfl hl (by decide) rfl (fun ls hl => ?_)
  refine lv_iload_n hx hb dX1_runs_7 rfl (lv_at hl 0 rfl) ?_
  refine so_zeq (tgt := 21) hx hb dX1_runs_8 (by decide) (by omega) (fun c1 => ?_) (fun c1 => ?_)
  · refine lv_iconst (v := so_b false) hx hb dX1_runs_21 (by decide +kernel) ?_
    exact fin false _ _ (by rw [so_run_u (so_p_0 ok hj c1)]) dX1_runs_22
  · have hu := so_p_1 c1
    rw [so_p_t hu] at hl
    obtain ⟨a1, a2, a3, a4, a5, a6⟩ := ok j hj hu
    have hm := Nat.mod_lt (t - O j) (show 0 < P j by omega)
    refine lv_iload_n hx hb dX1_runs_11 rfl (lv_at hl 3 rfl) ?_
    refine lv_aload_n hx hb dX1_runs_12 rfl (lv_at hl 1 rfl) ?_
    refine so_g1O hx hb hts hown I dX1_runs_13 ?_
    refine lv_iload_n hx hb dX1_runs_16 rfl (lv_at hl 2 rfl) ?_
    refine so_l1O hx hb I dX1_runs_17 (by omega) ?_
    refine so_ige (tgt := 23) hx hb dX1_runs_18 (by decide) (by omega) (by omega) (fun c2 => ?_) (fun c2 => ?_)
    · refine lv_iload_n hx hb dX1_runs_23 rfl (lv_at hl 3 rfl) ?_
      refine lv_aload_n hx hb dX1_runs_24 rfl (lv_at hl 1 rfl) ?_
      refine so_g1O hx hb hts hown I dX1_runs_25 ?_
      refine lv_iload_n hx hb dX1_runs_28 rfl (lv_at hl 2 rfl) ?_
      refine so_l1O hx hb I dX1_runs_29 (by omega) ?_
      refine so_sub hx hb dX1_runs_30 (by omega) ?_
      refine lv_iload_n hx hb dX1_runs_31 rfl (lv_at hl 0 rfl) ?_
      refine so_rem hx hb dX1_runs_32 (by omega) (by omega) (by omega) ?_
      refine lv_aload_n hx hb dX1_runs_33 rfl (lv_at hl 1 rfl) ?_
      refine so_g1C hx hb hts hown I dX1_runs_34 ?_
      refine lv_iload_n hx hb dX1_runs_37 rfl (lv_at hl 2 rfl) ?_
      refine so_l1C hx hb I dX1_runs_38 (by omega) ?_
      refine so_ige (tgt := 46) hx hb dX1_runs_39 (by decide) (by omega) (by omega) (fun c3 => ?_) (fun c3 => ?_)
      · refine lv_iconst (v := so_b false) hx hb dX1_runs_46 (by decide +kernel) ?_
        exact fin false _ _ (by rw [so_run_c c3]) dX1_runs_47
      · refine lv_iconst (v := so_b true) hx hb dX1_runs_42 (by decide +kernel) ?_
        refine lv_goto (tgt := 47) hx hb dX1_runs_43 (by decide) ?_
        exact fin true _ _ (by rw [so_run_t hu c2 c3]) dX1_runs_47
    · refine lv_iconst (v := so_b false) hx hb dX1_runs_21 (by decide +kernel) ?_
      exact fin false _ _ (by rw [so_run_o c2]) dX1_runs_22
set_option maxHeartbeats 4000000 in
theorem m1_running (l : Launch) (D : va_G) (a : Nat → Nat) (d : Nat → ClassId) (u : Nat → Bool) (P C O : Nat → Nat) (ok : so_ok u P C O) (x : Int32) : Met l yX1_running (ws_ yX1_running cX1_running 3 (some .int)) (so_R 1) (va_Pc [.ref (a 0), .int x] (fun U => so_I1 D a d u P C O U U.heap)) (vp_Si (fun r => r = so_aRun u P C O x)) 0 0 (fun _ => False) := by
  refine so_metI (by decide) (Nat.le_of_ble_eq_true rfl) ?_
  intro pg e s m below meth c Q hx hb hml hown hts I fin ls hl
  have hl : lv_has ls 3 [(0, .ref (a 0)), (1, .int x)] := hl
  have hown : s.vm.findClass RX1 = some m.cls := hown
  refine lv_aload_n hx hb dX1_running_0 rfl (lv_at hl 0 rfl) ?_
  refine lv_iload_n hx hb dX1_running_1 rfl (lv_at hl 1 rfl) ?_
  refine so_cV (N := 1) (As := [.int x]) (rest := []) ⟨hx, hb, hml, hown, hts⟩ (m1_badTime l D a d u P C O x) (so_pre1 I) q154 q156 qs9 q17 q157 (by decide +kernel) ⟨Nat.le_of_ble_eq_true rfl, Nat.le_of_ble_eq_true rfl⟩ rfl hl.1 rfl (Nat.le_of_ble_eq_true rfl) ⟨Nat.zero_le _, Nat.zero_le _⟩ dX1_running_2 (fun r hr => ?_)
  have hr : r = so_b (so_bt x) := hr
  subst hr
  refine so_beq (tgt := 11) hx hb dX1_running_5 (by decide) (fun c0 => ?_) (fun c0 => ?_)
  · obtain ⟨t, rfl, ht⟩ := so_bt_f c0
    have loop : ∀ (k i : Nat), (i + k = 10) → (so_find (fun j => so_run u P C O j t) k i = so_find (fun j => so_run u P C O j t) 10 0) → ∀ ls : Array Slot, lv_has ls 3 [(2, .int (nI i)), (0, .ref (a 0)), (1, .int (nI t))] → W pg l e (so_R 1) s m ([.ref (a 0), .int (nI t)] : List Value).toArray below meth c s.heap [] 0 0 Q (F0 m 13 ls []) := by
      intro k
      induction k with
      | zero =>
        intro i hi hF ls hl
        refine lv_iload_n hx hb dX1_running_13 rfl (lv_at hl 0 rfl) ?_
        refine lv_bipush (v := nI 10) hx hb dX1_running_14 (by decide +kernel) ?_
        refine so_ige (tgt := 36) hx hb dX1_running_16 (by decide) (by omega) (by omega) (fun c1 => ?_) (fun c1 => ?_)
        · refine lv_bipush (v := (-6)) hx hb dX1_running_36 (by decide +kernel) ?_
          exact fin ((-6)) _ _ (by rw [so_aRun_v ht, ← hF]; rfl) dX1_running_38
        · exfalso; omega
      | succ k ih =>
        intro i hi hF ls hl
        refine lv_iload_n hx hb dX1_running_13 rfl (lv_at hl 0 rfl) ?_
        refine lv_bipush (v := nI 10) hx hb dX1_running_14 (by decide +kernel) ?_
        refine so_ige (tgt := 36) hx hb dX1_running_16 (by decide) (by omega) (by omega) (fun c1 => ?_) (fun c1 => ?_)
        · exfalso; omega
        · refine lv_aload_n hx hb dX1_running_19 rfl (lv_at hl 1 rfl) ?_
          refine lv_iload_n hx hb dX1_running_20 rfl (lv_at hl 0 rfl) ?_
          refine lv_iload_n hx hb dX1_running_21 rfl (lv_at hl 2 rfl) ?_
          refine so_cV (N := 2) (As := [.int (nI i), .int (nI t)]) (rest := []) ⟨hx, hb, hml, hown, hts⟩ (m1_runs l D a d u P C O ok i (by omega) t (by omega)) (so_pre1 I) q159 q161 qs10 q17 q162 (by decide +kernel) ⟨Nat.le_of_ble_eq_true rfl, Nat.le_of_ble_eq_true rfl⟩ rfl hl.1 rfl (Nat.le_of_ble_eq_true rfl) ⟨Nat.zero_le _, Nat.zero_le _⟩ dX1_running_22 (fun r hr => ?_)
          have hr : r = so_b (so_run u P C O i t) := hr
          subst hr
          refine so_beq (tgt := 30) hx hb dX1_running_25 (by decide) (fun c2 => ?_) (fun c2 => ?_)
          · refine lv_iinc (v := nI (i + 1)) (lv' := [(2, .int (nI (i + 1))), (0, .ref (a 0)), (1, .int (nI t))]) hx hb dX1_running_30 hl (k := 0) rfl (so_inc i) (by decide) rfl (fun ls hl => ?_)
            refine lv_goto (tgt := 13) hx hb dX1_running_33 (by decide) ?_
            exact ih (i + 1) (by omega) (by rw [← hF]; exact (so_find_f (f := fun j => so_run u P C O j t) c2).symm) ls (lv_sub hl [0, 1, 2] rfl)
          · refine lv_iload_n hx hb dX1_running_28 rfl (lv_at hl 0 rfl) ?_
            exact fin (nI i) _ _ (by rw [so_aRun_v ht, ← hF]; exact (so_find_t (f := fun j => so_run u P C O j t) c2).symm) dX1_running_29
    refine lv_iconst (v := nI 0) hx hb dX1_running_11 (by decide +kernel) ?_
    refine lv_istore_n (lv' := [(2, .int (nI 0)), (0, .ref (a 0)), (1, .int (nI t))]) hx hb dX1_running_12 rfl hl (by decide) rfl (fun ls hl => ?_)
    exact loop 10 0 (by omega) rfl ls (lv_sub hl [0, 1, 2] rfl)
  · refine lv_bipush (v := (-7)) hx hb dX1_running_8 (by decide +kernel) ?_
    exact fin ((-7)) _ _ (by simp only [so_aRun, c0, if_true]) dX1_running_10
set_option maxHeartbeats 4000000 in
theorem m1_count (l : Launch) (D : va_G) (a : Nat → Nat) (d : Nat → ClassId) (u : Nat → Bool) (P C O : Nat → Nat) (ok : so_ok u P C O) : Met l yX1_count (ws_ yX1_count cX1_count 3 (some .int)) (so_R 0) (va_Pc [.ref (a 0)] (fun U => so_I1 D a d u P C O U U.heap)) (vp_Si (fun r => r = nI (fb_ct u 10))) 0 0 (fun _ => False) := by
  refine so_metI (by decide) (Nat.le_of_ble_eq_true rfl) ?_
  intro pg e s m below meth c Q hx hb hml hown hts I fin ls hl
  have hl : lv_has ls 3 [(0, .ref (a 0))] := hl
  have hown : s.vm.findClass RX1 = some m.cls := hown
  have loop : ∀ (k i r : Nat), (i + k = 10) → (r = fb_ct u i) → ∀ ls : Array Slot, lv_has ls 3 [(2, .int (nI i)), (1, .int (nI r)), (0, .ref (a 0))] → W pg l e (so_R 0) s m ([.ref (a 0)] : List Value).toArray below meth c s.heap [] 0 0 Q (F0 m 4 ls []) := by
    intro k
    induction k with
    | zero =>
      intro i r hi hr ls hl
      refine lv_iload_n hx hb dX1_count_4 rfl (lv_at hl 0 rfl) ?_
      refine lv_bipush (v := nI 10) hx hb dX1_count_5 (by decide +kernel) ?_
      refine so_ige (tgt := 28) hx hb dX1_count_7 (by decide) (by omega) (by omega) (fun c1 => ?_) (fun c1 => ?_)
      · refine lv_iload_n hx hb dX1_count_28 rfl (lv_at hl 1 rfl) ?_
        exact fin (nI r) _ _ (by rw [hr, show i = 10 by omega]) dX1_count_29
      · exfalso; omega
    | succ k ih =>
      intro i r hi hr ls hl
      refine lv_iload_n hx hb dX1_count_4 rfl (lv_at hl 0 rfl) ?_
      refine lv_bipush (v := nI 10) hx hb dX1_count_5 (by decide +kernel) ?_
      refine so_ige (tgt := 28) hx hb dX1_count_7 (by decide) (by omega) (by omega) (fun c1 => ?_) (fun c1 => ?_)
      · exfalso; omega
      · have hpl := so_p_le ok (show i < 10 by omega)
        refine lv_aload_n hx hb dX1_count_10 rfl (lv_at hl 2 rfl) ?_
        refine so_g1P hx hb hts hown I dX1_count_11 ?_
        refine lv_iload_n hx hb dX1_count_14 rfl (lv_at hl 0 rfl) ?_
        refine so_l1P hx hb I dX1_count_15 (by omega) ?_
        refine so_zeq (tgt := 22) hx hb dX1_count_16 (by decide) (by omega) (fun c2 => ?_) (fun c2 => ?_)
        · refine lv_iinc (v := nI (i + 1)) (lv' := [(2, .int (nI (i + 1))), (1, .int (nI r)), (0, .ref (a 0))]) hx hb dX1_count_22 hl (k := 0) rfl (so_inc i) (by decide) rfl (fun ls hl => ?_)
          refine lv_goto (tgt := 4) hx hb dX1_count_25 (by decide) ?_
          exact ih (i + 1) r (by omega) (by rw [hr, so_cs_f (so_p_0 ok (by omega) c2)]) ls (lv_sub hl [0, 1, 2] rfl)
        · refine lv_iinc (v := nI (r + 1)) (lv' := [(1, .int (nI (r + 1))), (2, .int (nI i)), (0, .ref (a 0))]) hx hb dX1_count_19 hl (k := 1) rfl (so_inc r) (by decide) rfl (fun ls hl => ?_)
          refine lv_iinc (v := nI (i + 1)) (lv' := [(2, .int (nI (i + 1))), (1, .int (nI (r + 1))), (0, .ref (a 0))]) hx hb dX1_count_22 hl (k := 1) rfl (so_inc i) (by decide) rfl (fun ls hl => ?_)
          refine lv_goto (tgt := 4) hx hb dX1_count_25 (by decide) ?_
          exact ih (i + 1) (r + 1) (by omega) (by rw [hr, so_cs_t (so_p_1 c2)]) ls (lv_sub hl [0, 1, 2] rfl)
  refine lv_iconst (v := nI 0) hx hb dX1_count_0 (by decide +kernel) ?_
  refine lv_istore_n (lv' := [(1, .int (nI 0)), (0, .ref (a 0))]) hx hb dX1_count_1 rfl hl (by decide) rfl (fun ls hl => ?_)
  refine lv_iconst (v := nI 0) hx hb dX1_count_2 (by decide +kernel) ?_
  refine lv_istore_n (lv' := [(2, .int (nI 0)), (1, .int (nI 0)), (0, .ref (a 0))]) hx hb dX1_count_3 rfl hl (by decide) rfl (fun ls hl => ?_)
  exact loop 10 0 0 (by omega) rfl ls (lv_sub hl [0, 1, 2] rfl)
set_option maxHeartbeats 4000000 in
theorem m1_longest (l : Launch) (D : va_G) (a : Nat → Nat) (d : Nat → ClassId) (u : Nat → Bool) (P C O : Nat → Nat) (ok : so_ok u P C O) (p : Nat) (hp1 : 2 ≤ p) (hp2 : p ≤ 360) (hp3 : 360 % p = 0) (o : Nat) (ho : o < p) : Met l yX1_longest (ws_ yX1_longest cX1_longest 7 (some .int)) (so_R 2) (va_Pc [.ref (a 0), .int (nI p), .int (nI o)] (fun U => so_I1 D a d u P C O U U.heap)) (vp_Si (fun r => r = nI (so_ra u P C O p o))) 0 0 (fun _ => False) := by
  refine so_metI (by decide) (Nat.le_of_ble_eq_true rfl) ?_
  intro pg e s m below meth c Q hx hb hml hown hts I fin ls hl
  have hl : lv_has ls 7 [(0, .ref (a 0)), (1, .int (nI p)), (2, .int (nI o))] := hl
  have hown : s.vm.findClass RX1 = some m.cls := hown
  have loop : ∀ (k i r : Nat), (i + k = p) → (r = so_lg (fun i => so_gd (so_fr u P C O) p (o + i)) i) → ∀ ls : Array Slot, lv_has ls 7 [(4, .int (nI i)), (3, .int (nI r)), (0, .ref (a 0)), (1, .int (nI p)), (2, .int (nI o))] → W pg l e (so_R 2) s m ([.ref (a 0), .int (nI p), .int (nI o)] : List Value).toArray below meth c s.heap [] 0 0 Q (F0 m 5 ls []) := by
    intro k
    induction k with
    | zero =>
      intro i r hi hr ls hl
      refine lv_iload hx hb dX1_longest_5 (lv_at hl 0 rfl) ?_
      refine lv_iload_n hx hb dX1_longest_7 rfl (lv_at hl 3 rfl) ?_
      refine so_ige (tgt := 93) hx hb dX1_longest_8 (by decide) (by omega) (by omega) (fun c1 => ?_) (fun c1 => ?_)
      · refine lv_iload_n hx hb dX1_longest_93 rfl (lv_at hl 1 rfl) ?_
        exact fin (nI r) _ _ (by rw [hr, show i = p by omega, so_longest ok (by omega) hp2 hp3]) dX1_longest_94
      · exfalso; omega
    | succ k ih =>
      intro i r hi hr ls hl
      have hrl := (so_lg_iff (fun i => so_gd (so_fr u P C O) p (o + i)) i).1
      have k79 : ∀ (bv : Bool), (bv = true ↔ r = i ∧ so_gd (so_fr u P C O) p (o + i) = true) → ∀ ls : Array Slot, lv_has ls 7 [(5, .int (so_b bv)), (4, .int (nI i)), (3, .int (nI r)), (0, .ref (a 0)), (1, .int (nI p)), (2, .int (nI o))] → W pg l e (so_R 2) s m ([.ref (a 0), .int (nI p), .int (nI o)] : List Value).toArray below meth c s.heap [] 0 0 Q (F0 m 79 ls []) := by
        intro bv hbv ls hl
        refine lv_iload hx hb dX1_longest_79 (lv_at hl 0 rfl) ?_
        refine so_beq (tgt := 87) hx hb dX1_longest_81 (by decide) (fun c2 => ?_) (fun c2 => ?_)
        · refine lv_iinc (v := nI (i + 1)) (lv' := [(4, .int (nI (i + 1))), (5, .int (so_b bv)), (3, .int (nI r)), (0, .ref (a 0)), (1, .int (nI p)), (2, .int (nI o))]) hx hb dX1_longest_87 hl (k := 1) rfl (so_inc i) (by decide) rfl (fun ls hl => ?_)
          refine lv_goto (tgt := 5) hx hb dX1_longest_90 (by decide) ?_
          exact ih (i + 1) r (by omega) (by rw [so_lg_f (g := (fun i => so_gd (so_fr u P C O) p (o + i))) (fun q => by rw [hbv.mpr ⟨hr.trans q.1, q.2⟩] at c2; cases c2)]; exact hr) ls (lv_sub hl [0, 2, 3, 4, 5] rfl)
        · refine lv_iinc (v := nI (r + 1)) (lv' := [(3, .int (nI (r + 1))), (5, .int (so_b bv)), (4, .int (nI i)), (0, .ref (a 0)), (1, .int (nI p)), (2, .int (nI o))]) hx hb dX1_longest_84 hl (k := 2) rfl (so_inc r) (by decide) rfl (fun ls hl => ?_)
          refine lv_iinc (v := nI (i + 1)) (lv' := [(4, .int (nI (i + 1))), (3, .int (nI (r + 1))), (5, .int (so_b bv)), (0, .ref (a 0)), (1, .int (nI p)), (2, .int (nI o))]) hx hb dX1_longest_87 hl (k := 2) rfl (so_inc i) (by decide) rfl (fun ls hl => ?_)
          refine lv_goto (tgt := 5) hx hb dX1_longest_90 (by decide) ?_
          exact ih (i + 1) (r + 1) (by omega) (by rw [so_lg_t (g := (fun i => so_gd (so_fr u P C O) p (o + i))) ⟨hr ▸ (hbv.mp c2).1, (hbv.mp c2).2⟩, ← hr]) ls (lv_sub hl [0, 1, 3, 4, 5] rfl)
      refine lv_iload hx hb dX1_longest_5 (lv_at hl 0 rfl) ?_
      refine lv_iload_n hx hb dX1_longest_7 rfl (lv_at hl 3 rfl) ?_
      refine so_ige (tgt := 93) hx hb dX1_longest_8 (by decide) (by omega) (by omega) (fun c1 => ?_) (fun c1 => ?_)
      · exfalso; omega
      · have inner : ∀ (g kk : Nat) (bv : Bool), (360 ≤ kk * p + g * p) → (kk * p ≤ 720) → (so_J (so_fr u P C O) p (o + i) r i kk bv) → ∀ ls : Array Slot, lv_has ls 7 [(6, .int (nI (o + i + kk * p))), (5, .int (so_b bv)), (4, .int (nI i)), (3, .int (nI r)), (0, .ref (a 0)), (1, .int (nI p)), (2, .int (nI o))] → W pg l e (so_R 2) s m ([.ref (a 0), .int (nI p), .int (nI o)] : List Value).toArray below meth c s.heap [] 0 0 Q (F0 m 30 ls []) := by
          intro g
          induction g with
          | zero =>
            intro kk bv hf hk hJ ls hl
            have e0 := Nat.zero_mul p
            refine lv_iload hx hb dX1_longest_30 (lv_at hl 0 rfl) ?_
            refine lv_iload_n hx hb dX1_longest_32 rfl (lv_at hl 6 rfl) ?_
            refine lv_iload hx hb dX1_longest_33 (lv_at hl 2 rfl) ?_
            refine so_add hx hb dX1_longest_35 ?_
            refine lv_sipush (v := nI 360) hx hb dX1_longest_36 (by decide +kernel) ?_
            refine so_add hx hb dX1_longest_39 ?_
            refine so_ige (tgt := 79) hx hb dX1_longest_40 (by decide) (by omega) (by omega) (fun c3 => ?_) (fun c3 => ?_)
            · exact k79 bv (so_J_x (by omega) hJ (Or.inr (by omega))) ls (lv_sub hl [1, 2, 3, 4, 5, 6] rfl)
            · exfalso; omega
          | succ g ih2 =>
            intro kk bv hf hk hJ ls hl
            have e0 : (g + 1) * p = g * p + p := Nat.succ_mul g p
            have e1 : (kk + 1) * p = kk * p + p := Nat.succ_mul kk p
            refine lv_iload hx hb dX1_longest_30 (lv_at hl 0 rfl) ?_
            refine lv_iload_n hx hb dX1_longest_32 rfl (lv_at hl 6 rfl) ?_
            refine lv_iload hx hb dX1_longest_33 (lv_at hl 2 rfl) ?_
            refine so_add hx hb dX1_longest_35 ?_
            refine lv_sipush (v := nI 360) hx hb dX1_longest_36 (by decide +kernel) ?_
            refine so_add hx hb dX1_longest_39 ?_
            refine so_ige (tgt := 79) hx hb dX1_longest_40 (by decide) (by omega) (by omega) (fun c3 => ?_) (fun c3 => ?_)
            · exact k79 bv (so_J_x (by omega) hJ (Or.inr (by omega))) ls (lv_sub hl [1, 2, 3, 4, 5, 6] rfl)
            · refine lv_iload hx hb dX1_longest_43 (lv_at hl 1 rfl) ?_
              refine so_beq (tgt := 79) hx hb dX1_longest_45 (by decide) (fun c4 => ?_) (fun c4 => ?_)
              · exact k79 bv (so_J_x (by omega) hJ (Or.inl c4)) ls (lv_sub hl [1, 2, 3, 4, 5, 6] rfl)
              · subst c4
                refine lv_aload_n hx hb dX1_longest_48 rfl (lv_at hl 4 rfl) ?_
                refine lv_sipush (v := nI 360) hx hb dX1_longest_49 (by decide +kernel) ?_
                refine lv_iload hx hb dX1_longest_52 (lv_at hl 0 rfl) ?_
                refine so_add hx hb dX1_longest_54 ?_
                refine so_cV (N := 1) (As := [.int (nI (360 + (o + i + kk * p)))]) (rest := []) ⟨hx, hb, hml, hown, hts⟩ (m1_running l D a d u P C O ok (nI (360 + (o + i + kk * p)))) (so_pre1 I) q150 q151 q152 q17 q153 (by decide +kernel) ⟨Nat.le_of_ble_eq_true rfl, Nat.le_of_ble_eq_true rfl⟩ rfl hl.1 rfl (Nat.le_of_ble_eq_true rfl) ⟨Nat.zero_le _, Nat.zero_le _⟩ dX1_longest_55 (fun r hr => ?_)
                have hr : r = so_aRun u P C O (nI (360 + (o + i + kk * p))) := hr
                subst hr
                refine lv_bipush (v := (-6)) hx hb dX1_longest_58 (by decide +kernel) ?_
                refine lv_icmp_ne (tgt := 67) hx hb dX1_longest_60 (by decide) (fun c5 => ?_) (fun c5 => ?_)
                · refine lv_iconst (v := so_b false) hx hb dX1_longest_67 (by decide +kernel) ?_
                  refine lv_istore (lv' := [(5, .int (so_b false)), (6, .int (nI (o + i + kk * p))), (4, .int (nI i)), (3, .int (nI r)), (0, .ref (a 0)), (1, .int (nI p)), (2, .int (nI o))]) hx hb dX1_longest_68 hl (by decide) rfl (fun ls hl => ?_)
                  refine lv_iload hx hb dX1_longest_70 (lv_at hl 1 rfl) ?_
                  refine lv_iload_n hx hb dX1_longest_72 rfl (lv_at hl 5 rfl) ?_
                  refine so_add hx hb dX1_longest_73 ?_
                  refine so_as (y := nI (o + i + (kk + 1) * p)) (congrArg nI (by omega)) ?_
                  refine lv_istore (lv' := [(6, .int (nI (o + i + (kk + 1) * p))), (5, .int (so_b false)), (4, .int (nI i)), (3, .int (nI r)), (0, .ref (a 0)), (1, .int (nI p)), (2, .int (nI o))]) hx hb dX1_longest_74 hl (by decide) rfl (fun ls hl => ?_)
                  refine lv_goto (tgt := 30) hx hb dX1_longest_76 (by decide) ?_
                  exact ih2 (kk + 1) false (by omega) (by omega) (so_J_s hJ (by omega) ((so_frF (by omega) c5).symm)) ls (lv_sub hl [0, 1, 2, 3, 4, 5, 6] rfl)
                · refine lv_iconst (v := so_b true) hx hb dX1_longest_63 (by decide +kernel) ?_
                  refine lv_goto (tgt := 68) hx hb dX1_longest_64 (by decide) ?_
                  refine lv_istore (lv' := [(5, .int (so_b true)), (6, .int (nI (o + i + kk * p))), (4, .int (nI i)), (3, .int (nI r)), (0, .ref (a 0)), (1, .int (nI p)), (2, .int (nI o))]) hx hb dX1_longest_68 hl (by decide) rfl (fun ls hl => ?_)
                  refine lv_iload hx hb dX1_longest_70 (lv_at hl 1 rfl) ?_
                  refine lv_iload_n hx hb dX1_longest_72 rfl (lv_at hl 5 rfl) ?_
                  refine so_add hx hb dX1_longest_73 ?_
                  refine so_as (y := nI (o + i + (kk + 1) * p)) (congrArg nI (by omega)) ?_
                  refine lv_istore (lv' := [(6, .int (nI (o + i + (kk + 1) * p))), (5, .int (so_b true)), (4, .int (nI i)), (3, .int (nI r)), (0, .ref (a 0)), (1, .int (nI p)), (2, .int (nI o))]) hx hb dX1_longest_74 hl (by decide) rfl (fun ls hl => ?_)
                  refine lv_goto (tgt := 30) hx hb dX1_longest_76 (by decide) ?_
                  exact ih2 (kk + 1) true (by omega) (by omega) (so_J_s hJ (by omega) ((so_frT (by omega) c5).symm)) ls (lv_sub hl [0, 1, 2, 3, 4, 5, 6] rfl)
        have e9 := Nat.zero_mul p
        have e8 : 360 ≤ 360 * p := by omega
        refine lv_iload_n hx hb dX1_longest_11 rfl (lv_at hl 1 rfl) ?_
        refine lv_iload hx hb dX1_longest_12 (lv_at hl 0 rfl) ?_
        refine so_ine (tgt := 21) hx hb dX1_longest_14 (by decide) (by omega) (by omega) (fun c2 => ?_) (fun c2 => ?_)
        · refine lv_iconst (v := so_b false) hx hb dX1_longest_21 (by decide +kernel) ?_
          refine lv_istore (lv' := [(5, .int (so_b false)), (4, .int (nI i)), (3, .int (nI r)), (0, .ref (a 0)), (1, .int (nI p)), (2, .int (nI o))]) hx hb dX1_longest_22 hl (by decide) rfl (fun ls hl => ?_)
          refine lv_iload_n hx hb dX1_longest_24 rfl (lv_at hl 5 rfl) ?_
          refine lv_iload hx hb dX1_longest_25 (lv_at hl 1 rfl) ?_
          refine so_add hx hb dX1_longest_27 ?_
          refine so_as (y := nI (o + i + 0 * p)) (congrArg nI (by omega)) ?_
          refine lv_istore (lv' := [(6, .int (nI (o + i + 0 * p))), (5, .int (so_b false)), (4, .int (nI i)), (3, .int (nI r)), (0, .ref (a 0)), (1, .int (nI p)), (2, .int (nI o))]) hx hb dX1_longest_28 hl (by decide) rfl (fun ls hl => ?_)
          exact inner 360 0 false (by omega) (by omega) (so_J_0 ⟨fun q => (by cases q), fun q => absurd q c2⟩) ls (lv_sub hl [0, 1, 2, 3, 4, 5, 6] rfl)
        · refine lv_iconst (v := so_b true) hx hb dX1_longest_17 (by decide +kernel) ?_
          refine lv_goto (tgt := 22) hx hb dX1_longest_18 (by decide) ?_
          refine lv_istore (lv' := [(5, .int (so_b true)), (4, .int (nI i)), (3, .int (nI r)), (0, .ref (a 0)), (1, .int (nI p)), (2, .int (nI o))]) hx hb dX1_longest_22 hl (by decide) rfl (fun ls hl => ?_)
          refine lv_iload_n hx hb dX1_longest_24 rfl (lv_at hl 5 rfl) ?_
          refine lv_iload hx hb dX1_longest_25 (lv_at hl 1 rfl) ?_
          refine so_add hx hb dX1_longest_27 ?_
          refine so_as (y := nI (o + i + 0 * p)) (congrArg nI (by omega)) ?_
          refine lv_istore (lv' := [(6, .int (nI (o + i + 0 * p))), (5, .int (so_b true)), (4, .int (nI i)), (3, .int (nI r)), (0, .ref (a 0)), (1, .int (nI p)), (2, .int (nI o))]) hx hb dX1_longest_28 hl (by decide) rfl (fun ls hl => ?_)
          exact inner 360 0 true (by omega) (by omega) (so_J_0 ⟨fun _ => c2, fun _ => rfl⟩) ls (lv_sub hl [0, 1, 2, 3, 4, 5, 6] rfl)
  refine lv_iconst (v := nI 0) hx hb dX1_longest_0 (by decide +kernel) ?_
  refine lv_istore_n (lv' := [(3, .int (nI 0)), (0, .ref (a 0)), (1, .int (nI p)), (2, .int (nI o))]) hx hb dX1_longest_1 rfl hl (by decide) rfl (fun ls hl => ?_)
  refine lv_iconst (v := nI 0) hx hb dX1_longest_2 (by decide +kernel) ?_
  refine lv_istore (lv' := [(4, .int (nI 0)), (3, .int (nI 0)), (0, .ref (a 0)), (1, .int (nI p)), (2, .int (nI o))]) hx hb dX1_longest_3 hl (by decide) rfl (fun ls hl => ?_)
  exact loop p 0 0 (by omega) rfl ls (lv_sub hl [0, 1, 2, 3, 4] rfl)
set_option maxHeartbeats 4000000 in
theorem m1_offset (l : Launch) (D : va_G) (a : Nat → Nat) (d : Nat → ClassId) (u : Nat → Bool) (P C O : Nat → Nat) (ok : so_ok u P C O) (x : Int32) : Met l yX1_offset (ws_ yX1_offset cX1_offset 2 (some .int)) (so_R 1) (va_Pc [.ref (a 0), .int x] (fun U => so_I1 D a d u P C O U U.heap)) (vp_Si (fun r => r = so_aOff u O x)) 0 0 (fun _ => False) := by
  refine so_metI (by decide) (Nat.le_of_ble_eq_true rfl) ?_
  intro pg e s m below meth c Q hx hb hml hown hts I fin ls hl
  have hl : lv_has ls 2 [(0, .ref (a 0)), (1, .int x)] := hl
  have hown : s.vm.findClass RX1 = some m.cls := hown
  refine lv_aload_n hx hb dX1_offset_0 rfl (lv_at hl 0 rfl) ?_
  refine lv_iload_n hx hb dX1_offset_1 rfl (lv_at hl 1 rfl) ?_
  refine so_cV (N := 1) (As := [.int x]) (rest := []) ⟨hx, hb, hml, hown, hts⟩ (m1_none l D a d u P C O ok x) (so_pre1 I) q175 q177 qs12 q17 q178 (by decide +kernel) ⟨Nat.le_of_ble_eq_true rfl, Nat.le_of_ble_eq_true rfl⟩ rfl hl.1 rfl (Nat.le_of_ble_eq_true rfl) ⟨Nat.zero_le _, Nat.zero_le _⟩ dX1_offset_2 (fun r hr => ?_)
  have hr : r = so_b (so_nj u x) := hr
  subst hr
  refine so_beq (tgt := 13) hx hb dX1_offset_5 (by decide) (fun c1 => ?_) (fun c1 => ?_)
  · obtain ⟨j, rfl, hj, hu⟩ := so_nj_f c1
    refine lv_aload_n hx hb dX1_offset_13 rfl (lv_at hl 0 rfl) ?_
    refine so_g1O hx hb hts hown I dX1_offset_14 ?_
    refine lv_iload_n hx hb dX1_offset_17 rfl (lv_at hl 1 rfl) ?_
    refine so_l1O hx hb I dX1_offset_18 (by omega) ?_
    exact fin (nI (O j)) _ _ (so_aOff_v hj hu) dX1_offset_19
  · refine lv_bipush (v := (-6)) hx hb dX1_offset_8 (by decide +kernel) ?_
    refine lv_goto (tgt := 19) hx hb dX1_offset_10 (by decide) ?_
    exact fin ((-6)) _ _ (by simp only [so_aOff, c1, if_true]) dX1_offset_19
set_option maxHeartbeats 4000000 in
theorem m1_freeBefore (l : Launch) (D : va_G) (a : Nat → Nat) (d : Nat → ClassId) (u : Nat → Bool) (P C O : Nat → Nat) (ok : so_ok u P C O) (v : Nat) (hv : v ≤ 1000000001) : Met l yX1_freeBefore (ws_ yX1_freeBefore cX1_freeBefore 6 (some .int)) (so_R 2) (va_Pc [.ref (a 0), .int (nI v)] (fun U => so_I1 D a d u P C O U U.heap)) (vp_Si (fun r => r = nI (fb_ct (so_fr u P C O) v))) 0 0 (fun _ => False) := by
  refine so_metI (by decide) (Nat.le_of_ble_eq_true rfl) ?_
  intro pg e s m below meth c Q hx hb hml hown hts I fin ls hl
  have hl : lv_has ls 6 [(0, .ref (a 0)), (1, .int (nI v))] := hl
  have hown : s.vm.findClass RX1 = some m.cls := hown
  have hrs : so_rs v < 360 := by unfold so_rs; split <;> omega
  have loop : ∀ (k t A B : Nat), (t + k = 720) → (A = fb_ct (so_g1 (so_fr u P C O) v) t + fb_ct (so_g2 (so_fr u P C O) (so_rs v)) t) → (B = fb_ct (so_g3 (so_fr u P C O)) t) → ∀ ls : Array Slot, lv_has ls 6 [(5, .int (nI t)), (2, .int (nI A)), (3, .int (nI B)), (4, .int (nI (so_rs v))), (0, .ref (a 0)), (1, .int (nI v))] → W pg l e (so_R 2) s m ([.ref (a 0), .int (nI v)] : List Value).toArray below meth c s.heap [] 0 0 Q (F0 m 29 ls []) := by
    intro k
    induction k with
    | zero =>
      intro t A B hi hA hB ls hl
      have ht : t = 720 := by omega
      subst ht
      have b1 := fb_ct_le (so_g1 (so_fr u P C O) v) 720
      have b2 := fb_ct_le (so_g2 (so_fr u P C O) (so_rs v)) 720
      have b3 := fb_ct_le (so_g3 (so_fr u P C O)) 720
      refine lv_iload hx hb dX1_freeBefore_29 (lv_at hl 0 rfl) ?_
      refine lv_sipush (v := nI 720) hx hb dX1_freeBefore_31 (by decide +kernel) ?_
      refine so_ige (tgt := 104) hx hb dX1_freeBefore_34 (by decide) (by omega) (by omega) (fun c1 => ?_) (fun c1 => ?_)
      · refine lv_iload_n hx hb dX1_freeBefore_104 rfl (lv_at hl 5 rfl) ?_
        refine lv_sipush (v := nI 360) hx hb dX1_freeBefore_105 (by decide +kernel) ?_
        refine so_ile (tgt := 127) hx hb dX1_freeBefore_108 (by decide) (by omega) (by omega) (fun c2 => ?_) (fun c2 => ?_)
        · refine lv_iload_n hx hb dX1_freeBefore_127 rfl (lv_at hl 1 rfl) ?_
          exact fin (nI A) _ _ (by rw [← so_fb_eq ok v, so_fb, if_neg (by omega), hA]) dX1_freeBefore_128
        · refine lv_iload_n hx hb dX1_freeBefore_111 rfl (lv_at hl 1 rfl) ?_
          refine lv_iload_n hx hb dX1_freeBefore_112 rfl (lv_at hl 2 rfl) ?_
          refine lv_iload_n hx hb dX1_freeBefore_113 rfl (lv_at hl 5 rfl) ?_
          refine lv_sipush (v := nI 360) hx hb dX1_freeBefore_114 (by decide +kernel) ?_
          refine so_sub hx hb dX1_freeBefore_117 (by omega) ?_
          refine lv_sipush (v := nI 360) hx hb dX1_freeBefore_118 (by decide +kernel) ?_
          refine so_div hx hb dX1_freeBefore_121 (by omega) (by omega) (by omega) ?_
          refine so_mul hx hb dX1_freeBefore_122 ?_
          refine so_add hx hb dX1_freeBefore_123 ?_
          refine lv_goto (tgt := 128) hx hb dX1_freeBefore_124 (by decide) ?_
          exact fin (nI (A + (B * ((v - 360) / 360)))) _ _ (by rw [← so_fb_eq ok v, so_fb, if_pos c2, hA, hB]) dX1_freeBefore_128
      · exfalso; omega
    | succ k ih =>
      intro t A B hi hA hB ls hl
      have b1 := fb_ct_le (so_g1 (so_fr u P C O) v) t
      have b2 := fb_ct_le (so_g2 (so_fr u P C O) (so_rs v)) t
      have b3 := fb_ct_le (so_g3 (so_fr u P C O)) t
      refine lv_iload hx hb dX1_freeBefore_29 (lv_at hl 0 rfl) ?_
      refine lv_sipush (v := nI 720) hx hb dX1_freeBefore_31 (by decide +kernel) ?_
      refine so_ige (tgt := 104) hx hb dX1_freeBefore_34 (by decide) (by omega) (by omega) (fun c1 => ?_) (fun c1 => ?_)
      · exfalso; omega
      · refine lv_aload_n hx hb dX1_freeBefore_37 rfl (lv_at hl 4 rfl) ?_
        refine lv_iload hx hb dX1_freeBefore_38 (lv_at hl 0 rfl) ?_
        refine so_cV (N := 1) (As := [.int (nI t)]) (rest := []) ⟨hx, hb, hml, hown, hts⟩ (m1_running l D a d u P C O ok (nI t)) (so_pre1 I) q150 q151 q152 q17 q153 (by decide +kernel) ⟨Nat.le_of_ble_eq_true rfl, Nat.le_of_ble_eq_true rfl⟩ rfl hl.1 rfl (Nat.le_of_ble_eq_true rfl) ⟨Nat.zero_le _, Nat.zero_le _⟩ dX1_freeBefore_40 (fun r hr => ?_)
        have hr : r = so_aRun u P C O (nI t) := hr
        subst hr
        have k98 : ∀ (A2 B2 : Nat), (A2 = fb_ct (so_g1 (so_fr u P C O) v) (t + 1) + fb_ct (so_g2 (so_fr u P C O) (so_rs v)) (t + 1)) → (B2 = fb_ct (so_g3 (so_fr u P C O)) (t + 1)) → ∀ ls : Array Slot, lv_has ls 6 [(5, .int (nI t)), (2, .int (nI A2)), (3, .int (nI B2)), (4, .int (nI (so_rs v))), (0, .ref (a 0)), (1, .int (nI v))] → W pg l e (so_R 2) s m ([.ref (a 0), .int (nI v)] : List Value).toArray below meth c s.heap [] 0 0 Q (F0 m 98 ls []) := by
          intro A2 B2 h1 h2 ls hl
          refine lv_iinc (v := nI (t + 1)) (lv' := [(5, .int (nI (t + 1))), (2, .int (nI A2)), (3, .int (nI B2)), (4, .int (nI (so_rs v))), (0, .ref (a 0)), (1, .int (nI v))]) hx hb dX1_freeBefore_98 hl (k := 0) rfl (so_inc t) (by decide) rfl (fun ls hl => ?_)
          refine lv_goto (tgt := 29) hx hb dX1_freeBefore_101 (by decide) ?_
          exact ih (t + 1) A2 B2 (by omega) h1 h2 ls (lv_sub hl [0, 1, 2, 3, 4, 5] rfl)
        refine lv_bipush (v := (-6)) hx hb dX1_freeBefore_43 (by decide +kernel) ?_
        refine lv_icmp_ne (tgt := 98) hx hb dX1_freeBefore_45 (by decide) (fun c2 => ?_) (fun c2 => ?_)
        · obtain ⟨x1, x2, x3⟩ := so_gx (n := v) (r := so_rs v) (so_frF (by omega) c2)
          exact k98 A B (by rw [so_cs_f x1, so_cs_f x2]; exact hA) (by rw [so_cs_f x3]; exact hB) ls (lv_sub hl [0, 1, 2, 3, 4, 5] rfl)
        · have hf := so_frT (by omega) c2
          refine lv_iload hx hb dX1_freeBefore_48 (lv_at hl 0 rfl) ?_
          refine lv_sipush (v := nI 360) hx hb dX1_freeBefore_50 (by decide +kernel) ?_
          refine so_ige (tgt := 65) hx hb dX1_freeBefore_53 (by decide) (by omega) (by omega) (fun c3 => ?_) (fun c3 => ?_)
          · refine lv_iload hx hb dX1_freeBefore_65 (lv_at hl 0 rfl) ?_
            refine lv_sipush (v := nI 360) hx hb dX1_freeBefore_67 (by decide +kernel) ?_
            refine so_ilt (tgt := 76) hx hb dX1_freeBefore_70 (by decide) (by omega) (by omega) (fun c6 => ?_) (fun c6 => ?_)
            · exfalso; omega
            · refine lv_iinc (v := nI (B + 1)) (lv' := [(3, .int (nI (B + 1))), (5, .int (nI t)), (2, .int (nI A)), (4, .int (nI (so_rs v))), (0, .ref (a 0)), (1, .int (nI v))]) hx hb dX1_freeBefore_73 hl (k := 2) rfl (so_inc B) (by decide) rfl (fun ls hl => ?_)
              refine lv_iload hx hb dX1_freeBefore_76 (lv_at hl 1 rfl) ?_
              refine lv_sipush (v := nI 360) hx hb dX1_freeBefore_78 (by decide +kernel) ?_
              refine so_ilt (tgt := 98) hx hb dX1_freeBefore_81 (by decide) (by omega) (by omega) (fun c7 => ?_) (fun c7 => ?_)
              · exfalso; omega
              · refine lv_iload hx hb dX1_freeBefore_84 (lv_at hl 1 rfl) ?_
                refine lv_sipush (v := nI 360) hx hb dX1_freeBefore_86 (by decide +kernel) ?_
                refine lv_iload hx hb dX1_freeBefore_89 (lv_at hl 3 rfl) ?_
                refine so_add hx hb dX1_freeBefore_91 ?_
                refine so_ige (tgt := 98) hx hb dX1_freeBefore_92 (by decide) (by omega) (by omega) (fun c5 => ?_) (fun c5 => ?_)
                · exact k98 A (B + 1) (by rw [so_cs_f (so_g1_0 (by omega)), so_cs_f (so_g2_0 (by omega))]; exact hA) (by rw [so_cs_t (so_g3_1 hf c3), hB]) ls (lv_sub hl [1, 2, 0, 3, 4, 5] rfl)
                · refine lv_iinc (v := nI (A + 1)) (lv' := [(2, .int (nI (A + 1))), (3, .int (nI (B + 1))), (5, .int (nI t)), (4, .int (nI (so_rs v))), (0, .ref (a 0)), (1, .int (nI v))]) hx hb dX1_freeBefore_95 hl (k := 2) rfl (so_inc A) (by decide) rfl (fun ls hl => ?_)
                  exact k98 (A + 1) (B + 1) (by rw [so_cs_f (so_g1_0 (by omega)), so_cs_t (so_g2_1 hf c3 c5)]; omega) (by rw [so_cs_t (so_g3_1 hf c3), hB]) ls (lv_sub hl [2, 0, 1, 3, 4, 5] rfl)
          · refine lv_iload hx hb dX1_freeBefore_56 (lv_at hl 0 rfl) ?_
            refine lv_iload_n hx hb dX1_freeBefore_58 rfl (lv_at hl 5 rfl) ?_
            refine so_ige (tgt := 65) hx hb dX1_freeBefore_59 (by decide) (by omega) (by omega) (fun c4 => ?_) (fun c4 => ?_)
            · refine lv_iload hx hb dX1_freeBefore_65 (lv_at hl 0 rfl) ?_
              refine lv_sipush (v := nI 360) hx hb dX1_freeBefore_67 (by decide +kernel) ?_
              refine so_ilt (tgt := 76) hx hb dX1_freeBefore_70 (by decide) (by omega) (by omega) (fun c5 => ?_) (fun c5 => ?_)
              · refine lv_iload hx hb dX1_freeBefore_76 (lv_at hl 0 rfl) ?_
                refine lv_sipush (v := nI 360) hx hb dX1_freeBefore_78 (by decide +kernel) ?_
                refine so_ilt (tgt := 98) hx hb dX1_freeBefore_81 (by decide) (by omega) (by omega) (fun c6 => ?_) (fun c6 => ?_)
                · exact k98 A B (by rw [so_cs_f (so_g1_0 (by omega)), so_cs_f (so_g2_0 (by omega))]; exact hA) (by rw [so_cs_f (so_g3_0 (by omega))]; exact hB) ls (lv_sub hl [0, 1, 2, 3, 4, 5] rfl)
                · exfalso; omega
              · exfalso; omega
            · refine lv_iinc (v := nI (A + 1)) (lv' := [(2, .int (nI (A + 1))), (5, .int (nI t)), (3, .int (nI B)), (4, .int (nI (so_rs v))), (0, .ref (a 0)), (1, .int (nI v))]) hx hb dX1_freeBefore_62 hl (k := 1) rfl (so_inc A) (by decide) rfl (fun ls hl => ?_)
              refine lv_iload hx hb dX1_freeBefore_65 (lv_at hl 1 rfl) ?_
              refine lv_sipush (v := nI 360) hx hb dX1_freeBefore_67 (by decide +kernel) ?_
              refine so_ilt (tgt := 76) hx hb dX1_freeBefore_70 (by decide) (by omega) (by omega) (fun c5 => ?_) (fun c5 => ?_)
              · refine lv_iload hx hb dX1_freeBefore_76 (lv_at hl 1 rfl) ?_
                refine lv_sipush (v := nI 360) hx hb dX1_freeBefore_78 (by decide +kernel) ?_
                refine so_ilt (tgt := 98) hx hb dX1_freeBefore_81 (by decide) (by omega) (by omega) (fun c6 => ?_) (fun c6 => ?_)
                · exact k98 (A + 1) B (by rw [so_cs_t (so_g1_1 hf c3 c4), so_cs_f (so_g2_0 (by omega))]; omega) (by rw [so_cs_f (so_g3_0 (by omega))]; exact hB) ls (lv_sub hl [1, 0, 2, 3, 4, 5] rfl)
                · exfalso; omega
              · exfalso; omega
  refine lv_iconst (v := nI 0) hx hb dX1_freeBefore_0 (by decide +kernel) ?_
  refine lv_istore_n (lv' := [(2, .int (nI 0)), (0, .ref (a 0)), (1, .int (nI v))]) hx hb dX1_freeBefore_1 rfl hl (by decide) rfl (fun ls hl => ?_)
  refine lv_iconst (v := nI 0) hx hb dX1_freeBefore_2 (by decide +kernel) ?_
  refine lv_istore_n (lv' := [(3, .int (nI 0)), (2, .int (nI 0)), (0, .ref (a 0)), (1, .int (nI v))]) hx hb dX1_freeBefore_3 rfl hl (by decide) rfl (fun ls hl => ?_)
  refine lv_iload_n hx hb dX1_freeBefore_4 rfl (lv_at hl 3 rfl) ?_
  refine lv_sipush (v := nI 360) hx hb dX1_freeBefore_5 (by decide +kernel) ?_
  refine so_ile (tgt := 23) hx hb dX1_freeBefore_8 (by decide) (by omega) (by omega) (fun c0 => ?_) (fun c0 => ?_)
  · refine lv_iconst (v := nI 0) hx hb dX1_freeBefore_23 (by decide +kernel) ?_
    refine so_as (y := nI (so_rs v)) (congrArg nI (by rw [so_rs, if_neg (by omega)])) ?_
    refine lv_istore (lv' := [(4, .int (nI (so_rs v))), (3, .int (nI 0)), (2, .int (nI 0)), (0, .ref (a 0)), (1, .int (nI v))]) hx hb dX1_freeBefore_24 hl (by decide) rfl (fun ls hl => ?_)
    refine lv_iconst (v := nI 0) hx hb dX1_freeBefore_26 (by decide +kernel) ?_
    refine lv_istore (lv' := [(5, .int (nI 0)), (4, .int (nI (so_rs v))), (3, .int (nI 0)), (2, .int (nI 0)), (0, .ref (a 0)), (1, .int (nI v))]) hx hb dX1_freeBefore_27 hl (by decide) rfl (fun ls hl => ?_)
    exact loop 720 0 0 0 (by omega) rfl rfl ls (lv_sub hl [0, 3, 2, 1, 4, 5] rfl)
  · refine lv_iload_n hx hb dX1_freeBefore_11 rfl (lv_at hl 3 rfl) ?_
    refine lv_sipush (v := nI 360) hx hb dX1_freeBefore_12 (by decide +kernel) ?_
    refine so_sub hx hb dX1_freeBefore_15 (by omega) ?_
    refine lv_sipush (v := nI 360) hx hb dX1_freeBefore_16 (by decide +kernel) ?_
    refine so_rem hx hb dX1_freeBefore_19 (by omega) (by omega) (by omega) ?_
    refine lv_goto (tgt := 24) hx hb dX1_freeBefore_20 (by decide) ?_
    refine so_as (y := nI (so_rs v)) (congrArg nI (by rw [so_rs, if_pos c0])) ?_
    refine lv_istore (lv' := [(4, .int (nI (so_rs v))), (3, .int (nI 0)), (2, .int (nI 0)), (0, .ref (a 0)), (1, .int (nI v))]) hx hb dX1_freeBefore_24 hl (by decide) rfl (fun ls hl => ?_)
    refine lv_iconst (v := nI 0) hx hb dX1_freeBefore_26 (by decide +kernel) ?_
    refine lv_istore (lv' := [(5, .int (nI 0)), (4, .int (nI (so_rs v))), (3, .int (nI 0)), (2, .int (nI 0)), (0, .ref (a 0)), (1, .int (nI v))]) hx hb dX1_freeBefore_27 hl (by decide) rfl (fun ls hl => ?_)
    exact loop 720 0 0 0 (by omega) rfl rfl ls (lv_sub hl [0, 3, 2, 1, 4, 5] rfl)
set_option maxHeartbeats 4000000 in
theorem m1_free (l : Launch) (D : va_G) (a : Nat → Nat) (d : Nat → ClassId) (u : Nat → Bool) (P C O : Nat → Nat) (ok : so_ok u P C O) (dj : so_dj u P C O) (x y : Int32) : Met l yX1_free (ws_ yX1_free cX1_free 3 (some .int)) (so_R 3) (va_Pc [.ref (a 0), .int x, .int y] (fun U => so_I1 D a d u P C O U U.heap)) (vp_Si (fun r => r = so_aFree u P C O x y)) 0 0 (fun _ => False) := by
  refine so_metI (by decide) (Nat.le_of_ble_eq_true rfl) ?_
  intro pg e s m below meth c Q hx hb hml hown hts I fin ls hl
  have hl : lv_has ls 3 [(0, .ref (a 0)), (1, .int x), (2, .int y)] := hl
  have hown : s.vm.findClass RX1 = some m.cls := hown
  refine lv_aload_n hx hb dX1_free_0 rfl (lv_at hl 0 rfl) ?_
  refine lv_iload_n hx hb dX1_free_1 rfl (lv_at hl 1 rfl) ?_
  refine so_cV (N := 1) (As := [.int x]) (rest := []) ⟨hx, hb, hml, hown, hts⟩ (m1_badTime l D a d u P C O x) (so_pre1 I) q154 q156 qs9 q17 q157 (by decide +kernel) ⟨Nat.le_of_ble_eq_true rfl, Nat.le_of_ble_eq_true rfl⟩ rfl hl.1 rfl (Nat.le_of_ble_eq_true rfl) ⟨Nat.zero_le _, Nat.zero_le _⟩ dX1_free_2 (fun r hr => ?_)
  have hr : r = so_b (so_bt x) := hr
  subst hr
  refine so_bne (tgt := 16) hx hb dX1_free_5 (by decide) (fun c0 => ?_) (fun c0 => ?_)
  · refine lv_bipush (v := (-7)) hx hb dX1_free_16 (by decide +kernel) ?_
    exact fin ((-7)) _ _ (by simp only [so_aFree, c0, if_true]) dX1_free_18
  · refine lv_aload_n hx hb dX1_free_8 rfl (lv_at hl 0 rfl) ?_
    refine lv_iload_n hx hb dX1_free_9 rfl (lv_at hl 2 rfl) ?_
    refine so_cV (N := 1) (As := [.int y]) (rest := []) ⟨hx, hb, hml, hown, hts⟩ (m1_badTime l D a d u P C O y) (so_pre1 I) q154 q156 qs9 q17 q157 (by decide +kernel) ⟨Nat.le_of_ble_eq_true rfl, Nat.le_of_ble_eq_true rfl⟩ rfl hl.1 rfl (Nat.le_of_ble_eq_true rfl) ⟨Nat.zero_le _, Nat.zero_le _⟩ dX1_free_10 (fun r hr => ?_)
    have hr : r = so_b (so_bt y) := hr
    subst hr
    refine so_beq (tgt := 19) hx hb dX1_free_13 (by decide) (fun c1 => ?_) (fun c1 => ?_)
    · obtain ⟨t, rfl, ht⟩ := so_bt_f c0
      obtain ⟨v, rfl, hv⟩ := so_bt_f c1
      refine lv_iload_n hx hb dX1_free_19 rfl (lv_at hl 1 rfl) ?_
      refine lv_iload_n hx hb dX1_free_20 rfl (lv_at hl 2 rfl) ?_
      refine so_ile (tgt := 26) hx hb dX1_free_21 (by decide) (by omega) (by omega) (fun c2 => ?_) (fun c2 => ?_)
      · refine lv_aload_n hx hb dX1_free_26 rfl (lv_at hl 0 rfl) ?_
        refine lv_iload_n hx hb dX1_free_27 rfl (lv_at hl 2 rfl) ?_
        refine lv_iconst (v := nI 1) hx hb dX1_free_28 (by decide +kernel) ?_
        refine so_add hx hb dX1_free_29 ?_
        refine so_cV (N := 1) (As := [.int (nI (v + 1))]) (rest := []) ⟨hx, hb, hml, hown, hts⟩ (m1_freeBefore l D a d u P C O ok (v + 1) (by omega)) (so_pre1 I) q188 q190 qs13 q17 q191 (by decide +kernel) ⟨Nat.le_of_ble_eq_true rfl, Nat.le_of_ble_eq_true rfl⟩ rfl hl.1 rfl (Nat.le_of_ble_eq_true rfl) ⟨Nat.zero_le _, Nat.zero_le _⟩ dX1_free_30 (fun r1 hr1 => ?_)
        have hr1 : r1 = nI (fb_ct (so_fr u P C O) (v + 1)) := hr1
        subst hr1
        refine lv_aload_n hx hb dX1_free_33 rfl (lv_at hl 0 rfl) ?_
        refine lv_iload_n hx hb dX1_free_34 rfl (lv_at hl 1 rfl) ?_
        refine so_cV (N := 1) (As := [.int (nI t)]) (rest := [.int (nI (fb_ct (so_fr u P C O) (v + 1)))]) ⟨hx, hb, hml, hown, hts⟩ (m1_freeBefore l D a d u P C O ok t (by omega)) (so_pre1 I) q188 q190 qs13 q17 q191 (by decide +kernel) ⟨Nat.le_of_ble_eq_true rfl, Nat.le_of_ble_eq_true rfl⟩ rfl hl.1 rfl (Nat.le_of_ble_eq_true rfl) ⟨Nat.zero_le _, Nat.zero_le _⟩ dX1_free_35 (fun r2 hr2 => ?_)
        have hr2 : r2 = nI (fb_ct (so_fr u P C O) t) := hr2
        subst hr2
        refine lv_isub hx hb dX1_free_38 ?_
        exact fin ((nI (fb_ct (so_fr u P C O) (v + 1))) - (nI (fb_ct (so_fr u P C O) t))) _ _ (by rw [so_aFree_v ht hv c2, so_free_eq ok dj]) dX1_free_39
      · refine lv_iconst (v := nI 0) hx hb dX1_free_24 (by decide +kernel) ?_
        exact fin (nI 0) _ _ (so_aFree_0 ht hv c2) dX1_free_25
    · refine lv_bipush (v := (-7)) hx hb dX1_free_16 (by decide +kernel) ?_
      exact fin ((-7)) _ _ (by simp only [so_aFree, c0, c1, Bool.false_eq_true, if_false, if_true]) dX1_free_18
set_option maxHeartbeats 4000000 in
theorem m1_starts (l : Launch) (D : va_G) (a : Nat → Nat) (d : Nat → ClassId) (u : Nat → Bool) (P C O : Nat → Nat) (ok : so_ok u P C O) (x y z : Int32) : Met l yX1_starts (ws_ yX1_starts cX1_starts 7 (some .int)) (so_R 1) (va_Pc [.ref (a 0), .int x, .int y, .int z] (fun U => so_I1 D a d u P C O U U.heap)) (vp_Si (fun r => r = so_aSt u P O x y z)) 0 0 (fun _ => False) := by
  refine so_metI (by decide) (Nat.le_of_ble_eq_true rfl) ?_
  intro pg e s m below meth c Q hx hb hml hown hts I fin ls hl
  have hl : lv_has ls 7 [(0, .ref (a 0)), (1, .int x), (2, .int y), (3, .int z)] := hl
  have hown : s.vm.findClass RX1 = some m.cls := hown
  refine lv_aload_n hx hb dX1_starts_0 rfl (lv_at hl 0 rfl) ?_
  refine lv_iload_n hx hb dX1_starts_1 rfl (lv_at hl 1 rfl) ?_
  refine so_cV (N := 1) (As := [.int x]) (rest := []) ⟨hx, hb, hml, hown, hts⟩ (m1_none l D a d u P C O ok x) (so_pre1 I) q175 q177 qs12 q17 q178 (by decide +kernel) ⟨Nat.le_of_ble_eq_true rfl, Nat.le_of_ble_eq_true rfl⟩ rfl hl.1 rfl (Nat.le_of_ble_eq_true rfl) ⟨Nat.zero_le _, Nat.zero_le _⟩ dX1_starts_2 (fun r hr => ?_)
  have hr : r = so_b (so_nj u x) := hr
  subst hr
  refine so_beq (tgt := 11) hx hb dX1_starts_5 (by decide) (fun c9 => ?_) (fun c9 => ?_)
  · refine lv_aload_n hx hb dX1_starts_11 rfl (lv_at hl 0 rfl) ?_
    refine lv_iload_n hx hb dX1_starts_12 rfl (lv_at hl 2 rfl) ?_
    refine so_cV (N := 1) (As := [.int y]) (rest := []) ⟨hx, hb, hml, hown, hts⟩ (m1_badTime l D a d u P C O y) (so_pre1 I) q154 q156 qs9 q17 q157 (by decide +kernel) ⟨Nat.le_of_ble_eq_true rfl, Nat.le_of_ble_eq_true rfl⟩ rfl hl.1 rfl (Nat.le_of_ble_eq_true rfl) ⟨Nat.zero_le _, Nat.zero_le _⟩ dX1_starts_13 (fun r hr => ?_)
    have hr : r = so_b (so_bt y) := hr
    subst hr
    refine so_bne (tgt := 27) hx hb dX1_starts_16 (by decide) (fun c0 => ?_) (fun c0 => ?_)
    · refine lv_bipush (v := (-7)) hx hb dX1_starts_27 (by decide +kernel) ?_
      exact fin ((-7)) _ _ (by simp only [so_aSt, c9, c0, Bool.false_eq_true, if_false, if_true]) dX1_starts_29
    · refine lv_aload_n hx hb dX1_starts_19 rfl (lv_at hl 0 rfl) ?_
      refine lv_iload_n hx hb dX1_starts_20 rfl (lv_at hl 3 rfl) ?_
      refine so_cV (N := 1) (As := [.int z]) (rest := []) ⟨hx, hb, hml, hown, hts⟩ (m1_badTime l D a d u P C O z) (so_pre1 I) q154 q156 qs9 q17 q157 (by decide +kernel) ⟨Nat.le_of_ble_eq_true rfl, Nat.le_of_ble_eq_true rfl⟩ rfl hl.1 rfl (Nat.le_of_ble_eq_true rfl) ⟨Nat.zero_le _, Nat.zero_le _⟩ dX1_starts_21 (fun r hr => ?_)
      have hr : r = so_b (so_bt z) := hr
      subst hr
      refine so_beq (tgt := 30) hx hb dX1_starts_24 (by decide) (fun c1 => ?_) (fun c1 => ?_)
      · obtain ⟨j, rfl, hj, hu⟩ := so_nj_f c9
        obtain ⟨t, rfl, ht⟩ := so_bt_f c0
        obtain ⟨v, rfl, hv⟩ := so_bt_f c1
        obtain ⟨a1, a2, a3, a4, a5, a6⟩ := ok j hj hu
        refine lv_aload_n hx hb dX1_starts_30 rfl (lv_at hl 0 rfl) ?_
        refine so_g1P hx hb hts hown I dX1_starts_31 ?_
        refine lv_iload_n hx hb dX1_starts_34 rfl (lv_at hl 1 rfl) ?_
        refine so_l1P hx hb I dX1_starts_35 (by omega) ?_
        refine lv_istore (lv' := [(4, .int (nI (so_p u P j))), (0, .ref (a 0)), (1, .int (nI j)), (2, .int (nI t)), (3, .int (nI v))]) hx hb dX1_starts_36 hl (by decide) rfl (fun ls hl => ?_)
        rw [so_p_t hu] at hl
        refine lv_iload_n hx hb dX1_starts_38 rfl (lv_at hl 3 rfl) ?_
        refine lv_iload_n hx hb dX1_starts_39 rfl (lv_at hl 4 rfl) ?_
        refine so_igt (tgt := 58) hx hb dX1_starts_40 (by decide) (by omega) (by omega) (fun c2 => ?_) (fun c2 => ?_)
        · refine lv_iconst (v := nI 0) hx hb dX1_starts_58 (by decide +kernel) ?_
          exact fin (nI 0) _ _ (so_aSt_0 hj hu ht hv c2) dX1_starts_59
        · refine lv_iload_n hx hb dX1_starts_43 rfl (lv_at hl 4 rfl) ?_
          refine lv_aload_n hx hb dX1_starts_44 rfl (lv_at hl 1 rfl) ?_
          refine so_g1O hx hb hts hown I dX1_starts_45 ?_
          refine lv_iload_n hx hb dX1_starts_48 rfl (lv_at hl 2 rfl) ?_
          refine so_l1O hx hb I dX1_starts_49 (by omega) ?_
          refine so_ilt (tgt := 58) hx hb dX1_starts_50 (by decide) (by omega) (by omega) (fun c3 => ?_) (fun c3 => ?_)
          · refine lv_iconst (v := nI 0) hx hb dX1_starts_58 (by decide +kernel) ?_
            exact fin (nI 0) _ _ (by rw [so_aSt_v hj hu ht hv c2, so_bg_0 (by omega), so_bg_0 (by omega)]; rfl) dX1_starts_59
          · refine lv_iload hx hb dX1_starts_53 (lv_at hl 0 rfl) ?_
            refine so_zne (tgt := 60) hx hb dX1_starts_55 (by decide) (by omega) (fun c4 => ?_) (fun c4 => ?_)
            · refine lv_iload_n hx hb dX1_starts_60 rfl (lv_at hl 4 rfl) ?_
              refine lv_aload_n hx hb dX1_starts_61 rfl (lv_at hl 1 rfl) ?_
              refine so_g1O hx hb hts hown I dX1_starts_62 ?_
              refine lv_iload_n hx hb dX1_starts_65 rfl (lv_at hl 2 rfl) ?_
              refine so_l1O hx hb I dX1_starts_66 (by omega) ?_
              refine so_sub hx hb dX1_starts_67 (by omega) ?_
              refine lv_iload hx hb dX1_starts_68 (lv_at hl 0 rfl) ?_
              refine so_div hx hb dX1_starts_70 (by omega) (by omega) (by omega) ?_
              refine lv_iconst (v := nI 1) hx hb dX1_starts_71 (by decide +kernel) ?_
              refine so_add hx hb dX1_starts_72 ?_
              refine lv_istore (lv' := [(5, .int (nI (((v - (O j)) / (P j)) + 1))), (4, .int (nI (P j))), (0, .ref (a 0)), (1, .int (nI j)), (2, .int (nI t)), (3, .int (nI v))]) hx hb dX1_starts_73 hl (by decide) rfl (fun ls hl => ?_)
              refine lv_iload_n hx hb dX1_starts_75 rfl (lv_at hl 4 rfl) ?_
              refine lv_aload_n hx hb dX1_starts_76 rfl (lv_at hl 2 rfl) ?_
              refine so_g1O hx hb hts hown I dX1_starts_77 ?_
              refine lv_iload_n hx hb dX1_starts_80 rfl (lv_at hl 3 rfl) ?_
              refine so_l1O hx hb I dX1_starts_81 (by omega) ?_
              refine so_igt (tgt := 89) hx hb dX1_starts_82 (by decide) (by omega) (by omega) (fun c5 => ?_) (fun c5 => ?_)
              · refine lv_iload_n hx hb dX1_starts_89 rfl (lv_at hl 4 rfl) ?_
                refine lv_iconst (v := nI 1) hx hb dX1_starts_90 (by decide +kernel) ?_
                refine so_sub hx hb dX1_starts_91 (by omega) ?_
                refine lv_aload_n hx hb dX1_starts_92 rfl (lv_at hl 2 rfl) ?_
                refine so_g1O hx hb hts hown I dX1_starts_93 ?_
                refine lv_iload_n hx hb dX1_starts_96 rfl (lv_at hl 3 rfl) ?_
                refine so_l1O hx hb I dX1_starts_97 (by omega) ?_
                refine so_sub hx hb dX1_starts_98 (by omega) ?_
                refine lv_iload hx hb dX1_starts_99 (lv_at hl 1 rfl) ?_
                refine so_div hx hb dX1_starts_101 (by omega) (by omega) (by omega) ?_
                refine lv_iconst (v := nI 1) hx hb dX1_starts_102 (by decide +kernel) ?_
                refine so_add hx hb dX1_starts_103 ?_
                refine lv_istore (lv' := [(6, .int (nI ((((t - 1) - (O j)) / (P j)) + 1))), (5, .int (nI (((v - (O j)) / (P j)) + 1))), (4, .int (nI (P j))), (0, .ref (a 0)), (1, .int (nI j)), (2, .int (nI t)), (3, .int (nI v))]) hx hb dX1_starts_104 hl (by decide) rfl (fun ls hl => ?_)
                refine lv_iload hx hb dX1_starts_106 (lv_at hl 1 rfl) ?_
                refine lv_iload hx hb dX1_starts_108 (lv_at hl 0 rfl) ?_
                refine lv_isub hx hb dX1_starts_110 ?_
                exact fin ((nI (((v - (O j)) / (P j)) + 1)) - (nI ((((t - 1) - (O j)) / (P j)) + 1))) _ _ (by rw [so_aSt_v hj hu ht hv c2, so_bg_v c3, so_bg_w c5]) dX1_starts_111
              · refine lv_iconst (v := nI 0) hx hb dX1_starts_85 (by decide +kernel) ?_
                refine lv_goto (tgt := 104) hx hb dX1_starts_86 (by decide) ?_
                refine lv_istore (lv' := [(6, .int (nI 0)), (5, .int (nI (((v - (O j)) / (P j)) + 1))), (4, .int (nI (P j))), (0, .ref (a 0)), (1, .int (nI j)), (2, .int (nI t)), (3, .int (nI v))]) hx hb dX1_starts_104 hl (by decide) rfl (fun ls hl => ?_)
                refine lv_iload hx hb dX1_starts_106 (lv_at hl 1 rfl) ?_
                refine lv_iload hx hb dX1_starts_108 (lv_at hl 0 rfl) ?_
                refine lv_isub hx hb dX1_starts_110 ?_
                exact fin ((nI (((v - (O j)) / (P j)) + 1)) - (nI 0)) _ _ (by rw [so_aSt_v hj hu ht hv c2, so_bg_v c3, so_bg_0 c5]) dX1_starts_111
            · exfalso; omega
      · refine lv_bipush (v := (-7)) hx hb dX1_starts_27 (by decide +kernel) ?_
        exact fin ((-7)) _ _ (by simp only [so_aSt, c9, c0, c1, Bool.false_eq_true, if_false, if_true]) dX1_starts_29
  · refine lv_bipush (v := (-6)) hx hb dX1_starts_8 (by decide +kernel) ?_
    exact fin ((-6)) _ _ (by simp only [so_aSt, c9, if_true]) dX1_starts_10
set_option maxHeartbeats 4000000 in
theorem m1_begins (l : Launch) (D : va_G) (a : Nat → Nat) (d : Nat → ClassId) (u : Nat → Bool) (P C O : Nat → Nat) (ok : so_ok u P C O) (t : Nat) (ht : t < 2 ^ 31) : Met l yX1_begins (ws_ yX1_begins cX1_begins 4 (some .boolean)) (so_R 0) (va_Pc [.ref (a 0), .int (nI t)] (fun U => so_I1 D a d u P C O U U.heap)) (vp_Si (fun r => r = so_b (so_any (so_bgs u P O t) 10 0))) 0 0 (fun _ => False) := by
  refine so_metZ (by decide) (Nat.le_of_ble_eq_true rfl) ?_
  intro pg e s m below meth c Q hx hb hml hown hts I fin ls hl
  have hl : lv_has ls 4 [(0, .ref (a 0)), (1, .int (nI t))] := hl
  have hown : s.vm.findClass RX1 = some m.cls := hown
  have loop : ∀ (k i : Nat), (i + k = 10) → (so_any (so_bgs u P O t) k i = so_any (so_bgs u P O t) 10 0) → ∀ ls : Array Slot, lv_has ls 4 [(2, .int (nI i)), (0, .ref (a 0)), (1, .int (nI t))] → W pg l e (so_R 0) s m ([.ref (a 0), .int (nI t)] : List Value).toArray below meth c s.heap [] 0 0 Q (F0 m 2 ls []) := by
    intro k
    induction k with
    | zero =>
      intro i hi hF ls hl
      refine lv_iload_n hx hb dX1_begins_2 rfl (lv_at hl 0 rfl) ?_
      refine lv_bipush (v := nI 10) hx hb dX1_begins_3 (by decide +kernel) ?_
      refine so_ige (tgt := 50) hx hb dX1_begins_5 (by decide) (by omega) (by omega) (fun c1 => ?_) (fun c1 => ?_)
      · refine lv_iconst (v := so_b false) hx hb dX1_begins_50 (by decide +kernel) ?_
        exact fin false _ _ (by rw [← hF]; rfl) dX1_begins_51
      · exfalso; omega
    | succ k ih =>
      intro i hi hF ls hl
      have k44 : (so_bgs u P O t i = false) → ∀ ls : Array Slot, lv_has ls 4 [(2, .int (nI i)), (0, .ref (a 0)), (1, .int (nI t))] → W pg l e (so_R 0) s m ([.ref (a 0), .int (nI t)] : List Value).toArray below meth c s.heap [] 0 0 Q (F0 m 44 ls []) := by
        intro hf ls hl
        refine lv_iinc (v := nI (i + 1)) (lv' := [(2, .int (nI (i + 1))), (0, .ref (a 0)), (1, .int (nI t))]) hx hb dX1_begins_44 hl (k := 0) rfl (so_inc i) (by decide) rfl (fun ls hl => ?_)
        refine lv_goto (tgt := 2) hx hb dX1_begins_47 (by decide) ?_
        exact ih (i + 1) (by omega) (by rw [← hF]; exact (so_any_f hf).symm) ls (lv_sub hl [0, 1, 2] rfl)
      refine lv_iload_n hx hb dX1_begins_2 rfl (lv_at hl 0 rfl) ?_
      refine lv_bipush (v := nI 10) hx hb dX1_begins_3 (by decide +kernel) ?_
      refine so_ige (tgt := 50) hx hb dX1_begins_5 (by decide) (by omega) (by omega) (fun c1 => ?_) (fun c1 => ?_)
      · exfalso; omega
      · have hpl := so_p_le ok (show i < 10 by omega)
        refine lv_aload_n hx hb dX1_begins_8 rfl (lv_at hl 1 rfl) ?_
        refine so_g1P hx hb hts hown I dX1_begins_9 ?_
        refine lv_iload_n hx hb dX1_begins_12 rfl (lv_at hl 0 rfl) ?_
        refine so_l1P hx hb I dX1_begins_13 (by omega) ?_
        refine lv_istore_n (lv' := [(3, .int (nI (so_p u P i))), (2, .int (nI i)), (0, .ref (a 0)), (1, .int (nI t))]) hx hb dX1_begins_14 rfl hl (by decide) rfl (fun ls hl => ?_)
        refine lv_iload_n hx hb dX1_begins_15 rfl (lv_at hl 0 rfl) ?_
        refine so_zeq (tgt := 44) hx hb dX1_begins_16 (by decide) (by omega) (fun c2 => ?_) (fun c2 => ?_)
        · exact k44 (so_bgs_u (so_p_0 ok (by omega) c2)) ls (lv_sub hl [1, 2, 3] rfl)
        · have hu := so_p_1 c2
          rw [so_p_t hu] at hl
          obtain ⟨a1, a2, a3, a4, a5, a6⟩ := ok i (by omega) hu
          have hm := Nat.mod_lt (t - O i) (show 0 < P i by omega)
          refine lv_iload_n hx hb dX1_begins_19 rfl (lv_at hl 3 rfl) ?_
          refine lv_aload_n hx hb dX1_begins_20 rfl (lv_at hl 2 rfl) ?_
          refine so_g1O hx hb hts hown I dX1_begins_21 ?_
          refine lv_iload_n hx hb dX1_begins_24 rfl (lv_at hl 1 rfl) ?_
          refine so_l1O hx hb I dX1_begins_25 (by omega) ?_
          refine so_ilt (tgt := 44) hx hb dX1_begins_26 (by decide) (by omega) (by omega) (fun c3 => ?_) (fun c3 => ?_)
          · exact k44 (so_bgs_o c3) ls (lv_sub hl [1, 2, 3] rfl)
          · refine lv_iload_n hx hb dX1_begins_29 rfl (lv_at hl 3 rfl) ?_
            refine lv_aload_n hx hb dX1_begins_30 rfl (lv_at hl 2 rfl) ?_
            refine so_g1O hx hb hts hown I dX1_begins_31 ?_
            refine lv_iload_n hx hb dX1_begins_34 rfl (lv_at hl 1 rfl) ?_
            refine so_l1O hx hb I dX1_begins_35 (by omega) ?_
            refine so_sub hx hb dX1_begins_36 (by omega) ?_
            refine lv_iload_n hx hb dX1_begins_37 rfl (lv_at hl 0 rfl) ?_
            refine so_rem hx hb dX1_begins_38 (by omega) (by omega) (by omega) ?_
            refine so_zne (tgt := 44) hx hb dX1_begins_39 (by decide) (by omega) (fun c4 => ?_) (fun c4 => ?_)
            · exact k44 (so_bgs_r c4) ls (lv_sub hl [1, 2, 3] rfl)
            · refine lv_iconst (v := so_b true) hx hb dX1_begins_42 (by decide +kernel) ?_
              exact fin true _ _ (by rw [← hF]; exact congrArg so_b (so_any_t (so_bgs_t hu c3 c4)).symm) dX1_begins_43
  refine lv_iconst (v := nI 0) hx hb dX1_begins_0 (by decide +kernel) ?_
  refine lv_istore_n (lv' := [(2, .int (nI 0)), (0, .ref (a 0)), (1, .int (nI t))]) hx hb dX1_begins_1 rfl hl (by decide) rfl (fun ls hl => ?_)
  exact loop 10 0 (by omega) rfl ls (lv_sub hl [0, 1, 2] rfl)
set_option maxHeartbeats 4000000 in
theorem m1_nextStart (l : Launch) (D : va_G) (a : Nat → Nat) (d : Nat → ClassId) (u : Nat → Bool) (P C O : Nat → Nat) (ok : so_ok u P C O) (x : Int32) : Met l yX1_nextStart (ws_ yX1_nextStart cX1_nextStart 3 (some .int)) (so_R 1) (va_Pc [.ref (a 0), .int x] (fun U => so_I1 D a d u P C O U U.heap)) (vp_Si (fun r => r = so_aNext u P O x)) 0 0 (fun _ => False) := by
  refine so_metI (by decide) (Nat.le_of_ble_eq_true rfl) ?_
  intro pg e s m below meth c Q hx hb hml hown hts I fin ls hl
  have hl : lv_has ls 3 [(0, .ref (a 0)), (1, .int x)] := hl
  have hown : s.vm.findClass RX1 = some m.cls := hown
  refine lv_aload_n hx hb dX1_nextStart_0 rfl (lv_at hl 0 rfl) ?_
  refine lv_iload_n hx hb dX1_nextStart_1 rfl (lv_at hl 1 rfl) ?_
  refine so_cV (N := 1) (As := [.int x]) (rest := []) ⟨hx, hb, hml, hown, hts⟩ (m1_badTime l D a d u P C O x) (so_pre1 I) q154 q156 qs9 q17 q157 (by decide +kernel) ⟨Nat.le_of_ble_eq_true rfl, Nat.le_of_ble_eq_true rfl⟩ rfl hl.1 rfl (Nat.le_of_ble_eq_true rfl) ⟨Nat.zero_le _, Nat.zero_le _⟩ dX1_nextStart_2 (fun r hr => ?_)
  have hr : r = so_b (so_bt x) := hr
  subst hr
  refine so_beq (tgt := 11) hx hb dX1_nextStart_5 (by decide) (fun c0 => ?_) (fun c0 => ?_)
  · obtain ⟨t, rfl, ht⟩ := so_bt_f c0
    have loop : ∀ (k v : Nat), (v + k = t + 720) → (so_tn (fun t => so_any (so_bgs u P O t) 10 0) k v = so_tn (fun t => so_any (so_bgs u P O t) 10 0) 720 t) → ∀ ls : Array Slot, lv_has ls 3 [(2, .int (nI v)), (0, .ref (a 0)), (1, .int (nI t))] → W pg l e (so_R 1) s m ([.ref (a 0), .int (nI t)] : List Value).toArray below meth c s.heap [] 0 0 Q (F0 m 13 ls []) := by
      intro k
      induction k with
      | zero =>
        intro v hi hF ls hl
        refine lv_iload_n hx hb dX1_nextStart_13 rfl (lv_at hl 0 rfl) ?_
        refine lv_iload_n hx hb dX1_nextStart_14 rfl (lv_at hl 2 rfl) ?_
        refine lv_sipush (v := nI 720) hx hb dX1_nextStart_15 (by decide +kernel) ?_
        refine so_add hx hb dX1_nextStart_18 ?_
        refine so_ige (tgt := 38) hx hb dX1_nextStart_19 (by decide) (by omega) (by omega) (fun c1 => ?_) (fun c1 => ?_)
        · refine lv_bipush (v := (-6)) hx hb dX1_nextStart_38 (by decide +kernel) ?_
          exact fin ((-6)) _ _ (by rw [so_aNext_v ht, ← so_next_eq ok, ← hF]; rfl) dX1_nextStart_40
        · exfalso; omega
      | succ k ih =>
        intro v hi hF ls hl
        refine lv_iload_n hx hb dX1_nextStart_13 rfl (lv_at hl 0 rfl) ?_
        refine lv_iload_n hx hb dX1_nextStart_14 rfl (lv_at hl 2 rfl) ?_
        refine lv_sipush (v := nI 720) hx hb dX1_nextStart_15 (by decide +kernel) ?_
        refine so_add hx hb dX1_nextStart_18 ?_
        refine so_ige (tgt := 38) hx hb dX1_nextStart_19 (by decide) (by omega) (by omega) (fun c1 => ?_) (fun c1 => ?_)
        · exfalso; omega
        · refine lv_aload_n hx hb dX1_nextStart_22 rfl (lv_at hl 1 rfl) ?_
          refine lv_iload_n hx hb dX1_nextStart_23 rfl (lv_at hl 0 rfl) ?_
          refine so_cV (N := 1) (As := [.int (nI v)]) (rest := []) ⟨hx, hb, hml, hown, hts⟩ (m1_begins l D a d u P C O ok v (by omega)) (so_pre1 I) q200 q202 qs14 q17 q203 (by decide +kernel) ⟨Nat.le_of_ble_eq_true rfl, Nat.le_of_ble_eq_true rfl⟩ rfl hl.1 rfl (Nat.le_of_ble_eq_true rfl) ⟨Nat.zero_le _, Nat.zero_le _⟩ dX1_nextStart_24 (fun r hr => ?_)
          have hr : r = so_b (so_any (so_bgs u P O v) 10 0) := hr
          subst hr
          refine so_beq (tgt := 32) hx hb dX1_nextStart_27 (by decide) (fun c2 => ?_) (fun c2 => ?_)
          · refine lv_iinc (v := nI (v + 1)) (lv' := [(2, .int (nI (v + 1))), (0, .ref (a 0)), (1, .int (nI t))]) hx hb dX1_nextStart_32 hl (k := 0) rfl (so_inc v) (by decide) rfl (fun ls hl => ?_)
            refine lv_goto (tgt := 13) hx hb dX1_nextStart_35 (by decide) ?_
            exact ih (v + 1) (by omega) (by rw [← hF]; exact (so_tn_f (f := (fun t => so_any (so_bgs u P O t) 10 0)) c2).symm) ls (lv_sub hl [0, 1, 2] rfl)
          · refine lv_iload_n hx hb dX1_nextStart_30 rfl (lv_at hl 0 rfl) ?_
            exact fin (nI v) _ _ (by rw [so_aNext_v ht, ← so_next_eq ok, ← hF, so_tn_t (f := (fun t => so_any (so_bgs u P O t) 10 0)) c2]; rfl) dX1_nextStart_31
    refine lv_iload_n hx hb dX1_nextStart_11 rfl (lv_at hl 1 rfl) ?_
    refine lv_istore_n (lv' := [(2, .int (nI t)), (0, .ref (a 0)), (1, .int (nI t))]) hx hb dX1_nextStart_12 rfl hl (by decide) rfl (fun ls hl => ?_)
    exact loop 720 t (by omega) rfl ls (lv_sub hl [0, 1, 2] rfl)
  · refine lv_bipush (v := (-7)) hx hb dX1_nextStart_8 (by decide +kernel) ?_
    exact fin ((-7)) _ _ (by simp only [so_aNext, c0, if_true]) dX1_nextStart_10
set_option maxHeartbeats 4000000 in
theorem m1_room (l : Launch) (D : va_G) (a : Nat → Nat) (d : Nat → ClassId) (u : Nat → Bool) (P C O : Nat → Nat) (ok : so_ok u P C O) (x : Int32) : Met l yX1_room (ws_ yX1_room cX1_room 5 (some .int)) (so_R 3) (va_Pc [.ref (a 0), .int x] (fun U => so_I1 D a d u P C O U U.heap)) (vp_Si (fun r => r = so_aRoom u P C O x)) 0 0 (fun _ => False) := by
  refine so_metI (by decide) (Nat.le_of_ble_eq_true rfl) ?_
  intro pg e s m below meth c Q hx hb hml hown hts I fin ls hl
  have hl : lv_has ls 5 [(0, .ref (a 0)), (1, .int x)] := hl
  have hown : s.vm.findClass RX1 = some m.cls := hown
  refine lv_aload_n hx hb dX1_room_0 rfl (lv_at hl 0 rfl) ?_
  refine lv_iload_n hx hb dX1_room_1 rfl (lv_at hl 1 rfl) ?_
  refine so_cV (N := 1) (As := [.int x]) (rest := []) ⟨hx, hb, hml, hown, hts⟩ (m1_badPeriod l D a d u P C O x) (so_pre1 I) q138 q140 qs6 q17 q141 (by decide +kernel) ⟨Nat.le_of_ble_eq_true rfl, Nat.le_of_ble_eq_true rfl⟩ rfl hl.1 rfl (Nat.le_of_ble_eq_true rfl) ⟨Nat.zero_le _, Nat.zero_le _⟩ dX1_room_2 (fun r hr => ?_)
  have hr : r = so_b (so_bp x) := hr
  subst hr
  refine so_beq (tgt := 10) hx hb dX1_room_5 (by decide) (fun c0 => ?_) (fun c0 => ?_)
  · obtain ⟨p, rfl, hp1, hp2, hp3⟩ := so_bp_f c0
    have loop : ∀ (k i r : Nat), (i + k = p) → (r = so_mx (so_ra u P C O p) i) → ∀ ls : Array Slot, lv_has ls 5 [(3, .int (nI i)), (2, .int (nI r)), (0, .ref (a 0)), (1, .int (nI p))] → W pg l e (so_R 3) s m ([.ref (a 0), .int (nI p)] : List Value).toArray below meth c s.heap [] 0 0 Q (F0 m 14 ls []) := by
      intro k
      induction k with
      | zero =>
        intro i r hi hr ls hl
        refine lv_iload_n hx hb dX1_room_14 rfl (lv_at hl 0 rfl) ?_
        refine lv_iload_n hx hb dX1_room_15 rfl (lv_at hl 3 rfl) ?_
        refine so_ige (tgt := 42) hx hb dX1_room_16 (by decide) (by omega) (by omega) (fun c1 => ?_) (fun c1 => ?_)
        · refine lv_iload_n hx hb dX1_room_42 rfl (lv_at hl 1 rfl) ?_
          exact fin (nI r) _ _ (by rw [so_aRoom_v hp1 hp2 hp3, hr, show i = p by omega]) dX1_room_43
        · exfalso; omega
      | succ k ih =>
        intro i r hi hr ls hl
        have hml2 := so_mx_le (so_ra u P C O p) p (so_ra_le u P C O p) i
        have hrl := so_ra_le u P C O p i
        refine lv_iload_n hx hb dX1_room_14 rfl (lv_at hl 0 rfl) ?_
        refine lv_iload_n hx hb dX1_room_15 rfl (lv_at hl 3 rfl) ?_
        refine so_ige (tgt := 42) hx hb dX1_room_16 (by decide) (by omega) (by omega) (fun c1 => ?_) (fun c1 => ?_)
        · exfalso; omega
        · refine lv_aload_n hx hb dX1_room_19 rfl (lv_at hl 2 rfl) ?_
          refine lv_iload_n hx hb dX1_room_20 rfl (lv_at hl 3 rfl) ?_
          refine lv_iload_n hx hb dX1_room_21 rfl (lv_at hl 0 rfl) ?_
          refine so_cV (N := 2) (As := [.int (nI p), .int (nI i)]) (rest := []) ⟨hx, hb, hml, hown, hts⟩ (m1_longest l D a d u P C O ok p hp1 hp2 hp3 i (by omega)) (so_pre1 I) q146 q148 qs8 q17 q149 (by decide +kernel) ⟨Nat.le_of_ble_eq_true rfl, Nat.le_of_ble_eq_true rfl⟩ rfl hl.1 rfl (Nat.le_of_ble_eq_true rfl) ⟨Nat.zero_le _, Nat.zero_le _⟩ dX1_room_22 (fun r1 hr1 => ?_)
          have hr1 : r1 = nI (so_ra u P C O p i) := hr1
          subst hr1
          refine lv_istore (lv' := [(4, .int (nI (so_ra u P C O p i))), (3, .int (nI i)), (2, .int (nI r)), (0, .ref (a 0)), (1, .int (nI p))]) hx hb dX1_room_25 hl (by decide) rfl (fun ls hl => ?_)
          refine lv_iload hx hb dX1_room_27 (lv_at hl 0 rfl) ?_
          refine lv_iload_n hx hb dX1_room_29 rfl (lv_at hl 2 rfl) ?_
          refine so_ile (tgt := 36) hx hb dX1_room_30 (by decide) (by omega) (by omega) (fun c2 => ?_) (fun c2 => ?_)
          · refine lv_iinc (v := nI (i + 1)) (lv' := [(3, .int (nI (i + 1))), (4, .int (nI (so_ra u P C O p i))), (2, .int (nI r)), (0, .ref (a 0)), (1, .int (nI p))]) hx hb dX1_room_36 hl (k := 1) rfl (so_inc i) (by decide) rfl (fun ls hl => ?_)
            refine lv_goto (tgt := 14) hx hb dX1_room_39 (by decide) ?_
            exact ih (i + 1) r (by omega) (by rw [hr, so_mx_k (by omega)]) ls (lv_sub hl [0, 2, 3, 4] rfl)
          · refine lv_iload hx hb dX1_room_33 (lv_at hl 0 rfl) ?_
            refine lv_istore_n (lv' := [(2, .int (nI (so_ra u P C O p i))), (4, .int (nI (so_ra u P C O p i))), (3, .int (nI i)), (0, .ref (a 0)), (1, .int (nI p))]) hx hb dX1_room_35 rfl hl (by decide) rfl (fun ls hl => ?_)
            refine lv_iinc (v := nI (i + 1)) (lv' := [(3, .int (nI (i + 1))), (2, .int (nI (so_ra u P C O p i))), (4, .int (nI (so_ra u P C O p i))), (0, .ref (a 0)), (1, .int (nI p))]) hx hb dX1_room_36 hl (k := 2) rfl (so_inc i) (by decide) rfl (fun ls hl => ?_)
            refine lv_goto (tgt := 14) hx hb dX1_room_39 (by decide) ?_
            exact ih (i + 1) (so_ra u P C O p i) (by omega) (by rw [so_mx_l (by omega)]) ls (lv_sub hl [0, 1, 3, 4] rfl)
    refine lv_iconst (v := nI 0) hx hb dX1_room_10 (by decide +kernel) ?_
    refine lv_istore_n (lv' := [(2, .int (nI 0)), (0, .ref (a 0)), (1, .int (nI p))]) hx hb dX1_room_11 rfl hl (by decide) rfl (fun ls hl => ?_)
    refine lv_iconst (v := nI 0) hx hb dX1_room_12 (by decide +kernel) ?_
    refine lv_istore_n (lv' := [(3, .int (nI 0)), (2, .int (nI 0)), (0, .ref (a 0)), (1, .int (nI p))]) hx hb dX1_room_13 rfl hl (by decide) rfl (fun ls hl => ?_)
    exact loop p 0 0 (by omega) rfl ls (lv_sub hl [0, 1, 2, 3] rfl)
  · refine lv_iconst (v := (-1)) hx hb dX1_room_8 (by decide +kernel) ?_
    exact fin ((-1)) _ _ (by simp only [so_aRoom, c0, if_true]) dX1_room_9
set_option maxHeartbeats 4000000 in
theorem m1_load (l : Launch) (D : va_G) (a : Nat → Nat) (d : Nat → ClassId) (u : Nat → Bool) (P C O : Nat → Nat) (ok : so_ok u P C O) (dj : so_dj u P C O) : Met l yX1_load (ws_ yX1_load cX1_load 3 (some .int)) (so_R 2) (va_Pc [.ref (a 0)] (fun U => so_I1 D a d u P C O U U.heap)) (vp_Si (fun r => r = so_aLoad u P C)) 0 0 (fun _ => False) := by
  refine so_metI (by decide) (Nat.le_of_ble_eq_true rfl) ?_
  intro pg e s m below meth c Q hx hb hml hown hts I fin ls hl
  have hl : lv_has ls 3 [(0, .ref (a 0))] := hl
  have hown : s.vm.findClass RX1 = some m.cls := hown
  have loop : ∀ (k i r : Nat), (i + k = 360) → (r = fb_ct (fun k => !so_fr u P C O (360 + k)) i) → ∀ ls : Array Slot, lv_has ls 3 [(2, .int (nI (360 + i))), (1, .int (nI r)), (0, .ref (a 0))] → W pg l e (so_R 2) s m ([.ref (a 0)] : List Value).toArray below meth c s.heap [] 0 0 Q (F0 m 6 ls []) := by
    intro k
    induction k with
    | zero =>
      intro i r hi hr ls hl
      refine lv_iload_n hx hb dX1_load_6 rfl (lv_at hl 0 rfl) ?_
      refine lv_sipush (v := nI 720) hx hb dX1_load_7 (by decide +kernel) ?_
      refine so_ige (tgt := 32) hx hb dX1_load_10 (by decide) (by omega) (by omega) (fun c1 => ?_) (fun c1 => ?_)
      · refine lv_iload_n hx hb dX1_load_32 rfl (lv_at hl 1 rfl) ?_
        exact fin (nI r) _ _ (by rw [hr, show i = 360 by omega, so_load_eq ok dj]; rfl) dX1_load_33
      · exfalso; omega
    | succ k ih =>
      intro i r hi hr ls hl
      have hrl := fb_ct_le (fun k => !so_fr u P C O (360 + k)) i
      refine lv_iload_n hx hb dX1_load_6 rfl (lv_at hl 0 rfl) ?_
      refine lv_sipush (v := nI 720) hx hb dX1_load_7 (by decide +kernel) ?_
      refine so_ige (tgt := 32) hx hb dX1_load_10 (by decide) (by omega) (by omega) (fun c1 => ?_) (fun c1 => ?_)
      · exfalso; omega
      · refine lv_aload_n hx hb dX1_load_13 rfl (lv_at hl 2 rfl) ?_
        refine lv_iload_n hx hb dX1_load_14 rfl (lv_at hl 0 rfl) ?_
        refine so_cV (N := 1) (As := [.int (nI (360 + i))]) (rest := []) ⟨hx, hb, hml, hown, hts⟩ (m1_running l D a d u P C O ok (nI (360 + i))) (so_pre1 I) q150 q151 q152 q17 q153 (by decide +kernel) ⟨Nat.le_of_ble_eq_true rfl, Nat.le_of_ble_eq_true rfl⟩ rfl hl.1 rfl (Nat.le_of_ble_eq_true rfl) ⟨Nat.zero_le _, Nat.zero_le _⟩ dX1_load_15 (fun r9 hr9 => ?_)
        have hr9 : r9 = so_aRun u P C O (nI (360 + i)) := hr9
        subst hr9
        refine lv_bipush (v := (-6)) hx hb dX1_load_18 (by decide +kernel) ?_
        refine lv_icmp_eq (tgt := 26) hx hb dX1_load_20 (by decide) (fun c2 => ?_) (fun c2 => ?_)
        · refine lv_iinc (v := nI (360 + i + 1)) (lv' := [(2, .int (nI (360 + i + 1))), (1, .int (nI r)), (0, .ref (a 0))]) hx hb dX1_load_26 hl (k := 0) rfl (so_inc (360 + i)) (by decide) rfl (fun ls hl => ?_)
          refine lv_goto (tgt := 6) hx hb dX1_load_29 (by decide) ?_
          exact ih (i + 1) r (by omega) (by rw [hr, so_cs_f (g := (fun k => !so_fr u P C O (360 + k))) (by show (!so_fr u P C O (360 + i)) = false; rw [so_frT (by omega) c2]; rfl)]) ls (lv_sub hl [0, 1, 2] rfl)
        · refine lv_iinc (v := nI (r + 1)) (lv' := [(1, .int (nI (r + 1))), (2, .int (nI (360 + i))), (0, .ref (a 0))]) hx hb dX1_load_23 hl (k := 1) rfl (so_inc r) (by decide) rfl (fun ls hl => ?_)
          refine lv_iinc (v := nI (360 + i + 1)) (lv' := [(2, .int (nI (360 + i + 1))), (1, .int (nI (r + 1))), (0, .ref (a 0))]) hx hb dX1_load_26 hl (k := 1) rfl (so_inc (360 + i)) (by decide) rfl (fun ls hl => ?_)
          refine lv_goto (tgt := 6) hx hb dX1_load_29 (by decide) ?_
          exact ih (i + 1) (r + 1) (by omega) (by rw [hr, so_cs_t (g := (fun k => !so_fr u P C O (360 + k))) (by show (!so_fr u P C O (360 + i)) = true; rw [so_frF (by omega) c2]; rfl)]) ls (lv_sub hl [0, 1, 2] rfl)
  refine lv_iconst (v := nI 0) hx hb dX1_load_0 (by decide +kernel) ?_
  refine lv_istore_n (lv' := [(1, .int (nI 0)), (0, .ref (a 0))]) hx hb dX1_load_1 rfl hl (by decide) rfl (fun ls hl => ?_)
  refine lv_sipush (v := nI 360) hx hb dX1_load_2 (by decide +kernel) ?_
  refine so_as (y := nI (360 + 0)) (rfl) ?_
  refine lv_istore_n (lv' := [(2, .int (nI (360 + 0))), (1, .int (nI 0)), (0, .ref (a 0))]) hx hb dX1_load_5 rfl hl (by decide) rfl (fun ls hl => ?_)
  exact loop 360 0 0 (by omega) rfl ls (lv_sub hl [0, 1, 2] rfl)
end
section
/-! ===== the methods that change their cells ===== -/
set_option maxRecDepth 100000
set_option maxHeartbeats 4000000 in
theorem m0_take (l : Launch) (D : va_G) (a : Nat → Nat) (d : Nat → ClassId) (n : Int32) (u : Nat → Bool) (P C O : Nat → Nat) (sz p q o : Nat) : Met l yX0_take (ws_ yX0_take cX0_take 5 (some .int)) (so_R 0) (va_Pc [.ref (a 0), .int (nI p), .int (nI q), .int (nI o)] (fun U => U.heap.size = sz ∧ so_I0 D a d n u P C O U U.heap ∧ va_D (fun _ => True) (so_V0 a d n u P C O))) (va_Qi (fun (r : Int32) (_ : Unit) => r = nI (so_k u)) (fun _ t => so_I0 D a d (n + 1) (va_up u (so_k u) true) (va_up P (so_k u) p) (va_up C (so_k u) q) (va_up O (so_k u) o) t t.heap ∧ va_D (va_A (so_V0 a d n u P C O) sz) (so_V0 a d (n + 1) (va_up u (so_k u) true) (va_up P (so_k u) p) (va_up C (so_k u) q) (va_up O (so_k u) o))) (va_A (so_V0 a d n u P C O) sz)) 0 0 (va_A (so_V0 a d n u P C O) sz) := by
  refine so_metU (Inv := fun U H => so_I0 D a d n u P C O U H) (Inv' := fun U H => so_I0 D a d (n + 1) (va_up u (so_k u) true) (va_up P (so_k u) p) (va_up C (so_k u) q) (va_up O (so_k u) o) U H) (fun w U H h I => so_mvI0 w U H h I) (by decide) (Nat.le_of_ble_eq_true rfl) ?_
  intro pg e s m below meth c Q A hx hb hml hown hts I hD hA fin ls hl
  have hl : lv_has ls 5 [(0, .ref (a 0)), (1, .int (nI p)), (2, .int (nI q)), (3, .int (nI o))] := hl
  have hown : s.vm.findClass RX0 = some m.cls := hown
  have I : so_I0 D a d n u P C O s s.heap := I
  subst hA
  have hS : va_S (va_A (so_V0 a d n u P C O) s.heap.size) s.heap s.heap [] := va_S.rf
  have k26 : ∀ ls : Array Slot, lv_has ls 5 [(4, .int (nI (so_k u))), (0, .ref (a 0)), (1, .int (nI p)), (2, .int (nI q)), (3, .int (nI o))] → W pg l e (so_R 0) s m ([.ref (a 0), .int (nI p), .int (nI q), .int (nI o)] : List Value).toArray below meth c s.heap [] 0 0 Q (F0 m 26 ls []) := by
    intro ls hl
    refine lv_aload_n hx hb dX0_take_26 rfl (lv_at hl 1 rfl) ?_
    refine so_g0U hx hb hts hown I dX0_take_27 ?_
    refine lv_iload hx hb dX0_take_30 (lv_at hl 0 rfl) ?_
    refine lv_iconst (v := so_b true) hx hb dX0_take_32 (by decide +kernel) ?_
    refine so_s0U hx hb I hD hS dX0_take_33 (so_k_lt u) (fun H locs I hD hS => ?_)
    refine lv_aload_n hx hb dX0_take_34 rfl (lv_at hl 1 rfl) ?_
    refine so_g0P hx hb hts hown I dX0_take_35 ?_
    refine lv_iload hx hb dX0_take_38 (lv_at hl 0 rfl) ?_
    refine lv_iload_n hx hb dX0_take_40 rfl (lv_at hl 2 rfl) ?_
    refine so_s0P hx hb I hD hS dX0_take_41 (so_k_lt u) (fun H locs I hD hS => ?_)
    refine lv_aload_n hx hb dX0_take_42 rfl (lv_at hl 1 rfl) ?_
    refine so_g0C hx hb hts hown I dX0_take_43 ?_
    refine lv_iload hx hb dX0_take_46 (lv_at hl 0 rfl) ?_
    refine lv_iload_n hx hb dX0_take_48 rfl (lv_at hl 3 rfl) ?_
    refine so_s0C hx hb I hD hS dX0_take_49 (so_k_lt u) (fun H locs I hD hS => ?_)
    refine lv_aload_n hx hb dX0_take_50 rfl (lv_at hl 1 rfl) ?_
    refine so_g0O hx hb hts hown I dX0_take_51 ?_
    refine lv_iload hx hb dX0_take_54 (lv_at hl 0 rfl) ?_
    refine lv_iload_n hx hb dX0_take_56 rfl (lv_at hl 4 rfl) ?_
    refine so_s0O hx hb I hD hS dX0_take_57 (so_k_lt u) (fun H locs I hD hS => ?_)
    refine lv_aload_n hx hb dX0_take_58 rfl (lv_at hl 1 rfl) ?_
    refine lv_dup hx hb dX0_take_59 rfl ?_
    refine so_g0N hx hb hts hown I dX0_take_60 ?_
    refine lv_iconst (v := 1) hx hb dX0_take_63 (by decide +kernel) ?_
    refine lv_iadd hx hb dX0_take_64 ?_
    refine so_s0N hx hb hts hown I hD hS dX0_take_65 (fun H locs I hD hS => ?_)
    refine lv_iload hx hb dX0_take_68 (lv_at hl 0 rfl) ?_
    exact fin H locs (nI (so_k u)) _ _ (rfl) I hD hS dX0_take_70
  have loop : ∀ (k i : Nat), (i + k = 9) → (so_fk u k i = so_k u) → ∀ ls : Array Slot, lv_has ls 5 [(4, .int (nI i)), (0, .ref (a 0)), (1, .int (nI p)), (2, .int (nI q)), (3, .int (nI o))] → W pg l e (so_R 0) s m ([.ref (a 0), .int (nI p), .int (nI q), .int (nI o)] : List Value).toArray below meth c s.heap [] 0 0 Q (F0 m 3 ls []) := by
    intro k
    induction k with
    | zero =>
      intro i hi hF ls hl
      refine lv_iload hx hb dX0_take_3 (lv_at hl 0 rfl) ?_
      refine lv_bipush (v := nI 9) hx hb dX0_take_5 (by decide +kernel) ?_
      refine so_ige (tgt := 26) hx hb dX0_take_7 (by decide) (by omega) (by omega) (fun c1 => ?_) (fun c1 => ?_)
      · obtain rfl : i = so_k u := hF
        exact k26 ls (lv_sub hl [0, 1, 2, 3, 4] rfl)
      · exfalso; omega
    | succ k ih =>
      intro i hi hF ls hl
      refine lv_iload hx hb dX0_take_3 (lv_at hl 0 rfl) ?_
      refine lv_bipush (v := nI 9) hx hb dX0_take_5 (by decide +kernel) ?_
      refine so_ige (tgt := 26) hx hb dX0_take_7 (by decide) (by omega) (by omega) (fun c1 => ?_) (fun c1 => ?_)
      · exfalso; omega
      · refine lv_aload_n hx hb dX0_take_10 rfl (lv_at hl 1 rfl) ?_
        refine so_g0U hx hb hts hown I dX0_take_11 ?_
        refine lv_iload hx hb dX0_take_14 (lv_at hl 0 rfl) ?_
        refine so_l0U hx hb I dX0_take_16 (by omega) ?_
        refine so_beq (tgt := 26) hx hb dX0_take_17 (by decide) (fun c2 => ?_) (fun c2 => ?_)
        · obtain rfl : i = so_k u := (so_fk_f c2).symm.trans hF
          exact k26 ls (lv_sub hl [0, 1, 2, 3, 4] rfl)
        · refine lv_iinc (v := nI (i + 1)) (lv' := [(4, .int (nI (i + 1))), (0, .ref (a 0)), (1, .int (nI p)), (2, .int (nI q)), (3, .int (nI o))]) hx hb dX0_take_20 hl (k := 0) rfl (so_inc i) (by decide) rfl (fun ls hl => ?_)
          refine lv_goto (tgt := 3) hx hb dX0_take_23 (by decide) ?_
          exact ih (i + 1) (by omega) ((so_fk_t c2).symm.trans hF) ls (lv_sub hl [0, 1, 2, 3, 4] rfl)
  refine lv_iconst (v := nI 0) hx hb dX0_take_0 (by decide +kernel) ?_
  refine lv_istore (lv' := [(4, .int (nI 0)), (0, .ref (a 0)), (1, .int (nI p)), (2, .int (nI q)), (3, .int (nI o))]) hx hb dX0_take_1 hl (by decide) rfl (fun ls hl => ?_)
  exact loop 9 0 (by omega) rfl ls (lv_sub hl [0, 1, 2, 3, 4] rfl)
set_option maxHeartbeats 4000000 in
theorem m0_admit (l : Launch) (D : va_G) (a : Nat → Nat) (d : Nat → ClassId) (u : Nat → Bool) (P C O : Nat → Nat) (ok : so_ok u P C O) (sz : Nat) (x y : Int32) (E : so_E) (hE : so_dAdm u P C O x y = E) : Met l yX0_admit (ws_ yX0_admit cX0_admit 5 (some .int)) (so_R 3) (va_Pc [.ref (a 0), .int x, .int y] (fun U => U.heap.size = sz ∧ so_I0 D a d (nI (fb_ct u 10)) u P C O U U.heap ∧ va_D (fun _ => True) (so_V0 a d (nI (fb_ct u 10)) u P C O))) (va_Qi (fun (r : Int32) (_ : Unit) => r = so_ans u E) (fun _ t => so_I0 D a d (nI (fb_ct (so_nu u E) 10)) (so_nu u E) (so_nP u P E) (so_nC u C E) (so_nO u O E) t t.heap ∧ va_D (va_A (so_V0 a d (nI (fb_ct u 10)) u P C O) sz) (so_V0 a d (nI (fb_ct (so_nu u E) 10)) (so_nu u E) (so_nP u P E) (so_nC u C E) (so_nO u O E))) (va_A (so_V0 a d (nI (fb_ct u 10)) u P C O) sz)) 0 0 (va_A (so_V0 a d (nI (fb_ct u 10)) u P C O) sz) := by
  refine so_metU (Inv := fun U H => so_I0 D a d (nI (fb_ct u 10)) u P C O U H) (Inv' := fun U H => so_I0 D a d (nI (fb_ct (so_nu u E) 10)) (so_nu u E) (so_nP u P E) (so_nC u C E) (so_nO u O E) U H) (fun w U H h I => so_mvI0 w U H h I) (by decide) (Nat.le_of_ble_eq_true rfl) ?_
  intro pg e s m below meth c Q A hx hb hml hown hts I hD hA fin ls hl
  have hl : lv_has ls 5 [(0, .ref (a 0)), (1, .int x), (2, .int y)] := hl
  have hown : s.vm.findClass RX0 = some m.cls := hown
  have I : so_I0 D a d (nI (fb_ct u 10)) u P C O s s.heap := I
  subst hA
  have hS : va_S (va_A (so_V0 a d (nI (fb_ct u 10)) u P C O) s.heap.size) s.heap s.heap [] := va_S.rf
  refine lv_iload_n hx hb dX0_admit_0 rfl (lv_at hl 1 rfl) ?_
  refine so_cS (N := 1) (As := [.int x]) (rest := []) ⟨hx, hb, hml, hown, hts⟩ (m0_badPeriod l x) q48 q49 q16 q50 (by decide +kernel) ⟨Nat.le_of_ble_eq_true rfl, Nat.le_of_ble_eq_true rfl⟩ rfl hl.1 rfl (Nat.le_of_ble_eq_true rfl) ⟨Nat.zero_le _, Nat.zero_le _⟩ dX0_admit_1 (fun r hr => ?_)
  have hr : r = so_b (so_bp x) := hr
  subst hr
  refine so_beq (tgt := 9) hx hb dX0_admit_4 (by decide) (fun c0 => ?_) (fun c0 => ?_)
  · obtain ⟨p, rfl, hp1, hp2, hp3⟩ := so_bp_f c0
    refine lv_iload_n hx hb dX0_admit_9 rfl (lv_at hl 2 rfl) ?_
    refine lv_iconst (v := 1) hx hb dX0_admit_10 (by decide +kernel) ?_
    refine lv_icmp_lt (tgt := 19) hx hb dX0_admit_11 (by decide) (fun c1 => ?_) (fun c1 => ?_)
    · have e9 : E = .inl (-2) := by rw [← hE]; exact so_dAdm_2 c0 c1
      subst e9
      refine lv_bipush (v := (-2)) hx hb dX0_admit_19 (by decide +kernel) ?_
      exact fin s.heap [] ((-2)) _ _ (rfl) I hD hS dX0_admit_21
    · refine lv_iload_n hx hb dX0_admit_14 rfl (lv_at hl 2 rfl) ?_
      refine lv_iload_n hx hb dX0_admit_15 rfl (lv_at hl 1 rfl) ?_
      refine lv_icmp_le (tgt := 22) hx hb dX0_admit_16 (by decide) (fun c2 => ?_) (fun c2 => ?_)
      · obtain ⟨q, rfl, hq1, hq2⟩ := so_yle hp2 c1 c2
        have hcl := fb_ct_le u 10
        refine lv_aload_n hx hb dX0_admit_22 rfl (lv_at hl 0 rfl) ?_
        refine so_g0N hx hb hts hown I dX0_admit_23 ?_
        refine lv_bipush (v := nI 10) hx hb dX0_admit_26 (by decide +kernel) ?_
        refine so_ilt (tgt := 34) hx hb dX0_admit_28 (by decide) (by omega) (by omega) (fun c5 => ?_) (fun c5 => ?_)
        · have hct : fb_ct u 10 < 10 := by omega
          have hE5 : so_oE p q (so_fo (so_ra u P C O p) q p 0) = E := by rw [← hE, so_dAdm_5 c0 hp2 hq1 hq2 hct]
          have loop : ∀ (k i : Nat), (i + k = p) → (so_fo (so_ra u P C O p) q k i = so_fo (so_ra u P C O p) q p 0) → ∀ ls : Array Slot, lv_has ls 5 [(3, .int (nI i)), (0, .ref (a 0)), (1, .int (nI p)), (2, .int (nI q))] → W pg l e (so_R 3) s m ([.ref (a 0), .int (nI p), .int (nI q)] : List Value).toArray below meth c s.heap [] 0 0 Q (F0 m 36 ls []) := by
            intro k
            induction k with
            | zero =>
              intro i hi hF ls hl
              refine lv_iload_n hx hb dX0_admit_36 rfl (lv_at hl 0 rfl) ?_
              refine lv_iload_n hx hb dX0_admit_37 rfl (lv_at hl 2 rfl) ?_
              refine so_ige (tgt := 69) hx hb dX0_admit_38 (by decide) (by omega) (by omega) (fun c7 => ?_) (fun c7 => ?_)
              · have e9 : E = .inl (-5) := by rw [← hE5, ← hF]; rfl
                subst e9
                refine lv_bipush (v := (-5)) hx hb dX0_admit_69 (by decide +kernel) ?_
                exact fin s.heap [] ((-5)) _ _ (rfl) I hD hS dX0_admit_71
              · exfalso; omega
            | succ k ih =>
              intro i hi hF ls hl
              have hral := so_ra_le u P C O p i
              refine lv_iload_n hx hb dX0_admit_36 rfl (lv_at hl 0 rfl) ?_
              refine lv_iload_n hx hb dX0_admit_37 rfl (lv_at hl 2 rfl) ?_
              refine so_ige (tgt := 69) hx hb dX0_admit_38 (by decide) (by omega) (by omega) (fun c7 => ?_) (fun c7 => ?_)
              · exfalso; omega
              · refine lv_aload_n hx hb dX0_admit_41 rfl (lv_at hl 1 rfl) ?_
                refine lv_iload_n hx hb dX0_admit_42 rfl (lv_at hl 2 rfl) ?_
                refine lv_iload_n hx hb dX0_admit_43 rfl (lv_at hl 0 rfl) ?_
                refine so_cV (N := 2) (As := [.int (nI p), .int (nI i)]) (rest := []) ⟨hx, hb, hml, hown, hts⟩ (m0_roomAt l D a d (nI (fb_ct u 10)) u P C O ok p hp1 hp2 hp3 i (by omega)) (so_pre0 I) q51 q53 qs0 q16 q54 (by decide +kernel) ⟨Nat.le_of_ble_eq_true rfl, Nat.le_of_ble_eq_true rfl⟩ rfl hl.1 rfl (Nat.le_of_ble_eq_true rfl) ⟨Nat.zero_le _, Nat.zero_le _⟩ dX0_admit_44 (fun r1 hr1 => ?_)
                have hr1 : r1 = nI (so_ra u P C O p i) := hr1
                subst hr1
                refine lv_istore (lv' := [(4, .int (nI (so_ra u P C O p i))), (3, .int (nI i)), (0, .ref (a 0)), (1, .int (nI p)), (2, .int (nI q))]) hx hb dX0_admit_47 hl (by decide) rfl (fun ls hl => ?_)
                refine lv_iload hx hb dX0_admit_49 (lv_at hl 0 rfl) ?_
                refine lv_iload_n hx hb dX0_admit_51 rfl (lv_at hl 4 rfl) ?_
                refine so_ilt (tgt := 63) hx hb dX0_admit_52 (by decide) (by omega) (by omega) (fun c8 => ?_) (fun c8 => ?_)
                · refine lv_iinc (v := nI (i + 1)) (lv' := [(3, .int (nI (i + 1))), (4, .int (nI (so_ra u P C O p i))), (0, .ref (a 0)), (1, .int (nI p)), (2, .int (nI q))]) hx hb dX0_admit_63 hl (k := 1) rfl (so_inc i) (by decide) rfl (fun ls hl => ?_)
                  refine lv_goto (tgt := 36) hx hb dX0_admit_66 (by decide) ?_
                  exact ih (i + 1) (by omega) ((so_fo_f c8).symm.trans hF) ls (lv_sub hl [0, 2, 3, 4] rfl)
                · have e9 : E = .inr (p, q, i) := by rw [← hE5, ← hF, so_fo_t c8]; rfl
                  subst e9
                  refine lv_aload_n hx hb dX0_admit_55 rfl (lv_at hl 2 rfl) ?_
                  refine lv_iload_n hx hb dX0_admit_56 rfl (lv_at hl 3 rfl) ?_
                  refine lv_iload_n hx hb dX0_admit_57 rfl (lv_at hl 4 rfl) ?_
                  refine lv_iload_n hx hb dX0_admit_58 rfl (lv_at hl 1 rfl) ?_
                  refine so_cU (N := 3) (ws := (so_V0 a d (nI (fb_ct u 10)) u P C O)) (ans := nI (so_k u)) (Inv := fun U H => so_I0 D a d (nI (fb_ct u 10) + 1) (va_up u (so_k u) true) (va_up P (so_k u) p) (va_up C (so_k u) q) (va_up O (so_k u) i) U H) (ws' := so_V0 a d (nI (fb_ct u 10) + 1) (va_up u (so_k u) true) (va_up P (so_k u) p) (va_up C (so_k u) q) (va_up O (so_k u) i)) (As := [.int (nI p), .int (nI q), .int (nI i)]) (rest := []) ⟨hx, hb, hml, hown, hts⟩ (m0_take l D a d (nI (fb_ct u 10)) u P C O s.heap.size p q i) (so_preU0 I hD) (fun t H1 ht hvm h => so_mv0 t H1 ht hvm h) q62 q64 qs2 q16 q65 (by decide +kernel) ⟨Nat.le_of_ble_eq_true rfl, Nat.le_of_ble_eq_true rfl⟩ rfl hl.1 rfl (Nat.le_of_ble_eq_true rfl) ⟨Nat.zero_le _, Nat.zero_le _⟩ dX0_admit_59 hS (fun _ h => h) (fun H locs I hD hk hS => ?_)
                  have I : so_I0 D a d (nI (fb_ct u 10) + 1) (va_up u (so_k u) true) (va_up P (so_k u) p) (va_up C (so_k u) q) (va_up O (so_k u) i) s H := I
                  rw [show nI (fb_ct u 10) + 1 = nI (fb_ct (va_up u (so_k u) true) 10) by rw [so_ct_put (so_k_lt u) (so_k_free hct), nI_1]] at I hD
                  exact fin H locs (nI (so_k u)) _ _ (rfl) I hD hS dX0_admit_62
          refine lv_iconst (v := nI 0) hx hb dX0_admit_34 (by decide +kernel) ?_
          refine lv_istore_n (lv' := [(3, .int (nI 0)), (0, .ref (a 0)), (1, .int (nI p)), (2, .int (nI q))]) hx hb dX0_admit_35 rfl hl (by decide) rfl (fun ls hl => ?_)
          exact loop p 0 (by omega) rfl ls (lv_sub hl [0, 1, 2, 3] rfl)
        · have e9 : E = .inl (-4) := by rw [← hE]; exact so_dAdm_4 c0 hp2 hq1 hq2 c5
          subst e9
          refine lv_bipush (v := (-4)) hx hb dX0_admit_31 (by decide +kernel) ?_
          exact fin s.heap [] ((-4)) _ _ (rfl) I hD hS dX0_admit_33
      · have e9 : E = .inl (-2) := by rw [← hE]; exact so_dAdm_3 c0 c1 c2
        subst e9
        refine lv_bipush (v := (-2)) hx hb dX0_admit_19 (by decide +kernel) ?_
        exact fin s.heap [] ((-2)) _ _ (rfl) I hD hS dX0_admit_21
  · have e9 : E = .inl (-1) := by rw [← hE]; exact so_dAdm_1 c0
    subst e9
    refine lv_iconst (v := (-1)) hx hb dX0_admit_7 (by decide +kernel) ?_
    exact fin s.heap [] ((-1)) _ _ (rfl) I hD hS dX0_admit_8
set_option maxHeartbeats 4000000 in
theorem m0_admitAt (l : Launch) (D : va_G) (a : Nat → Nat) (d : Nat → ClassId) (u : Nat → Bool) (P C O : Nat → Nat) (ok : so_ok u P C O) (sz : Nat) (x y z : Int32) (E : so_E) (hE : so_dAt u P C O x y z = E) : Met l yX0_admitAt (ws_ yX0_admitAt cX0_admitAt 5 (some .int)) (so_R 3) (va_Pc [.ref (a 0), .int x, .int y, .int z] (fun U => U.heap.size = sz ∧ so_I0 D a d (nI (fb_ct u 10)) u P C O U U.heap ∧ va_D (fun _ => True) (so_V0 a d (nI (fb_ct u 10)) u P C O))) (va_Qi (fun (r : Int32) (_ : Unit) => r = so_ans u E) (fun _ t => so_I0 D a d (nI (fb_ct (so_nu u E) 10)) (so_nu u E) (so_nP u P E) (so_nC u C E) (so_nO u O E) t t.heap ∧ va_D (va_A (so_V0 a d (nI (fb_ct u 10)) u P C O) sz) (so_V0 a d (nI (fb_ct (so_nu u E) 10)) (so_nu u E) (so_nP u P E) (so_nC u C E) (so_nO u O E))) (va_A (so_V0 a d (nI (fb_ct u 10)) u P C O) sz)) 0 0 (va_A (so_V0 a d (nI (fb_ct u 10)) u P C O) sz) := by
  refine so_metU (Inv := fun U H => so_I0 D a d (nI (fb_ct u 10)) u P C O U H) (Inv' := fun U H => so_I0 D a d (nI (fb_ct (so_nu u E) 10)) (so_nu u E) (so_nP u P E) (so_nC u C E) (so_nO u O E) U H) (fun w U H h I => so_mvI0 w U H h I) (by decide) (Nat.le_of_ble_eq_true rfl) ?_
  intro pg e s m below meth c Q A hx hb hml hown hts I hD hA fin ls hl
  have hl : lv_has ls 5 [(0, .ref (a 0)), (1, .int x), (2, .int y), (3, .int z)] := hl
  have hown : s.vm.findClass RX0 = some m.cls := hown
  have I : so_I0 D a d (nI (fb_ct u 10)) u P C O s s.heap := I
  subst hA
  have hS : va_S (va_A (so_V0 a d (nI (fb_ct u 10)) u P C O) s.heap.size) s.heap s.heap [] := va_S.rf
  refine lv_iload_n hx hb dX0_admitAt_0 rfl (lv_at hl 1 rfl) ?_
  refine so_cS (N := 1) (As := [.int x]) (rest := []) ⟨hx, hb, hml, hown, hts⟩ (m0_badPeriod l x) q48 q49 q16 q50 (by decide +kernel) ⟨Nat.le_of_ble_eq_true rfl, Nat.le_of_ble_eq_true rfl⟩ rfl hl.1 rfl (Nat.le_of_ble_eq_true rfl) ⟨Nat.zero_le _, Nat.zero_le _⟩ dX0_admitAt_1 (fun r hr => ?_)
  have hr : r = so_b (so_bp x) := hr
  subst hr
  refine so_beq (tgt := 9) hx hb dX0_admitAt_4 (by decide) (fun c0 => ?_) (fun c0 => ?_)
  · obtain ⟨p, rfl, hp1, hp2, hp3⟩ := so_bp_f c0
    refine lv_iload_n hx hb dX0_admitAt_9 rfl (lv_at hl 2 rfl) ?_
    refine lv_iconst (v := 1) hx hb dX0_admitAt_10 (by decide +kernel) ?_
    refine lv_icmp_lt (tgt := 19) hx hb dX0_admitAt_11 (by decide) (fun c1 => ?_) (fun c1 => ?_)
    · have e9 : E = .inl (-2) := by rw [← hE]; exact so_dAt_2 c0 c1
      subst e9
      refine lv_bipush (v := (-2)) hx hb dX0_admitAt_19 (by decide +kernel) ?_
      exact fin s.heap [] ((-2)) _ _ (rfl) I hD hS dX0_admitAt_21
    · refine lv_iload_n hx hb dX0_admitAt_14 rfl (lv_at hl 2 rfl) ?_
      refine lv_iload_n hx hb dX0_admitAt_15 rfl (lv_at hl 1 rfl) ?_
      refine lv_icmp_le (tgt := 22) hx hb dX0_admitAt_16 (by decide) (fun c2 => ?_) (fun c2 => ?_)
      · obtain ⟨q, rfl, hq1, hq2⟩ := so_yle hp2 c1 c2
        have hcl := fb_ct_le u 10
        refine lv_iload_n hx hb dX0_admitAt_22 rfl (lv_at hl 3 rfl) ?_
        refine lv_if_lt (tgt := 31) hx hb dX0_admitAt_23 (by decide) (fun c3 => ?_) (fun c3 => ?_)
        · have e9 : E = .inl (-3) := by rw [← hE]; exact so_dAt_4 c0 hp2 hq1 hq2 c3
          subst e9
          refine lv_bipush (v := (-3)) hx hb dX0_admitAt_31 (by decide +kernel) ?_
          exact fin s.heap [] ((-3)) _ _ (rfl) I hD hS dX0_admitAt_33
        · refine lv_iload_n hx hb dX0_admitAt_26 rfl (lv_at hl 3 rfl) ?_
          refine lv_iload_n hx hb dX0_admitAt_27 rfl (lv_at hl 1 rfl) ?_
          refine lv_icmp_lt (tgt := 34) hx hb dX0_admitAt_28 (by decide) (fun c4 => ?_) (fun c4 => ?_)
          · obtain ⟨o, rfl, ho⟩ := so_zlt hp2 c3 c4
            refine lv_aload_n hx hb dX0_admitAt_34 rfl (lv_at hl 0 rfl) ?_
            refine so_g0N hx hb hts hown I dX0_admitAt_35 ?_
            refine lv_bipush (v := nI 10) hx hb dX0_admitAt_38 (by decide +kernel) ?_
            refine so_ilt (tgt := 46) hx hb dX0_admitAt_40 (by decide) (by omega) (by omega) (fun c5 => ?_) (fun c5 => ?_)
            · have hct : fb_ct u 10 < 10 := by omega
              have hral := so_ra_le u P C O p o
              refine lv_aload_n hx hb dX0_admitAt_46 rfl (lv_at hl 0 rfl) ?_
              refine lv_iload_n hx hb dX0_admitAt_47 rfl (lv_at hl 1 rfl) ?_
              refine lv_iload_n hx hb dX0_admitAt_48 rfl (lv_at hl 3 rfl) ?_
              refine so_cV (N := 2) (As := [.int (nI p), .int (nI o)]) (rest := []) ⟨hx, hb, hml, hown, hts⟩ (m0_roomAt l D a d (nI (fb_ct u 10)) u P C O ok p hp1 hp2 hp3 o ho) (so_pre0 I) q51 q53 qs0 q16 q54 (by decide +kernel) ⟨Nat.le_of_ble_eq_true rfl, Nat.le_of_ble_eq_true rfl⟩ rfl hl.1 rfl (Nat.le_of_ble_eq_true rfl) ⟨Nat.zero_le _, Nat.zero_le _⟩ dX0_admitAt_49 (fun r1 hr1 => ?_)
              have hr1 : r1 = nI (so_ra u P C O p o) := hr1
              subst hr1
              refine lv_istore (lv' := [(4, .int (nI (so_ra u P C O p o))), (0, .ref (a 0)), (1, .int (nI p)), (2, .int (nI q)), (3, .int (nI o))]) hx hb dX0_admitAt_52 hl (by decide) rfl (fun ls hl => ?_)
              refine lv_iload hx hb dX0_admitAt_54 (lv_at hl 0 rfl) ?_
              refine lv_iload_n hx hb dX0_admitAt_56 rfl (lv_at hl 3 rfl) ?_
              refine so_ige (tgt := 63) hx hb dX0_admitAt_57 (by decide) (by omega) (by omega) (fun c6 => ?_) (fun c6 => ?_)
              · have e9 : E = .inr (p, q, o) := by rw [← hE]; exact so_dAt_8 c0 hp2 hq1 hq2 ho hct c6
                subst e9
                refine lv_aload_n hx hb dX0_admitAt_63 rfl (lv_at hl 1 rfl) ?_
                refine lv_iload_n hx hb dX0_admitAt_64 rfl (lv_at hl 2 rfl) ?_
                refine lv_iload_n hx hb dX0_admitAt_65 rfl (lv_at hl 3 rfl) ?_
                refine lv_iload_n hx hb dX0_admitAt_66 rfl (lv_at hl 4 rfl) ?_
                refine so_cU (N := 3) (ws := (so_V0 a d (nI (fb_ct u 10)) u P C O)) (ans := nI (so_k u)) (Inv := fun U H => so_I0 D a d (nI (fb_ct u 10) + 1) (va_up u (so_k u) true) (va_up P (so_k u) p) (va_up C (so_k u) q) (va_up O (so_k u) o) U H) (ws' := so_V0 a d (nI (fb_ct u 10) + 1) (va_up u (so_k u) true) (va_up P (so_k u) p) (va_up C (so_k u) q) (va_up O (so_k u) o)) (As := [.int (nI p), .int (nI q), .int (nI o)]) (rest := []) ⟨hx, hb, hml, hown, hts⟩ (m0_take l D a d (nI (fb_ct u 10)) u P C O s.heap.size p q o) (so_preU0 I hD) (fun t H1 ht hvm h => so_mv0 t H1 ht hvm h) q62 q64 qs2 q16 q65 (by decide +kernel) ⟨Nat.le_of_ble_eq_true rfl, Nat.le_of_ble_eq_true rfl⟩ rfl hl.1 rfl (Nat.le_of_ble_eq_true rfl) ⟨Nat.zero_le _, Nat.zero_le _⟩ dX0_admitAt_67 hS (fun _ h => h) (fun H locs I hD hk hS => ?_)
                have I : so_I0 D a d (nI (fb_ct u 10) + 1) (va_up u (so_k u) true) (va_up P (so_k u) p) (va_up C (so_k u) q) (va_up O (so_k u) o) s H := I
                rw [show nI (fb_ct u 10) + 1 = nI (fb_ct (va_up u (so_k u) true) 10) by rw [so_ct_put (so_k_lt u) (so_k_free hct), nI_1]] at I hD
                exact fin H locs (nI (so_k u)) _ _ (rfl) I hD hS dX0_admitAt_70
              · have e9 : E = .inl (-5) := by rw [← hE]; exact so_dAt_7 c0 hp2 hq1 hq2 ho hct c6
                subst e9
                refine lv_bipush (v := (-5)) hx hb dX0_admitAt_60 (by decide +kernel) ?_
                exact fin s.heap [] ((-5)) _ _ (rfl) I hD hS dX0_admitAt_62
            · have e9 : E = .inl (-4) := by rw [← hE]; exact so_dAt_6 c0 hp2 hq1 hq2 ho c5
              subst e9
              refine lv_bipush (v := (-4)) hx hb dX0_admitAt_43 (by decide +kernel) ?_
              exact fin s.heap [] ((-4)) _ _ (rfl) I hD hS dX0_admitAt_45
          · have e9 : E = .inl (-3) := by rw [← hE]; exact so_dAt_5 c0 hp2 hq1 hq2 c3 c4
            subst e9
            refine lv_bipush (v := (-3)) hx hb dX0_admitAt_31 (by decide +kernel) ?_
            exact fin s.heap [] ((-3)) _ _ (rfl) I hD hS dX0_admitAt_33
      · have e9 : E = .inl (-2) := by rw [← hE]; exact so_dAt_3 c0 c1 c2
        subst e9
        refine lv_bipush (v := (-2)) hx hb dX0_admitAt_19 (by decide +kernel) ?_
        exact fin s.heap [] ((-2)) _ _ (rfl) I hD hS dX0_admitAt_21
  · have e9 : E = .inl (-1) := by rw [← hE]; exact so_dAt_1 c0
    subst e9
    refine lv_iconst (v := (-1)) hx hb dX0_admitAt_7 (by decide +kernel) ?_
    exact fin s.heap [] ((-1)) _ _ (rfl) I hD hS dX0_admitAt_8
set_option maxHeartbeats 4000000 in
theorem m0_remove (l : Launch) (D : va_G) (a : Nat → Nat) (d : Nat → ClassId) (u : Nat → Bool) (P C O : Nat → Nat) (ok : so_ok u P C O) (sz : Nat) (x : Int32) (u2 : Nat → Bool) (hu2 : so_ru u x = u2) (r2 : Int32) (hr2 : so_aRem u x = r2) : Met l yX0_remove (ws_ yX0_remove cX0_remove 2 (some .int)) (so_R 1) (va_Pc [.ref (a 0), .int x] (fun U => U.heap.size = sz ∧ so_I0 D a d (nI (fb_ct u 10)) u P C O U U.heap ∧ va_D (fun _ => True) (so_V0 a d (nI (fb_ct u 10)) u P C O))) (va_Qi (fun (r : Int32) (_ : Unit) => r = r2) (fun _ t => so_I0 D a d (nI (fb_ct u2 10)) u2 P C O t t.heap ∧ va_D (va_A (so_V0 a d (nI (fb_ct u 10)) u P C O) sz) (so_V0 a d (nI (fb_ct u2 10)) u2 P C O)) (va_A (so_V0 a d (nI (fb_ct u 10)) u P C O) sz)) 0 0 (va_A (so_V0 a d (nI (fb_ct u 10)) u P C O) sz) := by
  refine so_metU (Inv := fun U H => so_I0 D a d (nI (fb_ct u 10)) u P C O U H) (Inv' := fun U H => so_I0 D a d (nI (fb_ct u2 10)) u2 P C O U H) (fun w U H h I => so_mvI0 w U H h I) (by decide) (Nat.le_of_ble_eq_true rfl) ?_
  intro pg e s m below meth c Q A hx hb hml hown hts I hD hA fin ls hl
  have hl : lv_has ls 2 [(0, .ref (a 0)), (1, .int x)] := hl
  have hown : s.vm.findClass RX0 = some m.cls := hown
  have I : so_I0 D a d (nI (fb_ct u 10)) u P C O s s.heap := I
  subst hA
  have hS : va_S (va_A (so_V0 a d (nI (fb_ct u 10)) u P C O) s.heap.size) s.heap s.heap [] := va_S.rf
  refine lv_aload_n hx hb dX0_remove_0 rfl (lv_at hl 0 rfl) ?_
  refine lv_iload_n hx hb dX0_remove_1 rfl (lv_at hl 1 rfl) ?_
  refine so_cV (N := 1) (As := [.int x]) (rest := []) ⟨hx, hb, hml, hown, hts⟩ (m0_noJob l D a d (nI (fb_ct u 10)) u P C O x) (so_pre0 I) q74 q76 qs3 q16 q77 (by decide +kernel) ⟨Nat.le_of_ble_eq_true rfl, Nat.le_of_ble_eq_true rfl⟩ rfl hl.1 rfl (Nat.le_of_ble_eq_true rfl) ⟨Nat.zero_le _, Nat.zero_le _⟩ dX0_remove_2 (fun r hr => ?_)
  have hr : r = so_b (so_nj u x) := hr
  subst hr
  refine so_beq (tgt := 11) hx hb dX0_remove_5 (by decide) (fun c0 => ?_) (fun c0 => ?_)
  · obtain ⟨j, rfl, hj, hu⟩ := so_nj_f c0
    have e1 : u2 = va_up u j false := by rw [← hu2, so_ru_v hj hu]
    have e2 : r2 = nI (fb_ct (va_up u j false) 10) := by rw [← hr2, so_aRem_v hj hu]
    subst e1; subst e2
    have hct := so_ct_cut hj hu
    refine lv_aload_n hx hb dX0_remove_11 rfl (lv_at hl 0 rfl) ?_
    refine so_g0U hx hb hts hown I dX0_remove_12 ?_
    refine lv_iload_n hx hb dX0_remove_15 rfl (lv_at hl 1 rfl) ?_
    refine lv_iconst (v := so_b false) hx hb dX0_remove_16 (by decide +kernel) ?_
    refine so_s0U hx hb I hD hS dX0_remove_17 (hj) (fun H locs I hD hS => ?_)
    refine lv_aload_n hx hb dX0_remove_18 rfl (lv_at hl 0 rfl) ?_
    refine lv_dup hx hb dX0_remove_19 rfl ?_
    refine so_g0N hx hb hts hown I dX0_remove_20 ?_
    refine lv_iconst (v := nI 1) hx hb dX0_remove_23 (by decide +kernel) ?_
    refine so_sub hx hb dX0_remove_24 (by omega) ?_
    refine so_as (y := nI (fb_ct (va_up u j false) 10)) (congrArg nI (by omega)) ?_
    refine so_s0N hx hb hts hown I hD hS dX0_remove_25 (fun H locs I hD hS => ?_)
    refine lv_aload_n hx hb dX0_remove_28 rfl (lv_at hl 0 rfl) ?_
    refine so_g0N hx hb hts hown I dX0_remove_29 ?_
    exact fin H locs (nI (fb_ct (va_up u j false) 10)) _ _ (rfl) I hD hS dX0_remove_32
  · have e1 : u2 = u := by rw [← hu2, so_ru_n c0]
    have e2 : r2 = -6 := by rw [← hr2, so_aRem_n c0]
    subst e1; subst e2
    refine lv_bipush (v := (-6)) hx hb dX0_remove_8 (by decide +kernel) ?_
    exact fin s.heap [] ((-6)) _ _ (rfl) I hD hS dX0_remove_10
set_option maxHeartbeats 4000000 in
theorem m1_take (l : Launch) (D : va_G) (a : Nat → Nat) (d : Nat → ClassId) (u : Nat → Bool) (P C O : Nat → Nat) (ok : so_ok u P C O) (hct : fb_ct u 10 < 10) (sz p q o : Nat) : Met l yX1_take (ws_ yX1_take cX1_take 5 (some .int)) (so_R 0) (va_Pc [.ref (a 0), .int (nI p), .int (nI q), .int (nI o)] (fun U => U.heap.size = sz ∧ so_I1 D a d u P C O U U.heap ∧ va_D (fun _ => True) (so_V1 a d u P C O))) (va_Qi (fun (r : Int32) (_ : Unit) => r = nI (so_k u)) (fun _ t => so_I1 D a d (va_up u (so_k u) true) (va_up P (so_k u) p) (va_up C (so_k u) q) (va_up O (so_k u) o) t t.heap ∧ va_D (va_A (so_V1 a d u P C O) sz) (so_V1 a d (va_up u (so_k u) true) (va_up P (so_k u) p) (va_up C (so_k u) q) (va_up O (so_k u) o))) (va_A (so_V1 a d u P C O) sz)) 0 0 (va_A (so_V1 a d u P C O) sz) := by
  refine so_metU (Inv := fun U H => so_I1 D a d u P C O U H) (Inv' := fun U H => so_I1 D a d (va_up u (so_k u) true) (va_up P (so_k u) p) (va_up C (so_k u) q) (va_up O (so_k u) o) U H) (fun w U H h I => so_mvI1 w U H h I) (by decide) (Nat.le_of_ble_eq_true rfl) ?_
  intro pg e s m below meth c Q A hx hb hml hown hts I hD hA fin ls hl
  have hl : lv_has ls 5 [(0, .ref (a 0)), (1, .int (nI p)), (2, .int (nI q)), (3, .int (nI o))] := hl
  have hown : s.vm.findClass RX1 = some m.cls := hown
  have I : so_I1 D a d u P C O s s.heap := I
  subst hA
  have hS : va_S (va_A (so_V1 a d u P C O) s.heap.size) s.heap s.heap [] := va_S.rf
  have hk9 := so_k_lt u
  have hkf := so_k_free hct
  have loop : ∀ (k i : Nat), (i + k = 10) → (i ≤ so_k u) → ∀ ls : Array Slot, lv_has ls 5 [(4, .int (nI i)), (0, .ref (a 0)), (1, .int (nI p)), (2, .int (nI q)), (3, .int (nI o))] → W pg l e (so_R 0) s m ([.ref (a 0), .int (nI p), .int (nI q), .int (nI o)] : List Value).toArray below meth c s.heap [] 0 0 Q (F0 m 3 ls []) := by
    intro k
    induction k with
    | zero =>
      intro i hi hF ls hl
      exfalso; omega
    | succ k ih =>
      intro i hi hF ls hl
      have hpl := so_p_le ok (show i < 10 by omega)
      refine lv_iload hx hb dX1_take_3 (lv_at hl 0 rfl) ?_
      refine lv_bipush (v := nI 10) hx hb dX1_take_5 (by decide +kernel) ?_
      refine so_ige (tgt := 53) hx hb dX1_take_7 (by decide) (by omega) (by omega) (fun c1 => ?_) (fun c1 => ?_)
      · exfalso; omega
      · refine lv_aload_n hx hb dX1_take_10 rfl (lv_at hl 1 rfl) ?_
        refine so_g1P hx hb hts hown I dX1_take_11 ?_
        refine lv_iload hx hb dX1_take_14 (lv_at hl 0 rfl) ?_
        refine so_l1P hx hb I dX1_take_16 (by omega) ?_
        refine so_zne (tgt := 47) hx hb dX1_take_17 (by decide) (by omega) (fun c2 => ?_) (fun c2 => ?_)
        · refine lv_iinc (v := nI (i + 1)) (lv' := [(4, .int (nI (i + 1))), (0, .ref (a 0)), (1, .int (nI p)), (2, .int (nI q)), (3, .int (nI o))]) hx hb dX1_take_47 hl (k := 0) rfl (so_inc i) (by decide) rfl (fun ls hl => ?_)
          refine lv_goto (tgt := 3) hx hb dX1_take_50 (by decide) ?_
          exact ih (i + 1) (by omega) (by rcases Nat.lt_or_eq_of_le hF with q | q; exact q; exact absurd (so_p_1 c2) (by rw [q, hkf]; exact Bool.false_ne_true)) ls (lv_sub hl [0, 1, 2, 3, 4] rfl)
        · have hik : i = so_k u := by
            rcases Nat.lt_or_eq_of_le hF with q | q
            · have := so_k_used q; rw [so_p_0 ok (by omega) c2] at this; cases this
            · exact q
          refine lv_aload_n hx hb dX1_take_20 rfl (lv_at hl 1 rfl) ?_
          refine so_g1P hx hb hts hown I dX1_take_21 ?_
          refine lv_iload hx hb dX1_take_24 (lv_at hl 0 rfl) ?_
          refine lv_iload_n hx hb dX1_take_26 rfl (lv_at hl 2 rfl) ?_
          refine so_s1P hx hb I hD hS dX1_take_27 (by omega) (fun H locs I hD hS => ?_)
          refine lv_aload_n hx hb dX1_take_28 rfl (lv_at hl 1 rfl) ?_
          refine so_g1C hx hb hts hown I dX1_take_29 ?_
          refine lv_iload hx hb dX1_take_32 (lv_at hl 0 rfl) ?_
          refine lv_iload_n hx hb dX1_take_34 rfl (lv_at hl 3 rfl) ?_
          refine so_s1C hx hb I hD hS dX1_take_35 (by omega) (fun H locs I hD hS => ?_)
          refine lv_aload_n hx hb dX1_take_36 rfl (lv_at hl 1 rfl) ?_
          refine so_g1O hx hb hts hown I dX1_take_37 ?_
          refine lv_iload hx hb dX1_take_40 (lv_at hl 0 rfl) ?_
          refine lv_iload_n hx hb dX1_take_42 rfl (lv_at hl 4 rfl) ?_
          refine so_s1O hx hb I hD hS dX1_take_43 (by omega) (fun H locs I hD hS => ?_)
          rw [hik] at I hD
          refine lv_iload hx hb dX1_take_44 (lv_at hl 0 rfl) ?_
          exact fin H locs (nI i) _ _ (by rw [hik]) I hD hS dX1_take_46
  refine lv_iconst (v := nI 0) hx hb dX1_take_0 (by decide +kernel) ?_
  refine lv_istore (lv' := [(4, .int (nI 0)), (0, .ref (a 0)), (1, .int (nI p)), (2, .int (nI q)), (3, .int (nI o))]) hx hb dX1_take_1 hl (by decide) rfl (fun ls hl => ?_)
  exact loop 10 0 (by omega) (Nat.zero_le _) ls (lv_sub hl [0, 1, 2, 3, 4] rfl)
set_option maxHeartbeats 4000000 in
theorem m1_admit (l : Launch) (D : va_G) (a : Nat → Nat) (d : Nat → ClassId) (u : Nat → Bool) (P C O : Nat → Nat) (ok : so_ok u P C O) (sz : Nat) (x y : Int32) (E : so_E) (hE : so_dAdm u P C O x y = E) : Met l yX1_admit (ws_ yX1_admit cX1_admit 4 (some .int)) (so_R 3) (va_Pc [.ref (a 0), .int x, .int y] (fun U => U.heap.size = sz ∧ so_I1 D a d u P C O U U.heap ∧ va_D (fun _ => True) (so_V1 a d u P C O))) (va_Qi (fun (r : Int32) (_ : Unit) => r = so_ans u E) (fun _ t => so_I1 D a d (so_nu u E) (so_nP u P E) (so_nC u C E) (so_nO u O E) t t.heap ∧ va_D (va_A (so_V1 a d u P C O) sz) (so_V1 a d (so_nu u E) (so_nP u P E) (so_nC u C E) (so_nO u O E))) (va_A (so_V1 a d u P C O) sz)) 0 0 (va_A (so_V1 a d u P C O) sz) := by
  refine so_metU (Inv := fun U H => so_I1 D a d u P C O U H) (Inv' := fun U H => so_I1 D a d (so_nu u E) (so_nP u P E) (so_nC u C E) (so_nO u O E) U H) (fun w U H h I => so_mvI1 w U H h I) (by decide) (Nat.le_of_ble_eq_true rfl) ?_
  intro pg e s m below meth c Q A hx hb hml hown hts I hD hA fin ls hl
  have hl : lv_has ls 4 [(0, .ref (a 0)), (1, .int x), (2, .int y)] := hl
  have hown : s.vm.findClass RX1 = some m.cls := hown
  have I : so_I1 D a d u P C O s s.heap := I
  subst hA
  have hS : va_S (va_A (so_V1 a d u P C O) s.heap.size) s.heap s.heap [] := va_S.rf
  refine lv_aload_n hx hb dX1_admit_0 rfl (lv_at hl 0 rfl) ?_
  refine lv_iload_n hx hb dX1_admit_1 rfl (lv_at hl 1 rfl) ?_
  refine so_cV (N := 1) (As := [.int x]) (rest := []) ⟨hx, hb, hml, hown, hts⟩ (m1_badPeriod l D a d u P C O x) (so_pre1 I) q138 q140 qs6 q17 q141 (by decide +kernel) ⟨Nat.le_of_ble_eq_true rfl, Nat.le_of_ble_eq_true rfl⟩ rfl hl.1 rfl (Nat.le_of_ble_eq_true rfl) ⟨Nat.zero_le _, Nat.zero_le _⟩ dX1_admit_2 (fun r hr => ?_)
  have hr : r = so_b (so_bp x) := hr
  subst hr
  refine so_beq (tgt := 10) hx hb dX1_admit_5 (by decide) (fun c0 => ?_) (fun c0 => ?_)
  · obtain ⟨p, rfl, hp1, hp2, hp3⟩ := so_bp_f c0
    refine lv_iload_n hx hb dX1_admit_10 rfl (lv_at hl 2 rfl) ?_
    refine lv_iconst (v := 1) hx hb dX1_admit_11 (by decide +kernel) ?_
    refine lv_icmp_lt (tgt := 20) hx hb dX1_admit_12 (by decide) (fun c1 => ?_) (fun c1 => ?_)
    · have e9 : E = .inl (-2) := by rw [← hE]; exact so_dAdm_2 c0 c1
      subst e9
      refine lv_bipush (v := (-2)) hx hb dX1_admit_20 (by decide +kernel) ?_
      exact fin s.heap [] ((-2)) _ _ (rfl) I hD hS dX1_admit_22
    · refine lv_iload_n hx hb dX1_admit_15 rfl (lv_at hl 2 rfl) ?_
      refine lv_iload_n hx hb dX1_admit_16 rfl (lv_at hl 1 rfl) ?_
      refine lv_icmp_le (tgt := 23) hx hb dX1_admit_17 (by decide) (fun c2 => ?_) (fun c2 => ?_)
      · obtain ⟨q, rfl, hq1, hq2⟩ := so_yle hp2 c1 c2
        have hcl := fb_ct_le u 10
        refine lv_aload_n hx hb dX1_admit_23 rfl (lv_at hl 0 rfl) ?_
        refine so_cV (N := 0) (As := []) (rest := []) ⟨hx, hb, hml, hown, hts⟩ (m1_count l D a d u P C O ok) (so_pre1 I) q142 q144 qs7 q17 q145 (by decide +kernel) ⟨Nat.le_of_ble_eq_true rfl, Nat.le_of_ble_eq_true rfl⟩ rfl hl.1 rfl (Nat.le_of_ble_eq_true rfl) ⟨Nat.zero_le _, Nat.zero_le _⟩ dX1_admit_24 (fun r0 hr0 => ?_)
        have hr0 : r0 = nI (fb_ct u 10) := hr0
        subst hr0
        refine lv_bipush (v := nI 10) hx hb dX1_admit_27 (by decide +kernel) ?_
        refine so_ine (tgt := 35) hx hb dX1_admit_29 (by decide) (by omega) (by omega) (fun c5 => ?_) (fun c5 => ?_)
        · have hct : fb_ct u 10 < 10 := by omega
          have hE5 : so_oE p q (so_fo (so_ra u P C O p) q p 0) = E := by rw [← hE, so_dAdm_5 c0 hp2 hq1 hq2 hct]
          have loop : ∀ (k i : Nat), (i + k = p) → (so_fo (so_ra u P C O p) q k i = so_fo (so_ra u P C O p) q p 0) → ∀ ls : Array Slot, lv_has ls 4 [(3, .int (nI i)), (0, .ref (a 0)), (1, .int (nI p)), (2, .int (nI q))] → W pg l e (so_R 3) s m ([.ref (a 0), .int (nI p), .int (nI q)] : List Value).toArray below meth c s.heap [] 0 0 Q (F0 m 37 ls []) := by
            intro k
            induction k with
            | zero =>
              intro i hi hF ls hl
              refine lv_iload_n hx hb dX1_admit_37 rfl (lv_at hl 0 rfl) ?_
              refine lv_iload_n hx hb dX1_admit_38 rfl (lv_at hl 2 rfl) ?_
              refine so_ige (tgt := 66) hx hb dX1_admit_39 (by decide) (by omega) (by omega) (fun c7 => ?_) (fun c7 => ?_)
              · have e9 : E = .inl (-5) := by rw [← hE5, ← hF]; rfl
                subst e9
                refine lv_bipush (v := (-5)) hx hb dX1_admit_66 (by decide +kernel) ?_
                exact fin s.heap [] ((-5)) _ _ (rfl) I hD hS dX1_admit_68
              · exfalso; omega
            | succ k ih =>
              intro i hi hF ls hl
              have hral := so_ra_le u P C O p i
              refine lv_iload_n hx hb dX1_admit_37 rfl (lv_at hl 0 rfl) ?_
              refine lv_iload_n hx hb dX1_admit_38 rfl (lv_at hl 2 rfl) ?_
              refine so_ige (tgt := 66) hx hb dX1_admit_39 (by decide) (by omega) (by omega) (fun c7 => ?_) (fun c7 => ?_)
              · exfalso; omega
              · refine lv_aload_n hx hb dX1_admit_42 rfl (lv_at hl 1 rfl) ?_
                refine lv_iload_n hx hb dX1_admit_43 rfl (lv_at hl 2 rfl) ?_
                refine lv_iload_n hx hb dX1_admit_44 rfl (lv_at hl 0 rfl) ?_
                refine so_cV (N := 2) (As := [.int (nI p), .int (nI i)]) (rest := []) ⟨hx, hb, hml, hown, hts⟩ (m1_longest l D a d u P C O ok p hp1 hp2 hp3 i (by omega)) (so_pre1 I) q146 q148 qs8 q17 q149 (by decide +kernel) ⟨Nat.le_of_ble_eq_true rfl, Nat.le_of_ble_eq_true rfl⟩ rfl hl.1 rfl (Nat.le_of_ble_eq_true rfl) ⟨Nat.zero_le _, Nat.zero_le _⟩ dX1_admit_45 (fun r1 hr1 => ?_)
                have hr1 : r1 = nI (so_ra u P C O p i) := hr1
                subst hr1
                refine lv_iload_n hx hb dX1_admit_48 rfl (lv_at hl 3 rfl) ?_
                refine so_ilt (tgt := 60) hx hb dX1_admit_49 (by decide) (by omega) (by omega) (fun c8 => ?_) (fun c8 => ?_)
                · refine lv_iinc (v := nI (i + 1)) (lv' := [(3, .int (nI (i + 1))), (0, .ref (a 0)), (1, .int (nI p)), (2, .int (nI q))]) hx hb dX1_admit_60 hl (k := 0) rfl (so_inc i) (by decide) rfl (fun ls hl => ?_)
                  refine lv_goto (tgt := 37) hx hb dX1_admit_63 (by decide) ?_
                  exact ih (i + 1) (by omega) ((so_fo_f c8).symm.trans hF) ls (lv_sub hl [0, 1, 2, 3] rfl)
                · have e9 : E = .inr (p, q, i) := by rw [← hE5, ← hF, so_fo_t c8]; rfl
                  subst e9
                  refine lv_aload_n hx hb dX1_admit_52 rfl (lv_at hl 1 rfl) ?_
                  refine lv_iload_n hx hb dX1_admit_53 rfl (lv_at hl 2 rfl) ?_
                  refine lv_iload_n hx hb dX1_admit_54 rfl (lv_at hl 3 rfl) ?_
                  refine lv_iload_n hx hb dX1_admit_55 rfl (lv_at hl 0 rfl) ?_
                  refine so_cU (N := 3) (ws := (so_V1 a d u P C O)) (ans := nI (so_k u)) (Inv := fun U H => so_I1 D a d (va_up u (so_k u) true) (va_up P (so_k u) p) (va_up C (so_k u) q) (va_up O (so_k u) i) U H) (ws' := so_V1 a d (va_up u (so_k u) true) (va_up P (so_k u) p) (va_up C (so_k u) q) (va_up O (so_k u) i)) (As := [.int (nI p), .int (nI q), .int (nI i)]) (rest := []) ⟨hx, hb, hml, hown, hts⟩ (m1_take l D a d u P C O ok hct s.heap.size p q i) (so_preU1 I hD) (fun t H1 ht hvm h => so_mv1 t H1 ht hvm h) q163 q165 qs11 q17 q166 (by decide +kernel) ⟨Nat.le_of_ble_eq_true rfl, Nat.le_of_ble_eq_true rfl⟩ rfl hl.1 rfl (Nat.le_of_ble_eq_true rfl) ⟨Nat.zero_le _, Nat.zero_le _⟩ dX1_admit_56 hS (fun _ h => h) (fun H locs I hD hk hS => ?_)
                  have I : so_I1 D a d (va_up u (so_k u) true) (va_up P (so_k u) p) (va_up C (so_k u) q) (va_up O (so_k u) i) s H := I
                  exact fin H locs (nI (so_k u)) _ _ (rfl) I hD hS dX1_admit_59
          refine lv_iconst (v := nI 0) hx hb dX1_admit_35 (by decide +kernel) ?_
          refine lv_istore_n (lv' := [(3, .int (nI 0)), (0, .ref (a 0)), (1, .int (nI p)), (2, .int (nI q))]) hx hb dX1_admit_36 rfl hl (by decide) rfl (fun ls hl => ?_)
          exact loop p 0 (by omega) rfl ls (lv_sub hl [0, 1, 2, 3] rfl)
        · have e9 : E = .inl (-4) := by rw [← hE]; exact so_dAdm_4 c0 hp2 hq1 hq2 (by omega)
          subst e9
          refine lv_bipush (v := (-4)) hx hb dX1_admit_32 (by decide +kernel) ?_
          exact fin s.heap [] ((-4)) _ _ (rfl) I hD hS dX1_admit_34
      · have e9 : E = .inl (-2) := by rw [← hE]; exact so_dAdm_3 c0 c1 c2
        subst e9
        refine lv_bipush (v := (-2)) hx hb dX1_admit_20 (by decide +kernel) ?_
        exact fin s.heap [] ((-2)) _ _ (rfl) I hD hS dX1_admit_22
  · have e9 : E = .inl (-1) := by rw [← hE]; exact so_dAdm_1 c0
    subst e9
    refine lv_iconst (v := (-1)) hx hb dX1_admit_8 (by decide +kernel) ?_
    exact fin s.heap [] ((-1)) _ _ (rfl) I hD hS dX1_admit_9
set_option maxHeartbeats 4000000 in
theorem m1_admitAt (l : Launch) (D : va_G) (a : Nat → Nat) (d : Nat → ClassId) (u : Nat → Bool) (P C O : Nat → Nat) (ok : so_ok u P C O) (sz : Nat) (x y z : Int32) (E : so_E) (hE : so_dAt u P C O x y z = E) : Met l yX1_admitAt (ws_ yX1_admitAt cX1_admitAt 4 (some .int)) (so_R 3) (va_Pc [.ref (a 0), .int x, .int y, .int z] (fun U => U.heap.size = sz ∧ so_I1 D a d u P C O U U.heap ∧ va_D (fun _ => True) (so_V1 a d u P C O))) (va_Qi (fun (r : Int32) (_ : Unit) => r = so_ans u E) (fun _ t => so_I1 D a d (so_nu u E) (so_nP u P E) (so_nC u C E) (so_nO u O E) t t.heap ∧ va_D (va_A (so_V1 a d u P C O) sz) (so_V1 a d (so_nu u E) (so_nP u P E) (so_nC u C E) (so_nO u O E))) (va_A (so_V1 a d u P C O) sz)) 0 0 (va_A (so_V1 a d u P C O) sz) := by
  refine so_metU (Inv := fun U H => so_I1 D a d u P C O U H) (Inv' := fun U H => so_I1 D a d (so_nu u E) (so_nP u P E) (so_nC u C E) (so_nO u O E) U H) (fun w U H h I => so_mvI1 w U H h I) (by decide) (Nat.le_of_ble_eq_true rfl) ?_
  intro pg e s m below meth c Q A hx hb hml hown hts I hD hA fin ls hl
  have hl : lv_has ls 4 [(0, .ref (a 0)), (1, .int x), (2, .int y), (3, .int z)] := hl
  have hown : s.vm.findClass RX1 = some m.cls := hown
  have I : so_I1 D a d u P C O s s.heap := I
  subst hA
  have hS : va_S (va_A (so_V1 a d u P C O) s.heap.size) s.heap s.heap [] := va_S.rf
  refine lv_aload_n hx hb dX1_admitAt_0 rfl (lv_at hl 0 rfl) ?_
  refine lv_iload_n hx hb dX1_admitAt_1 rfl (lv_at hl 1 rfl) ?_
  refine so_cV (N := 1) (As := [.int x]) (rest := []) ⟨hx, hb, hml, hown, hts⟩ (m1_badPeriod l D a d u P C O x) (so_pre1 I) q138 q140 qs6 q17 q141 (by decide +kernel) ⟨Nat.le_of_ble_eq_true rfl, Nat.le_of_ble_eq_true rfl⟩ rfl hl.1 rfl (Nat.le_of_ble_eq_true rfl) ⟨Nat.zero_le _, Nat.zero_le _⟩ dX1_admitAt_2 (fun r hr => ?_)
  have hr : r = so_b (so_bp x) := hr
  subst hr
  refine so_beq (tgt := 10) hx hb dX1_admitAt_5 (by decide) (fun c0 => ?_) (fun c0 => ?_)
  · obtain ⟨p, rfl, hp1, hp2, hp3⟩ := so_bp_f c0
    refine lv_iload_n hx hb dX1_admitAt_10 rfl (lv_at hl 2 rfl) ?_
    refine lv_iconst (v := 1) hx hb dX1_admitAt_11 (by decide +kernel) ?_
    refine lv_icmp_lt (tgt := 20) hx hb dX1_admitAt_12 (by decide) (fun c1 => ?_) (fun c1 => ?_)
    · have e9 : E = .inl (-2) := by rw [← hE]; exact so_dAt_2 c0 c1
      subst e9
      refine lv_bipush (v := (-2)) hx hb dX1_admitAt_20 (by decide +kernel) ?_
      exact fin s.heap [] ((-2)) _ _ (rfl) I hD hS dX1_admitAt_22
    · refine lv_iload_n hx hb dX1_admitAt_15 rfl (lv_at hl 2 rfl) ?_
      refine lv_iload_n hx hb dX1_admitAt_16 rfl (lv_at hl 1 rfl) ?_
      refine lv_icmp_le (tgt := 23) hx hb dX1_admitAt_17 (by decide) (fun c2 => ?_) (fun c2 => ?_)
      · obtain ⟨q, rfl, hq1, hq2⟩ := so_yle hp2 c1 c2
        have hcl := fb_ct_le u 10
        refine lv_iload_n hx hb dX1_admitAt_23 rfl (lv_at hl 3 rfl) ?_
        refine lv_if_lt (tgt := 32) hx hb dX1_admitAt_24 (by decide) (fun c3 => ?_) (fun c3 => ?_)
        · have e9 : E = .inl (-3) := by rw [← hE]; exact so_dAt_4 c0 hp2 hq1 hq2 c3
          subst e9
          refine lv_bipush (v := (-3)) hx hb dX1_admitAt_32 (by decide +kernel) ?_
          exact fin s.heap [] ((-3)) _ _ (rfl) I hD hS dX1_admitAt_34
        · refine lv_iload_n hx hb dX1_admitAt_27 rfl (lv_at hl 3 rfl) ?_
          refine lv_iload_n hx hb dX1_admitAt_28 rfl (lv_at hl 1 rfl) ?_
          refine lv_icmp_lt (tgt := 35) hx hb dX1_admitAt_29 (by decide) (fun c4 => ?_) (fun c4 => ?_)
          · obtain ⟨o, rfl, ho⟩ := so_zlt hp2 c3 c4
            refine lv_aload_n hx hb dX1_admitAt_35 rfl (lv_at hl 0 rfl) ?_
            refine so_cV (N := 0) (As := []) (rest := []) ⟨hx, hb, hml, hown, hts⟩ (m1_count l D a d u P C O ok) (so_pre1 I) q142 q144 qs7 q17 q145 (by decide +kernel) ⟨Nat.le_of_ble_eq_true rfl, Nat.le_of_ble_eq_true rfl⟩ rfl hl.1 rfl (Nat.le_of_ble_eq_true rfl) ⟨Nat.zero_le _, Nat.zero_le _⟩ dX1_admitAt_36 (fun r0 hr0 => ?_)
            have hr0 : r0 = nI (fb_ct u 10) := hr0
            subst hr0
            refine lv_bipush (v := nI 10) hx hb dX1_admitAt_39 (by decide +kernel) ?_
            refine so_ine (tgt := 47) hx hb dX1_admitAt_41 (by decide) (by omega) (by omega) (fun c5 => ?_) (fun c5 => ?_)
            · have hct : fb_ct u 10 < 10 := by omega
              have hral := so_ra_le u P C O p o
              refine lv_aload_n hx hb dX1_admitAt_47 rfl (lv_at hl 0 rfl) ?_
              refine lv_iload_n hx hb dX1_admitAt_48 rfl (lv_at hl 1 rfl) ?_
              refine lv_iload_n hx hb dX1_admitAt_49 rfl (lv_at hl 3 rfl) ?_
              refine so_cV (N := 2) (As := [.int (nI p), .int (nI o)]) (rest := []) ⟨hx, hb, hml, hown, hts⟩ (m1_longest l D a d u P C O ok p hp1 hp2 hp3 o ho) (so_pre1 I) q146 q148 qs8 q17 q149 (by decide +kernel) ⟨Nat.le_of_ble_eq_true rfl, Nat.le_of_ble_eq_true rfl⟩ rfl hl.1 rfl (Nat.le_of_ble_eq_true rfl) ⟨Nat.zero_le _, Nat.zero_le _⟩ dX1_admitAt_50 (fun r1 hr1 => ?_)
              have hr1 : r1 = nI (so_ra u P C O p o) := hr1
              subst hr1
              refine lv_iload_n hx hb dX1_admitAt_53 rfl (lv_at hl 2 rfl) ?_
              refine so_ige (tgt := 60) hx hb dX1_admitAt_54 (by decide) (by omega) (by omega) (fun c6 => ?_) (fun c6 => ?_)
              · have e9 : E = .inr (p, q, o) := by rw [← hE]; exact so_dAt_8 c0 hp2 hq1 hq2 ho hct c6
                subst e9
                refine lv_aload_n hx hb dX1_admitAt_60 rfl (lv_at hl 0 rfl) ?_
                refine lv_iload_n hx hb dX1_admitAt_61 rfl (lv_at hl 1 rfl) ?_
                refine lv_iload_n hx hb dX1_admitAt_62 rfl (lv_at hl 2 rfl) ?_
                refine lv_iload_n hx hb dX1_admitAt_63 rfl (lv_at hl 3 rfl) ?_
                refine so_cU (N := 3) (ws := (so_V1 a d u P C O)) (ans := nI (so_k u)) (Inv := fun U H => so_I1 D a d (va_up u (so_k u) true) (va_up P (so_k u) p) (va_up C (so_k u) q) (va_up O (so_k u) o) U H) (ws' := so_V1 a d (va_up u (so_k u) true) (va_up P (so_k u) p) (va_up C (so_k u) q) (va_up O (so_k u) o)) (As := [.int (nI p), .int (nI q), .int (nI o)]) (rest := []) ⟨hx, hb, hml, hown, hts⟩ (m1_take l D a d u P C O ok hct s.heap.size p q o) (so_preU1 I hD) (fun t H1 ht hvm h => so_mv1 t H1 ht hvm h) q163 q165 qs11 q17 q166 (by decide +kernel) ⟨Nat.le_of_ble_eq_true rfl, Nat.le_of_ble_eq_true rfl⟩ rfl hl.1 rfl (Nat.le_of_ble_eq_true rfl) ⟨Nat.zero_le _, Nat.zero_le _⟩ dX1_admitAt_64 hS (fun _ h => h) (fun H locs I hD hk hS => ?_)
                have I : so_I1 D a d (va_up u (so_k u) true) (va_up P (so_k u) p) (va_up C (so_k u) q) (va_up O (so_k u) o) s H := I
                exact fin H locs (nI (so_k u)) _ _ (rfl) I hD hS dX1_admitAt_67
              · have e9 : E = .inl (-5) := by rw [← hE]; exact so_dAt_7 c0 hp2 hq1 hq2 ho hct c6
                subst e9
                refine lv_bipush (v := (-5)) hx hb dX1_admitAt_57 (by decide +kernel) ?_
                exact fin s.heap [] ((-5)) _ _ (rfl) I hD hS dX1_admitAt_59
            · have e9 : E = .inl (-4) := by rw [← hE]; exact so_dAt_6 c0 hp2 hq1 hq2 ho (by omega)
              subst e9
              refine lv_bipush (v := (-4)) hx hb dX1_admitAt_44 (by decide +kernel) ?_
              exact fin s.heap [] ((-4)) _ _ (rfl) I hD hS dX1_admitAt_46
          · have e9 : E = .inl (-3) := by rw [← hE]; exact so_dAt_5 c0 hp2 hq1 hq2 c3 c4
            subst e9
            refine lv_bipush (v := (-3)) hx hb dX1_admitAt_32 (by decide +kernel) ?_
            exact fin s.heap [] ((-3)) _ _ (rfl) I hD hS dX1_admitAt_34
      · have e9 : E = .inl (-2) := by rw [← hE]; exact so_dAt_3 c0 c1 c2
        subst e9
        refine lv_bipush (v := (-2)) hx hb dX1_admitAt_20 (by decide +kernel) ?_
        exact fin s.heap [] ((-2)) _ _ (rfl) I hD hS dX1_admitAt_22
  · have e9 : E = .inl (-1) := by rw [← hE]; exact so_dAt_1 c0
    subst e9
    refine lv_iconst (v := (-1)) hx hb dX1_admitAt_8 (by decide +kernel) ?_
    exact fin s.heap [] ((-1)) _ _ (rfl) I hD hS dX1_admitAt_9
set_option maxHeartbeats 4000000 in
theorem m1_remove (l : Launch) (D : va_G) (a : Nat → Nat) (d : Nat → ClassId) (u : Nat → Bool) (P C O : Nat → Nat) (ok : so_ok u P C O) (sz : Nat) (x : Int32) (u2 : Nat → Bool) (hu2 : so_ru u x = u2) (r2 : Int32) (hr2 : so_aRem u x = r2) : Met l yX1_remove (ws_ yX1_remove cX1_remove 2 (some .int)) (so_R 1) (va_Pc [.ref (a 0), .int x] (fun U => U.heap.size = sz ∧ so_I1 D a d u P C O U U.heap ∧ va_D (fun _ => True) (so_V1 a d u P C O))) (va_Qi (fun (r : Int32) (_ : Unit) => r = r2) (fun _ t => so_I1 D a d u2 P C O t t.heap ∧ va_D (va_A (so_V1 a d u P C O) sz) (so_V1 a d u2 P C O)) (va_A (so_V1 a d u P C O) sz)) 0 0 (va_A (so_V1 a d u P C O) sz) := by
  refine so_metU (Inv := fun U H => so_I1 D a d u P C O U H) (Inv' := fun U H => so_I1 D a d u2 P C O U H) (fun w U H h I => so_mvI1 w U H h I) (by decide) (Nat.le_of_ble_eq_true rfl) ?_
  intro pg e s m below meth c Q A hx hb hml hown hts I hD hA fin ls hl
  have hl : lv_has ls 2 [(0, .ref (a 0)), (1, .int x)] := hl
  have hown : s.vm.findClass RX1 = some m.cls := hown
  have I : so_I1 D a d u P C O s s.heap := I
  subst hA
  have hS : va_S (va_A (so_V1 a d u P C O) s.heap.size) s.heap s.heap [] := va_S.rf
  refine lv_aload_n hx hb dX1_remove_0 rfl (lv_at hl 0 rfl) ?_
  refine lv_iload_n hx hb dX1_remove_1 rfl (lv_at hl 1 rfl) ?_
  refine so_cV (N := 1) (As := [.int x]) (rest := []) ⟨hx, hb, hml, hown, hts⟩ (m1_none l D a d u P C O ok x) (so_pre1 I) q175 q177 qs12 q17 q178 (by decide +kernel) ⟨Nat.le_of_ble_eq_true rfl, Nat.le_of_ble_eq_true rfl⟩ rfl hl.1 rfl (Nat.le_of_ble_eq_true rfl) ⟨Nat.zero_le _, Nat.zero_le _⟩ dX1_remove_2 (fun r hr => ?_)
  have hr : r = so_b (so_nj u x) := hr
  subst hr
  refine so_beq (tgt := 11) hx hb dX1_remove_5 (by decide) (fun c0 => ?_) (fun c0 => ?_)
  · obtain ⟨j, rfl, hj, hu⟩ := so_nj_f c0
    have e1 : u2 = va_up u j false := by rw [← hu2, so_ru_v hj hu]
    have e2 : r2 = nI (fb_ct (va_up u j false) 10) := by rw [← hr2, so_aRem_v hj hu]
    subst e1; subst e2
    have hct := so_ct_cut hj hu
    have ok2 : so_ok (va_up u j false) P C O := by rw [← so_ru_v hj hu]; exact so_ok_cut ok
    refine lv_aload_n hx hb dX1_remove_11 rfl (lv_at hl 0 rfl) ?_
    refine so_g1P hx hb hts hown I dX1_remove_12 ?_
    refine lv_iload_n hx hb dX1_remove_15 rfl (lv_at hl 1 rfl) ?_
    refine lv_iconst (v := nI 0) hx hb dX1_remove_16 (by decide +kernel) ?_
    refine so_s1Z hx hb I hD hS dX1_remove_17 (hj) (fun H locs I hD hS => ?_)
    refine lv_aload_n hx hb dX1_remove_18 rfl (lv_at hl 0 rfl) ?_
    refine so_cV (N := 0) (As := []) (rest := []) ⟨hx, hb, hml, hown, hts⟩ (m1_count l D a d (va_up u j false) P C O ok2) (so_pre1 I) q142 q144 qs7 q17 q145 (by decide +kernel) ⟨Nat.le_of_ble_eq_true rfl, Nat.le_of_ble_eq_true rfl⟩ rfl hl.1 rfl (Nat.le_of_ble_eq_true rfl) ⟨Nat.zero_le _, Nat.zero_le _⟩ dX1_remove_19 (fun r0 hr0 => ?_)
    have hr0 : r0 = nI (fb_ct (va_up u j false) 10) := hr0
    subst hr0
    exact fin H locs (nI (fb_ct (va_up u j false) 10)) _ _ (rfl) I hD hS dX1_remove_22
  · have e1 : u2 = u := by rw [← hu2, so_ru_n c0]
    have e2 : r2 = -6 := by rw [← hr2, so_aRem_n c0]
    subst e1; subst e2
    refine lv_bipush (v := (-6)) hx hb dX1_remove_8 (by decide +kernel) ?_
    exact fin s.heap [] ((-6)) _ _ (rfl) I hD hS dX1_remove_10
end
section
/-! ===== the constructors ===== -/
set_option maxRecDepth 100000
def so_5 {α : Type} (x0 x1 x2 x3 x4 : α) : Nat → α
  | 0 => x0
  | 1 => x1
  | 2 => x2
  | 3 => x3
  | _ => x4
abbrev so_u0 : Nat → Bool := fun _ => false
abbrev so_z0 : Nat → Nat := fun _ => 0
set_option maxHeartbeats 4000000 in
theorem m0_init (l : Launch) (D : va_G) (h0 sz : Nat) : Met l yX0_init (ws_ yX0_init cX0_init 1 none) ({ frames := 1, cells := 4, slots := 40, locals := 27 }) (va_Pc [.ref h0] (fun U => U.heap.size = sz ∧ va_P D vwCl [(h0, .inr (0, [.null, .null, .null, .null, .int 0]))] U.heap ∧ va_K D vwCl [] U ∧ va_D (fun _ => True) [(h0, .inr (0, [.null, .null, .null, .null, .int 0]))])) (va_Qv (fun (q : (Nat → Nat) × (Nat → ClassId)) => q.1 0 = h0) (fun q t => so_I0 D q.1 q.2 (nI (fb_ct so_u0 10)) so_u0 so_z0 so_z0 so_z0 t t.heap ∧ va_D (va_A [(h0, .inr (0, [.null, .null, .null, .null, .int 0]))] sz) (so_V0 q.1 q.2 (nI (fb_ct so_u0 10)) so_u0 so_z0 so_z0 so_z0)) (va_A [(h0, .inr (0, [.null, .null, .null, .null, .int 0]))] sz)) 4 40 (va_A [(h0, .inr (0, [.null, .null, .null, .null, .int 0]))] sz) := by
  refine Met.ofW (cc := cX0_init) (maxL := 1) (ret := none) (by decide) rfl ?_
  intro pg e s m args below meth c s₁ B hml hv
  obtain ⟨rfl, hsz, hP, hK, hD0⟩ := hv
  have hx := B.exec
  have hb := B.bytes
  have hr := B.returns
  have hts := atoms_spec (ws := ws_ yX0_init cX0_init 1 none) B.pre
  have hts : ∀ w ∈ lw_all, w.before _ s = true := fun w h => hts w (List.mem_cons_of_mem _ h)
  have hown : s.vm.findClass RX0 = some m.cls := findClass_of_methodNamed B.named
  have hlocks := B.notSynchronized
  have hin : meth.name = "<init>" := (name_of_methodNamed B.named B.method).1
  subst hsz
  have hD := hD0.self (sz := s.heap.size)
  generalize hAe : va_A [(h0, .inr (0, [.null, .null, .null, .null, .int 0]))] s.heap.size = A at hD ⊢
  have hA : ∀ q : Nat, s.heap.size ≤ q → A q := fun q h => by rw [← hAe]; exact Or.inr h
  have hS : va_S A s.heap s.heap [] := va_S.rf
  have hl := lv_entry ([.ref h0]) (n := 1) (Nat.le_of_ble_eq_true rfl)
  rw [lg_entry_eq]
  generalize (lg_sl ([.ref h0]) ++ List.replicate (1 - (lg_sl ([.ref h0])).length) Slot.unset).toArray = ls at hl ⊢
  have hl : lv_has ls 1 [(0, .ref h0)] := hl
  refine lv_aload_n hx hb dX0_init_0 rfl (lv_at hl 0 rfl) ?_
  refine W.objInit hx hb hown (hts _ q23) (hts _ q24) (hts _ q25) rfl (by rw [hml]; exact hl.1) rfl dX0_init_1 (Nat.le_of_ble_eq_true rfl) (Nat.le_of_ble_eq_true rfl) ?_
  refine W.eq (g2 := F0 m 4 ls []) rfl ?_
  refine lv_aload_n hx hb dX0_init_4 rfl (lv_at hl 0 rfl) ?_
  refine lv_bipush (v := 10) hx hb dX0_init_5 (by decide +kernel) ?_
  refine va_newa (atype := .boolean) (ty := .boolean) (N' := 10) (a0 := (10, .inl (fun j => so_b (so_u0 j)))) hx hb (hts _ q42) rfl hK hP hD hS hA (fun cA => rfl) (by decide) (by decide) (by decide) (Nat.le_of_ble_eq_true rfl) (Nat.le_of_ble_eq_true rfl) dX0_init_7 (fun q1 d1 H hK hP hD hS => ?_)
  have hP : va_P D vwCl [(h0, .inr (0, [.null, .null, .null, .null, .int 0])), (q1, .inl (d1, 10, .inl (fun j => so_b (so_u0 j))))] H := hP
  have hD : va_D A [(h0, .inr (0, [.null, .null, .null, .null, .int 0])), (q1, .inl (d1, 10, .inl (fun j => so_b (so_u0 j))))] := hD
  refine va_putF (D := D) (ci := 0) (v := .ref q1) (ty := .array .boolean) (C := RX0) (T := TX0) (N := 5) hx hb hts in_X0 tyX0 tyX0_ok nmX0 hown hK hP hD hS 0 rfl rfl 0 (by decide) (hts _ q26) (fun _ h9 => h9) rfl hin rfl (by decide +kernel) rfl rfl (Nat.le_of_ble_eq_true rfl) dX0_init_9 (fun H locs hP hD hS => ?_)
  have hP : va_P D vwCl [(h0, .inr (0, [.ref q1, .null, .null, .null, .int 0])), (q1, .inl (d1, 10, .inl (fun j => so_b (so_u0 j))))] H := hP
  have hD : va_D A [(h0, .inr (0, [.ref q1, .null, .null, .null, .int 0])), (q1, .inl (d1, 10, .inl (fun j => so_b (so_u0 j))))] := hD
  refine lv_aload_n hx hb dX0_init_12 rfl (lv_at hl 0 rfl) ?_
  refine lv_bipush (v := 10) hx hb dX0_init_13 (by decide +kernel) ?_
  refine va_newa (atype := .int) (ty := .int) (N' := 10) (a0 := (10, .inl (fun j => nI (so_z0 j)))) hx hb (hts _ q43) rfl hK hP hD hS hA (fun cA => rfl) (by decide) (by decide) (by decide) (Nat.le_of_ble_eq_true rfl) (Nat.le_of_ble_eq_true rfl) dX0_init_15 (fun q2 d2 H hK hP hD hS => ?_)
  have hP : va_P D vwCl [(h0, .inr (0, [.ref q1, .null, .null, .null, .int 0])), (q1, .inl (d1, 10, .inl (fun j => so_b (so_u0 j)))), (q2, .inl (d2, 10, .inl (fun j => nI (so_z0 j))))] H := hP
  have hD : va_D A [(h0, .inr (0, [.ref q1, .null, .null, .null, .int 0])), (q1, .inl (d1, 10, .inl (fun j => so_b (so_u0 j)))), (q2, .inl (d2, 10, .inl (fun j => nI (so_z0 j))))] := hD
  refine va_putF (D := D) (ci := 0) (v := .ref q2) (ty := .array .int) (C := RX0) (T := TX0) (N := 5) hx hb hts in_X0 tyX0 tyX0_ok nmX0 hown hK hP hD hS 0 rfl rfl 1 (by decide) (hts _ q27) (fun _ h9 => h9) rfl hin rfl (by decide +kernel) rfl rfl (Nat.le_of_ble_eq_true rfl) dX0_init_17 (fun H locs hP hD hS => ?_)
  have hP : va_P D vwCl [(h0, .inr (0, [.ref q1, .ref q2, .null, .null, .int 0])), (q1, .inl (d1, 10, .inl (fun j => so_b (so_u0 j)))), (q2, .inl (d2, 10, .inl (fun j => nI (so_z0 j))))] H := hP
  have hD : va_D A [(h0, .inr (0, [.ref q1, .ref q2, .null, .null, .int 0])), (q1, .inl (d1, 10, .inl (fun j => so_b (so_u0 j)))), (q2, .inl (d2, 10, .inl (fun j => nI (so_z0 j))))] := hD
  refine lv_aload_n hx hb dX0_init_20 rfl (lv_at hl 0 rfl) ?_
  refine lv_bipush (v := 10) hx hb dX0_init_21 (by decide +kernel) ?_
  refine va_newa (atype := .int) (ty := .int) (N' := 10) (a0 := (10, .inl (fun j => nI (so_z0 j)))) hx hb (hts _ q43) rfl hK hP hD hS hA (fun cA => rfl) (by decide) (by decide) (by decide) (Nat.le_of_ble_eq_true rfl) (Nat.le_of_ble_eq_true rfl) dX0_init_23 (fun q3 d3 H hK hP hD hS => ?_)
  have hP : va_P D vwCl [(h0, .inr (0, [.ref q1, .ref q2, .null, .null, .int 0])), (q1, .inl (d1, 10, .inl (fun j => so_b (so_u0 j)))), (q2, .inl (d2, 10, .inl (fun j => nI (so_z0 j)))), (q3, .inl (d3, 10, .inl (fun j => nI (so_z0 j))))] H := hP
  have hD : va_D A [(h0, .inr (0, [.ref q1, .ref q2, .null, .null, .int 0])), (q1, .inl (d1, 10, .inl (fun j => so_b (so_u0 j)))), (q2, .inl (d2, 10, .inl (fun j => nI (so_z0 j)))), (q3, .inl (d3, 10, .inl (fun j => nI (so_z0 j))))] := hD
  refine va_putF (D := D) (ci := 0) (v := .ref q3) (ty := .array .int) (C := RX0) (T := TX0) (N := 5) hx hb hts in_X0 tyX0 tyX0_ok nmX0 hown hK hP hD hS 0 rfl rfl 2 (by decide) (hts _ q28) (fun _ h9 => h9) rfl hin rfl (by decide +kernel) rfl rfl (Nat.le_of_ble_eq_true rfl) dX0_init_25 (fun H locs hP hD hS => ?_)
  have hP : va_P D vwCl [(h0, .inr (0, [.ref q1, .ref q2, .ref q3, .null, .int 0])), (q1, .inl (d1, 10, .inl (fun j => so_b (so_u0 j)))), (q2, .inl (d2, 10, .inl (fun j => nI (so_z0 j)))), (q3, .inl (d3, 10, .inl (fun j => nI (so_z0 j))))] H := hP
  have hD : va_D A [(h0, .inr (0, [.ref q1, .ref q2, .ref q3, .null, .int 0])), (q1, .inl (d1, 10, .inl (fun j => so_b (so_u0 j)))), (q2, .inl (d2, 10, .inl (fun j => nI (so_z0 j)))), (q3, .inl (d3, 10, .inl (fun j => nI (so_z0 j))))] := hD
  refine lv_aload_n hx hb dX0_init_28 rfl (lv_at hl 0 rfl) ?_
  refine lv_bipush (v := 10) hx hb dX0_init_29 (by decide +kernel) ?_
  refine va_newa (atype := .int) (ty := .int) (N' := 10) (a0 := (10, .inl (fun j => nI (so_z0 j)))) hx hb (hts _ q43) rfl hK hP hD hS hA (fun cA => rfl) (by decide) (by decide) (by decide) (Nat.le_of_ble_eq_true rfl) (Nat.le_of_ble_eq_true rfl) dX0_init_31 (fun q4 d4 H hK hP hD hS => ?_)
  have hP : va_P D vwCl [(h0, .inr (0, [.ref q1, .ref q2, .ref q3, .null, .int 0])), (q1, .inl (d1, 10, .inl (fun j => so_b (so_u0 j)))), (q2, .inl (d2, 10, .inl (fun j => nI (so_z0 j)))), (q3, .inl (d3, 10, .inl (fun j => nI (so_z0 j)))), (q4, .inl (d4, 10, .inl (fun j => nI (so_z0 j))))] H := hP
  have hD : va_D A [(h0, .inr (0, [.ref q1, .ref q2, .ref q3, .null, .int 0])), (q1, .inl (d1, 10, .inl (fun j => so_b (so_u0 j)))), (q2, .inl (d2, 10, .inl (fun j => nI (so_z0 j)))), (q3, .inl (d3, 10, .inl (fun j => nI (so_z0 j)))), (q4, .inl (d4, 10, .inl (fun j => nI (so_z0 j))))] := hD
  refine va_putF (D := D) (ci := 0) (v := .ref q4) (ty := .array .int) (C := RX0) (T := TX0) (N := 5) hx hb hts in_X0 tyX0 tyX0_ok nmX0 hown hK hP hD hS 0 rfl rfl 3 (by decide) (hts _ q29) (fun _ h9 => h9) rfl hin rfl (by decide +kernel) rfl rfl (Nat.le_of_ble_eq_true rfl) dX0_init_33 (fun H locs hP hD hS => ?_)
  have hP : va_P D vwCl [(h0, .inr (0, [.ref q1, .ref q2, .ref q3, .ref q4, .int 0])), (q1, .inl (d1, 10, .inl (fun j => so_b (so_u0 j)))), (q2, .inl (d2, 10, .inl (fun j => nI (so_z0 j)))), (q3, .inl (d3, 10, .inl (fun j => nI (so_z0 j)))), (q4, .inl (d4, 10, .inl (fun j => nI (so_z0 j))))] H := hP
  have hD : va_D A [(h0, .inr (0, [.ref q1, .ref q2, .ref q3, .ref q4, .int 0])), (q1, .inl (d1, 10, .inl (fun j => so_b (so_u0 j)))), (q2, .inl (d2, 10, .inl (fun j => nI (so_z0 j)))), (q3, .inl (d3, 10, .inl (fun j => nI (so_z0 j)))), (q4, .inl (d4, 10, .inl (fun j => nI (so_z0 j))))] := hD
  refine lv_aload_n hx hb dX0_init_36 rfl (lv_at hl 0 rfl) ?_
  refine lv_iconst (v := nI 0) hx hb dX0_init_37 (by decide +kernel) ?_
  refine va_put (D := D) (ci := 0) (v := .int (nI 0)) (ty := .int) (C := RX0) (T := TX0) (N := 5) hx hb hts in_X0 tyX0 tyX0_ok nmX0 hown hK hP hD hS 0 rfl rfl 4 (by decide) (hts _ q30) (fun _ h9 => h9) rfl (by decide +kernel) rfl rfl (Nat.le_of_ble_eq_true rfl) dX0_init_38 (fun H locs hP hD hS => ?_)
  have hP : va_P D vwCl [(h0, .inr (0, [.ref q1, .ref q2, .ref q3, .ref q4, .int (nI 0)])), (q1, .inl (d1, 10, .inl (fun j => so_b (so_u0 j)))), (q2, .inl (d2, 10, .inl (fun j => nI (so_z0 j)))), (q3, .inl (d3, 10, .inl (fun j => nI (so_z0 j)))), (q4, .inl (d4, 10, .inl (fun j => nI (so_z0 j))))] H := hP
  have hD : va_D A [(h0, .inr (0, [.ref q1, .ref q2, .ref q3, .ref q4, .int (nI 0)])), (q1, .inl (d1, 10, .inl (fun j => so_b (so_u0 j)))), (q2, .inl (d2, 10, .inl (fun j => nI (so_z0 j)))), (q3, .inl (d3, 10, .inl (fun j => nI (so_z0 j)))), (q4, .inl (d4, 10, .inl (fun j => nI (so_z0 j))))] := hD
  have hP9 : va_P D vwCl (so_V0 (so_5 h0 q1 q2 q3 q4) (so_5 d1 d1 d2 d3 d4) (nI (fb_ct so_u0 10)) so_u0 so_z0 so_z0 so_z0) H := hP
  have hD9 : va_D A (so_V0 (so_5 h0 q1 q2 q3 q4) (so_5 d1 d1 d2 d3 d4) (nI (fb_ct so_u0 10)) so_u0 so_z0 so_z0 so_z0) := hD
  have hK9 : va_K D vwCl (so_T0 (so_5 d1 d1 d2 d3 d4)) s := hK
  refine W.widen (k := 4) (n := 40) (by decide) (by decide) ?_
  exact W.vret hx hb hr (fun t ht hW => ⟨⟨(so_5 h0 q1 q2 q3 q4, so_5 d1 d1 d2 d3 d4), rfl, rfl, ⟨by rw [ht]; exact hP9, va_K.moved hW.alike hK9⟩, hD9⟩, hS.F ht⟩) hS.2.2 dX0_init_41
set_option maxHeartbeats 4000000 in
theorem m1_init (l : Launch) (D : va_G) (h0 sz : Nat) : Met l yX1_init (ws_ yX1_init cX1_init 1 none) ({ frames := 1, cells := 3, slots := 30, locals := 27 }) (va_Pc [.ref h0] (fun U => U.heap.size = sz ∧ va_P D vwCl [(h0, .inr (1, [.null, .null, .null]))] U.heap ∧ va_K D vwCl [] U ∧ va_D (fun _ => True) [(h0, .inr (1, [.null, .null, .null]))])) (va_Qv (fun (q : (Nat → Nat) × (Nat → ClassId)) => q.1 0 = h0) (fun q t => so_I1 D q.1 q.2 so_u0 so_z0 so_z0 so_z0 t t.heap ∧ va_D (va_A [(h0, .inr (1, [.null, .null, .null]))] sz) (so_V1 q.1 q.2 so_u0 so_z0 so_z0 so_z0)) (va_A [(h0, .inr (1, [.null, .null, .null]))] sz)) 3 30 (va_A [(h0, .inr (1, [.null, .null, .null]))] sz) := by
  refine Met.ofW (cc := cX1_init) (maxL := 1) (ret := none) (by decide) rfl ?_
  intro pg e s m args below meth c s₁ B hml hv
  obtain ⟨rfl, hsz, hP, hK, hD0⟩ := hv
  have hx := B.exec
  have hb := B.bytes
  have hr := B.returns
  have hts := atoms_spec (ws := ws_ yX1_init cX1_init 1 none) B.pre
  have hts : ∀ w ∈ lw_all, w.before _ s = true := fun w h => hts w (List.mem_cons_of_mem _ h)
  have hown : s.vm.findClass RX1 = some m.cls := findClass_of_methodNamed B.named
  have hlocks := B.notSynchronized
  have hin : meth.name = "<init>" := (name_of_methodNamed B.named B.method).1
  subst hsz
  have hD := hD0.self (sz := s.heap.size)
  generalize hAe : va_A [(h0, .inr (1, [.null, .null, .null]))] s.heap.size = A at hD ⊢
  have hA : ∀ q : Nat, s.heap.size ≤ q → A q := fun q h => by rw [← hAe]; exact Or.inr h
  have hS : va_S A s.heap s.heap [] := va_S.rf
  have hl := lv_entry ([.ref h0]) (n := 1) (Nat.le_of_ble_eq_true rfl)
  rw [lg_entry_eq]
  generalize (lg_sl ([.ref h0]) ++ List.replicate (1 - (lg_sl ([.ref h0])).length) Slot.unset).toArray = ls at hl ⊢
  have hl : lv_has ls 1 [(0, .ref h0)] := hl
  refine lv_aload_n hx hb dX1_init_0 rfl (lv_at hl 0 rfl) ?_
  refine W.objInit hx hb hown (hts _ q123) (hts _ q24) (hts _ q25) rfl (by rw [hml]; exact hl.1) rfl dX1_init_1 (Nat.le_of_ble_eq_true rfl) (Nat.le_of_ble_eq_true rfl) ?_
  refine W.eq (g2 := F0 m 4 ls []) rfl ?_
  refine lv_aload_n hx hb dX1_init_4 rfl (lv_at hl 0 rfl) ?_
  refine lv_bipush (v := 10) hx hb dX1_init_5 (by decide +kernel) ?_
  refine va_newa (atype := .int) (ty := .int) (N' := 10) (a0 := (10, .inl (fun j => nI (so_p so_u0 so_z0 j)))) hx hb (hts _ q43) rfl hK hP hD hS hA (fun cA => rfl) (by decide) (by decide) (by decide) (Nat.le_of_ble_eq_true rfl) (Nat.le_of_ble_eq_true rfl) dX1_init_7 (fun q1 d1 H hK hP hD hS => ?_)
  have hP : va_P D vwCl [(h0, .inr (1, [.null, .null, .null])), (q1, .inl (d1, 10, .inl (fun j => nI (so_p so_u0 so_z0 j))))] H := hP
  have hD : va_D A [(h0, .inr (1, [.null, .null, .null])), (q1, .inl (d1, 10, .inl (fun j => nI (so_p so_u0 so_z0 j))))] := hD
  refine va_putF (D := D) (ci := 1) (v := .ref q1) (ty := .array .int) (C := RX1) (T := TX1) (N := 3) hx hb hts in_X1 tyX1 tyX1_ok nmX1 hown hK hP hD hS 0 rfl rfl 0 (by decide) (hts _ q124) (fun _ h9 => h9) rfl hin rfl (by decide +kernel) rfl rfl (Nat.le_of_ble_eq_true rfl) dX1_init_9 (fun H locs hP hD hS => ?_)
  have hP : va_P D vwCl [(h0, .inr (1, [.ref q1, .null, .null])), (q1, .inl (d1, 10, .inl (fun j => nI (so_p so_u0 so_z0 j))))] H := hP
  have hD : va_D A [(h0, .inr (1, [.ref q1, .null, .null])), (q1, .inl (d1, 10, .inl (fun j => nI (so_p so_u0 so_z0 j))))] := hD
  refine lv_aload_n hx hb dX1_init_12 rfl (lv_at hl 0 rfl) ?_
  refine lv_bipush (v := 10) hx hb dX1_init_13 (by decide +kernel) ?_
  refine va_newa (atype := .int) (ty := .int) (N' := 10) (a0 := (10, .inl (fun j => nI (so_z0 j)))) hx hb (hts _ q43) rfl hK hP hD hS hA (fun cA => rfl) (by decide) (by decide) (by decide) (Nat.le_of_ble_eq_true rfl) (Nat.le_of_ble_eq_true rfl) dX1_init_15 (fun q2 d2 H hK hP hD hS => ?_)
  have hP : va_P D vwCl [(h0, .inr (1, [.ref q1, .null, .null])), (q1, .inl (d1, 10, .inl (fun j => nI (so_p so_u0 so_z0 j)))), (q2, .inl (d2, 10, .inl (fun j => nI (so_z0 j))))] H := hP
  have hD : va_D A [(h0, .inr (1, [.ref q1, .null, .null])), (q1, .inl (d1, 10, .inl (fun j => nI (so_p so_u0 so_z0 j)))), (q2, .inl (d2, 10, .inl (fun j => nI (so_z0 j))))] := hD
  refine va_putF (D := D) (ci := 1) (v := .ref q2) (ty := .array .int) (C := RX1) (T := TX1) (N := 3) hx hb hts in_X1 tyX1 tyX1_ok nmX1 hown hK hP hD hS 0 rfl rfl 1 (by decide) (hts _ q125) (fun _ h9 => h9) rfl hin rfl (by decide +kernel) rfl rfl (Nat.le_of_ble_eq_true rfl) dX1_init_17 (fun H locs hP hD hS => ?_)
  have hP : va_P D vwCl [(h0, .inr (1, [.ref q1, .ref q2, .null])), (q1, .inl (d1, 10, .inl (fun j => nI (so_p so_u0 so_z0 j)))), (q2, .inl (d2, 10, .inl (fun j => nI (so_z0 j))))] H := hP
  have hD : va_D A [(h0, .inr (1, [.ref q1, .ref q2, .null])), (q1, .inl (d1, 10, .inl (fun j => nI (so_p so_u0 so_z0 j)))), (q2, .inl (d2, 10, .inl (fun j => nI (so_z0 j))))] := hD
  refine lv_aload_n hx hb dX1_init_20 rfl (lv_at hl 0 rfl) ?_
  refine lv_bipush (v := 10) hx hb dX1_init_21 (by decide +kernel) ?_
  refine va_newa (atype := .int) (ty := .int) (N' := 10) (a0 := (10, .inl (fun j => nI (so_z0 j)))) hx hb (hts _ q43) rfl hK hP hD hS hA (fun cA => rfl) (by decide) (by decide) (by decide) (Nat.le_of_ble_eq_true rfl) (Nat.le_of_ble_eq_true rfl) dX1_init_23 (fun q3 d3 H hK hP hD hS => ?_)
  have hP : va_P D vwCl [(h0, .inr (1, [.ref q1, .ref q2, .null])), (q1, .inl (d1, 10, .inl (fun j => nI (so_p so_u0 so_z0 j)))), (q2, .inl (d2, 10, .inl (fun j => nI (so_z0 j)))), (q3, .inl (d3, 10, .inl (fun j => nI (so_z0 j))))] H := hP
  have hD : va_D A [(h0, .inr (1, [.ref q1, .ref q2, .null])), (q1, .inl (d1, 10, .inl (fun j => nI (so_p so_u0 so_z0 j)))), (q2, .inl (d2, 10, .inl (fun j => nI (so_z0 j)))), (q3, .inl (d3, 10, .inl (fun j => nI (so_z0 j))))] := hD
  refine va_putF (D := D) (ci := 1) (v := .ref q3) (ty := .array .int) (C := RX1) (T := TX1) (N := 3) hx hb hts in_X1 tyX1 tyX1_ok nmX1 hown hK hP hD hS 0 rfl rfl 2 (by decide) (hts _ q126) (fun _ h9 => h9) rfl hin rfl (by decide +kernel) rfl rfl (Nat.le_of_ble_eq_true rfl) dX1_init_25 (fun H locs hP hD hS => ?_)
  have hP : va_P D vwCl [(h0, .inr (1, [.ref q1, .ref q2, .ref q3])), (q1, .inl (d1, 10, .inl (fun j => nI (so_p so_u0 so_z0 j)))), (q2, .inl (d2, 10, .inl (fun j => nI (so_z0 j)))), (q3, .inl (d3, 10, .inl (fun j => nI (so_z0 j))))] H := hP
  have hD : va_D A [(h0, .inr (1, [.ref q1, .ref q2, .ref q3])), (q1, .inl (d1, 10, .inl (fun j => nI (so_p so_u0 so_z0 j)))), (q2, .inl (d2, 10, .inl (fun j => nI (so_z0 j)))), (q3, .inl (d3, 10, .inl (fun j => nI (so_z0 j))))] := hD
  have hP9 : va_P D vwCl (so_V1 (so_5 h0 q1 q2 q3 q3) (so_5 d1 d1 d2 d3 d3) so_u0 so_z0 so_z0 so_z0) H := hP
  have hD9 : va_D A (so_V1 (so_5 h0 q1 q2 q3 q3) (so_5 d1 d1 d2 d3 d3) so_u0 so_z0 so_z0 so_z0) := hD
  have hK9 : va_K D vwCl (so_T1 (so_5 d1 d1 d2 d3 d3)) s := hK
  refine W.widen (k := 3) (n := 30) (by decide) (by decide) ?_
  exact W.vret hx hb hr (fun t ht hW => ⟨⟨(so_5 h0 q1 q2 q3 q3, so_5 d1 d1 d2 d3 d3), rfl, rfl, ⟨by rw [ht]; exact hP9, va_K.moved hW.alike hK9⟩, hD9⟩, hS.F ht⟩) hS.2.2 dX1_init_28
end
section
/-! THE CLAIM OUT OF ONE WALK OF THE LAW'S BODY. Your part is whole_start (and what it stands on); all else here is the same for every law, but numbers. -/
def R_law : String := "StrictOffsetsLaw"
def lw_P (b : Addr) (xs : List Int32) (args : Array Value) (s : State) : Prop := args = #[.ref b] ∧ s.IntsAt b xs ∧ xs.length ≤ 256 ∧ (Jvm.Cond.and given_1 narrow_1).before args s = true
def lw_Q (_ : Array Value) (s : State) (o : Outcome) (t : State) : Prop := o = .returned (some (.int 1)) ∧ Framed s o t [] 600000 7290000
def lw_Z (below : List Frame) (a : Array Value) (s : State) : State → Prop := fun t => ∃ o, t.status = .running ∧ Ended t below o ∧ lw_Q a s o t
/-- the law's own end, with 1 on the stack, nothing written that was there before, its room as the claim has it -/
theorem lw_ret {p : Program} {l : Launch} {e : Env} {s : State} {m : MethodId} {below : List Frame} {meth : Method} {c : Code} {b : Nat} (hx : p.tables.exec = Jvm.exec) (hb : c.code = code) (hr : meth.sig.returnType = ret) (hlocks : meth.locks = false) {pc : Nat} {H : Heap} {ls : Array Slot} (hdg : decode code pc = .ok (.ireturn, 1)) : W p l e room_1 s m #[Value.ref b] below meth c H [] 600000 7290000 (lw_Z below #[Value.ref b] s) (F0 m pc ls [.int 1]) := by
  intro T hT X
  obtain ⟨fs, hret, hrun, hended, hW, hframe⟩ := X.leave (v := some (.int 1)) (hlocks := hlocks) (fun h => by rw [hr] at h; cases h)
  have hmeth' : T.vm.method? m = some meth := X.method'
  refine ⟨T.setFrames fs, ?_, .returned (some (.int 1)), hrun, hended, rfl, ⟨_, rfl⟩, hW, hframe⟩
  jvm_step X.here [X.here.top, hx, hb, hdg, hmeth', hr, ret, narrow_b1]
  (try refine ⟨rfl, ?_⟩); (try refine ⟨rfl, ?_⟩)
  first | (intro acts; rw [hret _ acts rfl rfl rfl]) | rw [hret _ _ rfl rfl rfl]
  exact Steps.refl _
/-- what holds at the law's entry: the machine, the code, the tables' words (any of lw_tbl by 'hts w (by decide +kernel)'), the script of L ints xs at the cell b, what the Statement gives of the start (any of its parts by flat_of_before) -/
def lw_At (p : Program) (s : State) (m : MethodId) (meth : Method) (c : Code) (b L : Nat) (xs : Nat → Int32) : Prop :=
  p.tables.exec = Jvm.exec ∧ c.code = code ∧ meth.sig.returnType = ret ∧ c.maxLocals = 4 ∧ s.vm.findClass R_law = some m.cls ∧ (∀ w ∈ lw_tbl, w.before #[Value.ref b] s = true) ∧ va_X b L xs s s.heap ∧ b < s.heap.size ∧ meth.locks = false ∧ (Jvm.Cond.and given_1 narrow_1).before #[Value.ref b] s = true
end
section
/-! ===== the law's loop ===== -/
set_option maxRecDepth 100000
theorem so_inc4 (i : Nat) : nI i + Int32.ofInt 4 = nI (i + 4) := nI_add i 4
theorem so_sld {pg : Program} {l : Launch} {e : Env} {R : Room} {s : State} {m : MethodId} {args : Array Value} {below : List Frame} {meth : Method} {c : Code} {H H0 : Heap} {locs : List Loc} {cells slots : Nat} {Q : State → Prop} {cc : ByteArray} {pc : Nat} {ls : Array Slot} {rest : List Value} {A : Nat → Prop} (hx : pg.tables.exec = Jvm.exec) (hb : c.code = cc) {b L : Nat} {xs : Nat → Int32} (hX : va_X b L xs s H0) (hbl : b < H0.size) (hbA : ¬ A b) (hS : va_S A H0 H locs) {j : Nat} (hj : j < L) (hL : L < 2 ^ 31) (hdg : decode cc pc = .ok (.iaload, 1))
    (kk : W pg l e R s m args below meth c H locs cells slots Q (F0 m (pc + 1) ls (.int (xs j) :: rest))) : W pg l e R s m args below meth c H locs cells slots Q (F0 m pc ls (.int (nI j) :: .ref b :: rest)) := by
  refine va_sld hx hb hX hbl hbA hS (vp_in_nI hj hL) hdg ?_
  rw [nI_clamp (show j < 2 ^ 31 by omega)]
  exact kk
set_option maxHeartbeats 16000000 in
theorem law_loop {pg : Program} {l : Launch} {e : Env} {s : State} {m : MethodId} {below : List Frame} {meth : Method} {c : Code} {b L : Nat} {xs : Nat → Int32} (hL : L ≤ 256) (C0 : lw_At pg s m meth c b L xs) {D : va_G} {A : Nat → Prop} (hA : ∀ q : Nat, s.heap.size ≤ q → A q) (hA2 : ∀ q : Nat, A q → s.heap.size ≤ q) (hbA : ¬ A b) (a0 a1 : Nat → Nat) (d0 d1 : Nat → ClassId) (hK0 : va_K D vwCl (so_T0 d0) s) (hK1 : va_K D vwCl (so_T1 d1) s) :
    ∀ (k i : Nat) (u : Nat → Bool) (P C O : Nat → Nat), L < i + 4 * k + 4 → i ≤ 256 → so_ok u P C O → so_dj u P C O → ∀ (H : Heap) (locs : List Loc), va_P D vwCl (so_V0 a0 d0 (nI (fb_ct u 10)) u P C O ++ so_V1 a1 d1 u P C O) H → va_D A (so_V0 a0 d0 (nI (fb_ct u 10)) u P C O ++ so_V1 a1 d1 u P C O) → va_S A s.heap H locs → ∀ ls : Array Slot, lv_has ls 4 [(3, .int (nI i)), (2, .ref (a1 0)), (1, .ref (a0 0)), (0, .ref b)] → W pg l e room_1 s m #[Value.ref b] below meth c H locs 9 78 (lw_Z below #[Value.ref b] s) (F0 m 18 ls []) := by
  obtain ⟨hx, hb, hr, hml, hown, hts0, hX, hbl, hlocks, hgv⟩ := id C0
  have hts : ∀ w ∈ lw_all, w.before #[Value.ref b] s = true := fun w h => hts0 w (lw_all_tbl h)
  intro k
  induction k with
  | zero =>
    intro i u P C O hk hi ok dj H locs hP hD hS ls hl
    refine lv_iload_n hx hb dL_law_18 rfl (lv_at hl 0 rfl) ?_
    refine lv_aload_n hx hb dL_law_19 rfl (lv_at hl 3 rfl) ?_
    refine va_slen hx hb hX hbl hbA hS dL_law_20 ?_
    refine lv_iconst (v := nI 4) hx hb dL_law_21 (by decide +kernel) ?_
    refine lv_isub hx hb dL_law_22 ?_
    have hLt : (Int32.ofNat L - nI 4).toInt = (L : Int) - 4 := pk_sub_toInt (a := L) (b := 4) (by omega) (by omega)
    have hit : (nI i).toInt = (i : Int) := nI_toInt (by omega)
    refine lv_icmp_gt (tgt := 374) hx hb dL_law_23 (by decide) (fun c1 => ?_) (fun c1 => ?_)
    · refine lv_iconst (v := 1) hx hb dL_law_374 (by decide +kernel) ?_
      refine va_forget (fun q hq => hA2 _ (hS.2.2 q hq)) ?_
      refine W.widen (k := 600000) (n := 7290000) (by decide) (by decide) ?_
      exact lw_ret hx hb hr hlocks dL_law_375
    · rw [Int32.lt_iff_toInt_lt, hLt, hit] at c1
      exfalso; omega
  | succ k ih =>
    intro i u P C O hk hi ok dj H locs hP hD hS ls hl
    refine lv_iload_n hx hb dL_law_18 rfl (lv_at hl 0 rfl) ?_
    refine lv_aload_n hx hb dL_law_19 rfl (lv_at hl 3 rfl) ?_
    refine va_slen hx hb hX hbl hbA hS dL_law_20 ?_
    refine lv_iconst (v := nI 4) hx hb dL_law_21 (by decide +kernel) ?_
    refine lv_isub hx hb dL_law_22 ?_
    have hLt : (Int32.ofNat L - nI 4).toInt = (L : Int) - 4 := pk_sub_toInt (a := L) (b := 4) (by omega) (by omega)
    have hit : (nI i).toInt = (i : Int) := nI_toInt (by omega)
    refine lv_icmp_gt (tgt := 374) hx hb dL_law_23 (by decide) (fun c1 => ?_) (fun c1 => ?_)
    · refine lv_iconst (v := 1) hx hb dL_law_374 (by decide +kernel) ?_
      refine va_forget (fun q hq => hA2 _ (hS.2.2 q hq)) ?_
      refine W.widen (k := 600000) (n := 7290000) (by decide) (by decide) ?_
      exact lw_ret hx hb hr hlocks dL_law_375
    · rw [Int32.lt_iff_toInt_lt, hLt, hit] at c1
      have hi4 : i + 4 ≤ L := by omega
      have k368 : ∀ (u : Nat → Bool) (P C O : Nat → Nat), so_ok u P C O → so_dj u P C O → ∀ (H : Heap) (locs : List Loc), va_P D vwCl (so_V0 a0 d0 (nI (fb_ct u 10)) u P C O ++ so_V1 a1 d1 u P C O) H → va_D A (so_V0 a0 d0 (nI (fb_ct u 10)) u P C O ++ so_V1 a1 d1 u P C O) → va_S A s.heap H locs → ∀ ls : Array Slot, lv_has ls 4 [(3, .int (nI i)), (2, .ref (a1 0)), (1, .ref (a0 0)), (0, .ref b)] → W pg l e room_1 s m #[Value.ref b] below meth c H locs 9 78 (lw_Z below #[Value.ref b] s) (F0 m 368 ls []) := by
        intro u P C O ok dj H locs hP hD hS ls hl
        refine lv_iinc (v := nI (i + 4)) (lv' := [(3, .int (nI (i + 4))), (2, .ref (a1 0)), (1, .ref (a0 0)), (0, .ref b)]) hx hb dL_law_368 hl (k := 0) rfl (so_inc4 i) (by decide) rfl (fun ls hl => ?_)
        refine lv_goto (tgt := 18) hx hb dL_law_371 (by decide) ?_
        exact ih (i + 4) u P C O (by omega) (by omega) ok dj H locs hP hD hS ls hl
      refine lv_aload_n hx hb dL_law_26 rfl (lv_at hl 3 rfl) ?_
      refine lv_iload_n hx hb dL_law_27 rfl (lv_at hl 0 rfl) ?_
      refine so_sld hx hb hX hbl hbA hS (by omega) (by omega) dL_law_28 ?_
      refine lv_bipush (v := 15) hx hb dL_law_29 (by decide +kernel) ?_
      refine lv_iand hx hb dL_law_31 ?_
      obtain ⟨j, hj, ej⟩ := pk_andE (xs i) (m := 15) 4 (by decide +kernel)
      refine so_as ej ?_
      have I0 : so_I0 D a0 d0 (nI (fb_ct u 10)) u P C O s H := ⟨hP.sub [0, 1, 2, 3, 4] rfl, hK0⟩
      have I1 : so_I1 D a1 d1 u P C O s H := ⟨hP.sub [5, 6, 7, 8] rfl, hK1⟩
      rcases (show j = 0 ∨ j = 1 ∨ j = 2 ∨ j = 3 ∨ j = 4 ∨ j = 5 ∨ j = 6 ∨ j = 7 ∨ j = 8 ∨ j = 9 ∨ 10 ≤ j by omega) with rfl | rfl | rfl | rfl | rfl | rfl | rfl | rfl | rfl | rfl | hj10
      · refine lv_tableIn (off := 56) (tgt := 88) hx hb dL_law_32 (by decide +kernel) (by decide +kernel) (by decide +kernel) (by decide) ?_
        obtain ⟨E, hE⟩ : ∃ E, so_dAdm u P C O (xs (i + 1)) (xs (i + 2)) = E := ⟨_, rfl⟩
        have hEo : so_E_ok u P C O E := hE ▸ so_dAdm_ok u P C O (xs (i + 1)) (xs (i + 2))
        refine lv_aload_n hx hb dL_law_88 rfl (lv_at hl 2 rfl) ?_
        refine lv_aload_n hx hb dL_law_89 rfl (lv_at hl 3 rfl) ?_
        refine lv_iload_n hx hb dL_law_90 rfl (lv_at hl 0 rfl) ?_
        refine lv_iconst (v := nI 1) hx hb dL_law_91 (by decide +kernel) ?_
        refine so_add hx hb dL_law_92 ?_
        refine so_sld hx hb hX hbl hbA hS (by omega) (by omega) dL_law_93 ?_
        refine lv_aload_n hx hb dL_law_94 rfl (lv_at hl 3 rfl) ?_
        refine lv_iload_n hx hb dL_law_95 rfl (lv_at hl 0 rfl) ?_
        refine lv_iconst (v := nI 2) hx hb dL_law_96 (by decide +kernel) ?_
        refine so_add hx hb dL_law_97 ?_
        refine so_sld hx hb hX hbl hbA hS (by omega) (by omega) dL_law_98 ?_
        have hDc := hD.sub (ws' := so_V0 a0 d0 (nI (fb_ct u 10)) u P C O) [0, 1, 2, 3, 4] (by decide) rfl
        have hFc := va_free (wc := so_V0 a0 d0 (nI (fb_ct u 10)) u P C O) hD hS hA [0, 1, 2, 3, 4] rfl
        refine so_cU (N := 2) (ws := so_V0 a0 d0 (nI (fb_ct u 10)) u P C O) (ans := so_ans u E) (Inv := fun U H => so_I0 D a0 d0 (nI (fb_ct (so_nu u E) 10)) (so_nu u E) (so_nP u P E) (so_nC u C E) (so_nO u O E) U H) (ws' := so_V0 a0 d0 (nI (fb_ct (so_nu u E) 10)) (so_nu u E) (so_nP u P E) (so_nC u C E) (so_nO u O E)) (As := [.int (xs (i + 1)), .int (xs (i + 2))]) (rest := []) ⟨hx, hb, hml, hown, hts⟩ (m0_admit l D a0 d0 u P C O ok H.size (xs (i + 1)) (xs (i + 2)) E hE) (so_preU0 I0 hDc) (fun t H1 ht hvm h => so_mv0 t H1 ht hvm h) q44 q45 q46 q16 q47 (by decide +kernel) ⟨Nat.le_of_ble_eq_true rfl, Nat.le_of_ble_eq_true rfl⟩ rfl hl.1 rfl (Nat.le_of_ble_eq_true rfl) ⟨Nat.le_of_ble_eq_true rfl, Nat.le_of_ble_eq_true rfl⟩ dL_law_99 hS hFc (fun H1 locs J0 hD1 hk1 hS => ?_)
        obtain ⟨hP, hD⟩ := va_join (wr := so_V1 a1 d1 u P C O) (w1 := so_V0 a0 d0 (nI (fb_ct (so_nu u E) 10)) (so_nu u E) (so_nP u P E) (so_nC u C E) (so_nO u O E)) hP hD [0, 1, 2, 3, 4] [5, 6, 7, 8] rfl rfl (by decide) (by decide) hk1 hFc J0.1 hD1
        clear I0 I1 hFc hDc hk1 hD1
        generalize H1 = H at hP hS J0 ⊢
        have I1 : so_I1 D a1 d1 u P C O s H := ⟨hP.sub [0, 1, 2, 3] rfl, hK1⟩
        refine lv_aload_n hx hb dL_law_102 rfl (lv_at hl 1 rfl) ?_
        refine lv_aload_n hx hb dL_law_103 rfl (lv_at hl 3 rfl) ?_
        refine lv_iload_n hx hb dL_law_104 rfl (lv_at hl 0 rfl) ?_
        refine lv_iconst (v := nI 1) hx hb dL_law_105 (by decide +kernel) ?_
        refine so_add hx hb dL_law_106 ?_
        refine so_sld hx hb hX hbl hbA hS (by omega) (by omega) dL_law_107 ?_
        refine lv_aload_n hx hb dL_law_108 rfl (lv_at hl 3 rfl) ?_
        refine lv_iload_n hx hb dL_law_109 rfl (lv_at hl 0 rfl) ?_
        refine lv_iconst (v := nI 2) hx hb dL_law_110 (by decide +kernel) ?_
        refine so_add hx hb dL_law_111 ?_
        refine so_sld hx hb hX hbl hbA hS (by omega) (by omega) dL_law_112 ?_
        have hDc := hD.sub (ws' := so_V1 a1 d1 u P C O) [0, 1, 2, 3] (by decide) rfl
        have hFc := va_free (wc := so_V1 a1 d1 u P C O) hD hS hA [0, 1, 2, 3] rfl
        refine so_cU (N := 2) (ws := so_V1 a1 d1 u P C O) (ans := so_ans u E) (Inv := fun U H => so_I1 D a1 d1 (so_nu u E) (so_nP u P E) (so_nC u C E) (so_nO u O E) U H) (ws' := so_V1 a1 d1 (so_nu u E) (so_nP u P E) (so_nC u C E) (so_nO u O E)) (As := [.int (xs (i + 1)), .int (xs (i + 2))]) (rest := [.int (so_ans u E)]) ⟨hx, hb, hml, hown, hts⟩ (m1_admit l D a1 d1 u P C O ok H.size (xs (i + 1)) (xs (i + 2)) E hE) (so_preU1 I1 hDc) (fun t H1 ht hvm h => so_mv1 t H1 ht hvm h) q134 q135 q136 q17 q137 (by decide +kernel) ⟨Nat.le_of_ble_eq_true rfl, Nat.le_of_ble_eq_true rfl⟩ rfl hl.1 rfl (Nat.le_of_ble_eq_true rfl) ⟨Nat.le_of_ble_eq_true rfl, Nat.le_of_ble_eq_true rfl⟩ dL_law_113 hS hFc (fun H1 locs J1 hD1 hk1 hS => ?_)
        obtain ⟨hP, hD⟩ := va_join (wr := so_V0 a0 d0 (nI (fb_ct (so_nu u E) 10)) (so_nu u E) (so_nP u P E) (so_nC u C E) (so_nO u O E)) (w1 := so_V1 a1 d1 (so_nu u E) (so_nP u P E) (so_nC u C E) (so_nO u O E)) hP hD [0, 1, 2, 3] [4, 5, 6, 7, 8] rfl rfl (by decide) (by decide) hk1 hFc J1.1 hD1
        refine lv_icmp_eq (tgt := 368) hx hb dL_law_116 (by decide) (fun _ => ?_) (fun c2 => absurd rfl c2)
        exact k368 (so_nu u E) (so_nP u P E) (so_nC u C E) (so_nO u O E) (so_ok_put ok hEo) (so_dj_put ok dj hEo) H1 locs hP hD hS ls hl
      · refine lv_tableIn (off := 89) (tgt := 121) hx hb dL_law_32 (by decide +kernel) (by decide +kernel) (by decide +kernel) (by decide) ?_
        obtain ⟨E, hE⟩ : ∃ E, so_dAt u P C O (xs (i + 1)) (xs (i + 2)) (xs (i + 3)) = E := ⟨_, rfl⟩
        have hEo : so_E_ok u P C O E := hE ▸ so_dAt_ok u P C O (xs (i + 1)) (xs (i + 2)) (xs (i + 3))
        refine lv_aload_n hx hb dL_law_121 rfl (lv_at hl 2 rfl) ?_
        refine lv_aload_n hx hb dL_law_122 rfl (lv_at hl 3 rfl) ?_
        refine lv_iload_n hx hb dL_law_123 rfl (lv_at hl 0 rfl) ?_
        refine lv_iconst (v := nI 1) hx hb dL_law_124 (by decide +kernel) ?_
        refine so_add hx hb dL_law_125 ?_
        refine so_sld hx hb hX hbl hbA hS (by omega) (by omega) dL_law_126 ?_
        refine lv_aload_n hx hb dL_law_127 rfl (lv_at hl 3 rfl) ?_
        refine lv_iload_n hx hb dL_law_128 rfl (lv_at hl 0 rfl) ?_
        refine lv_iconst (v := nI 2) hx hb dL_law_129 (by decide +kernel) ?_
        refine so_add hx hb dL_law_130 ?_
        refine so_sld hx hb hX hbl hbA hS (by omega) (by omega) dL_law_131 ?_
        refine lv_aload_n hx hb dL_law_132 rfl (lv_at hl 3 rfl) ?_
        refine lv_iload_n hx hb dL_law_133 rfl (lv_at hl 0 rfl) ?_
        refine lv_iconst (v := nI 3) hx hb dL_law_134 (by decide +kernel) ?_
        refine so_add hx hb dL_law_135 ?_
        refine so_sld hx hb hX hbl hbA hS (by omega) (by omega) dL_law_136 ?_
        have hDc := hD.sub (ws' := so_V0 a0 d0 (nI (fb_ct u 10)) u P C O) [0, 1, 2, 3, 4] (by decide) rfl
        have hFc := va_free (wc := so_V0 a0 d0 (nI (fb_ct u 10)) u P C O) hD hS hA [0, 1, 2, 3, 4] rfl
        refine so_cU (N := 3) (ws := so_V0 a0 d0 (nI (fb_ct u 10)) u P C O) (ans := so_ans u E) (Inv := fun U H => so_I0 D a0 d0 (nI (fb_ct (so_nu u E) 10)) (so_nu u E) (so_nP u P E) (so_nC u C E) (so_nO u O E) U H) (ws' := so_V0 a0 d0 (nI (fb_ct (so_nu u E) 10)) (so_nu u E) (so_nP u P E) (so_nC u C E) (so_nO u O E)) (As := [.int (xs (i + 1)), .int (xs (i + 2)), .int (xs (i + 3))]) (rest := []) ⟨hx, hb, hml, hown, hts⟩ (m0_admitAt l D a0 d0 u P C O ok H.size (xs (i + 1)) (xs (i + 2)) (xs (i + 3)) E hE) (so_preU0 I0 hDc) (fun t H1 ht hvm h => so_mv0 t H1 ht hvm h) q66 q67 q68 q16 q69 (by decide +kernel) ⟨Nat.le_of_ble_eq_true rfl, Nat.le_of_ble_eq_true rfl⟩ rfl hl.1 rfl (Nat.le_of_ble_eq_true rfl) ⟨Nat.le_of_ble_eq_true rfl, Nat.le_of_ble_eq_true rfl⟩ dL_law_137 hS hFc (fun H1 locs J0 hD1 hk1 hS => ?_)
        obtain ⟨hP, hD⟩ := va_join (wr := so_V1 a1 d1 u P C O) (w1 := so_V0 a0 d0 (nI (fb_ct (so_nu u E) 10)) (so_nu u E) (so_nP u P E) (so_nC u C E) (so_nO u O E)) hP hD [0, 1, 2, 3, 4] [5, 6, 7, 8] rfl rfl (by decide) (by decide) hk1 hFc J0.1 hD1
        clear I0 I1 hFc hDc hk1 hD1
        generalize H1 = H at hP hS J0 ⊢
        have I1 : so_I1 D a1 d1 u P C O s H := ⟨hP.sub [0, 1, 2, 3] rfl, hK1⟩
        refine lv_aload_n hx hb dL_law_140 rfl (lv_at hl 1 rfl) ?_
        refine lv_aload_n hx hb dL_law_141 rfl (lv_at hl 3 rfl) ?_
        refine lv_iload_n hx hb dL_law_142 rfl (lv_at hl 0 rfl) ?_
        refine lv_iconst (v := nI 1) hx hb dL_law_143 (by decide +kernel) ?_
        refine so_add hx hb dL_law_144 ?_
        refine so_sld hx hb hX hbl hbA hS (by omega) (by omega) dL_law_145 ?_
        refine lv_aload_n hx hb dL_law_146 rfl (lv_at hl 3 rfl) ?_
        refine lv_iload_n hx hb dL_law_147 rfl (lv_at hl 0 rfl) ?_
        refine lv_iconst (v := nI 2) hx hb dL_law_148 (by decide +kernel) ?_
        refine so_add hx hb dL_law_149 ?_
        refine so_sld hx hb hX hbl hbA hS (by omega) (by omega) dL_law_150 ?_
        refine lv_aload_n hx hb dL_law_151 rfl (lv_at hl 3 rfl) ?_
        refine lv_iload_n hx hb dL_law_152 rfl (lv_at hl 0 rfl) ?_
        refine lv_iconst (v := nI 3) hx hb dL_law_153 (by decide +kernel) ?_
        refine so_add hx hb dL_law_154 ?_
        refine so_sld hx hb hX hbl hbA hS (by omega) (by omega) dL_law_155 ?_
        have hDc := hD.sub (ws' := so_V1 a1 d1 u P C O) [0, 1, 2, 3] (by decide) rfl
        have hFc := va_free (wc := so_V1 a1 d1 u P C O) hD hS hA [0, 1, 2, 3] rfl
        refine so_cU (N := 3) (ws := so_V1 a1 d1 u P C O) (ans := so_ans u E) (Inv := fun U H => so_I1 D a1 d1 (so_nu u E) (so_nP u P E) (so_nC u C E) (so_nO u O E) U H) (ws' := so_V1 a1 d1 (so_nu u E) (so_nP u P E) (so_nC u C E) (so_nO u O E)) (As := [.int (xs (i + 1)), .int (xs (i + 2)), .int (xs (i + 3))]) (rest := [.int (so_ans u E)]) ⟨hx, hb, hml, hown, hts⟩ (m1_admitAt l D a1 d1 u P C O ok H.size (xs (i + 1)) (xs (i + 2)) (xs (i + 3)) E hE) (so_preU1 I1 hDc) (fun t H1 ht hvm h => so_mv1 t H1 ht hvm h) q167 q168 q169 q17 q170 (by decide +kernel) ⟨Nat.le_of_ble_eq_true rfl, Nat.le_of_ble_eq_true rfl⟩ rfl hl.1 rfl (Nat.le_of_ble_eq_true rfl) ⟨Nat.le_of_ble_eq_true rfl, Nat.le_of_ble_eq_true rfl⟩ dL_law_156 hS hFc (fun H1 locs J1 hD1 hk1 hS => ?_)
        obtain ⟨hP, hD⟩ := va_join (wr := so_V0 a0 d0 (nI (fb_ct (so_nu u E) 10)) (so_nu u E) (so_nP u P E) (so_nC u C E) (so_nO u O E)) (w1 := so_V1 a1 d1 (so_nu u E) (so_nP u P E) (so_nC u C E) (so_nO u O E)) hP hD [0, 1, 2, 3] [4, 5, 6, 7, 8] rfl rfl (by decide) (by decide) hk1 hFc J1.1 hD1
        refine lv_icmp_eq (tgt := 368) hx hb dL_law_159 (by decide) (fun _ => ?_) (fun c2 => absurd rfl c2)
        exact k368 (so_nu u E) (so_nP u P E) (so_nC u C E) (so_nO u O E) (so_ok_put ok hEo) (so_dj_put ok dj hEo) H1 locs hP hD hS ls hl
      · refine lv_tableIn (off := 132) (tgt := 164) hx hb dL_law_32 (by decide +kernel) (by decide +kernel) (by decide +kernel) (by decide) ?_
        refine lv_aload_n hx hb dL_law_164 rfl (lv_at hl 2 rfl) ?_
        refine lv_aload_n hx hb dL_law_165 rfl (lv_at hl 3 rfl) ?_
        refine lv_iload_n hx hb dL_law_166 rfl (lv_at hl 0 rfl) ?_
        refine lv_iconst (v := nI 1) hx hb dL_law_167 (by decide +kernel) ?_
        refine so_add hx hb dL_law_168 ?_
        refine so_sld hx hb hX hbl hbA hS (by omega) (by omega) dL_law_169 ?_
        have hDc := hD.sub (ws' := so_V0 a0 d0 (nI (fb_ct u 10)) u P C O) [0, 1, 2, 3, 4] (by decide) rfl
        have hFc := va_free (wc := so_V0 a0 d0 (nI (fb_ct u 10)) u P C O) hD hS hA [0, 1, 2, 3, 4] rfl
        refine so_cU (N := 1) (ws := so_V0 a0 d0 (nI (fb_ct u 10)) u P C O) (ans := so_aRem u (xs (i + 1))) (Inv := fun U H => so_I0 D a0 d0 (nI (fb_ct (so_ru u (xs (i + 1))) 10)) (so_ru u (xs (i + 1))) P C O U H) (ws' := so_V0 a0 d0 (nI (fb_ct (so_ru u (xs (i + 1))) 10)) (so_ru u (xs (i + 1))) P C O) (As := [.int (xs (i + 1))]) (rest := []) ⟨hx, hb, hml, hown, hts⟩ (m0_remove l D a0 d0 u P C O ok H.size (xs (i + 1)) _ rfl _ rfl) (so_preU0 I0 hDc) (fun t H1 ht hvm h => so_mv0 t H1 ht hvm h) q70 q71 q72 q16 q73 (by decide +kernel) ⟨Nat.le_of_ble_eq_true rfl, Nat.le_of_ble_eq_true rfl⟩ rfl hl.1 rfl (Nat.le_of_ble_eq_true rfl) ⟨Nat.le_of_ble_eq_true rfl, Nat.le_of_ble_eq_true rfl⟩ dL_law_170 hS hFc (fun H1 locs J0 hD1 hk1 hS => ?_)
        obtain ⟨hP, hD⟩ := va_join (wr := so_V1 a1 d1 u P C O) (w1 := so_V0 a0 d0 (nI (fb_ct (so_ru u (xs (i + 1))) 10)) (so_ru u (xs (i + 1))) P C O) hP hD [0, 1, 2, 3, 4] [5, 6, 7, 8] rfl rfl (by decide) (by decide) hk1 hFc J0.1 hD1
        clear I0 I1 hFc hDc hk1 hD1
        generalize H1 = H at hP hS J0 ⊢
        have I1 : so_I1 D a1 d1 u P C O s H := ⟨hP.sub [0, 1, 2, 3] rfl, hK1⟩
        refine lv_aload_n hx hb dL_law_173 rfl (lv_at hl 1 rfl) ?_
        refine lv_aload_n hx hb dL_law_174 rfl (lv_at hl 3 rfl) ?_
        refine lv_iload_n hx hb dL_law_175 rfl (lv_at hl 0 rfl) ?_
        refine lv_iconst (v := nI 1) hx hb dL_law_176 (by decide +kernel) ?_
        refine so_add hx hb dL_law_177 ?_
        refine so_sld hx hb hX hbl hbA hS (by omega) (by omega) dL_law_178 ?_
        have hDc := hD.sub (ws' := so_V1 a1 d1 u P C O) [0, 1, 2, 3] (by decide) rfl
        have hFc := va_free (wc := so_V1 a1 d1 u P C O) hD hS hA [0, 1, 2, 3] rfl
        refine so_cU (N := 1) (ws := so_V1 a1 d1 u P C O) (ans := so_aRem u (xs (i + 1))) (Inv := fun U H => so_I1 D a1 d1 (so_ru u (xs (i + 1))) P C O U H) (ws' := so_V1 a1 d1 (so_ru u (xs (i + 1))) P C O) (As := [.int (xs (i + 1))]) (rest := [.int (so_aRem u (xs (i + 1)))]) ⟨hx, hb, hml, hown, hts⟩ (m1_remove l D a1 d1 u P C O ok H.size (xs (i + 1)) _ rfl _ rfl) (so_preU1 I1 hDc) (fun t H1 ht hvm h => so_mv1 t H1 ht hvm h) q171 q172 q173 q17 q174 (by decide +kernel) ⟨Nat.le_of_ble_eq_true rfl, Nat.le_of_ble_eq_true rfl⟩ rfl hl.1 rfl (Nat.le_of_ble_eq_true rfl) ⟨Nat.le_of_ble_eq_true rfl, Nat.le_of_ble_eq_true rfl⟩ dL_law_179 hS hFc (fun H1 locs J1 hD1 hk1 hS => ?_)
        obtain ⟨hP, hD⟩ := va_join (wr := so_V0 a0 d0 (nI (fb_ct (so_ru u (xs (i + 1))) 10)) (so_ru u (xs (i + 1))) P C O) (w1 := so_V1 a1 d1 (so_ru u (xs (i + 1))) P C O) hP hD [0, 1, 2, 3] [4, 5, 6, 7, 8] rfl rfl (by decide) (by decide) hk1 hFc J1.1 hD1
        refine lv_icmp_eq (tgt := 368) hx hb dL_law_182 (by decide) (fun _ => ?_) (fun c2 => absurd rfl c2)
        exact k368 (so_ru u (xs (i + 1))) P C O (so_ok_cut ok) (so_dj_cut dj) H1 locs hP hD hS ls hl
      · refine lv_tableIn (off := 155) (tgt := 187) hx hb dL_law_32 (by decide +kernel) (by decide +kernel) (by decide +kernel) (by decide) ?_
        refine lv_aload_n hx hb dL_law_187 rfl (lv_at hl 2 rfl) ?_
        refine lv_aload_n hx hb dL_law_188 rfl (lv_at hl 3 rfl) ?_
        refine lv_iload_n hx hb dL_law_189 rfl (lv_at hl 0 rfl) ?_
        refine lv_iconst (v := nI 1) hx hb dL_law_190 (by decide +kernel) ?_
        refine so_add hx hb dL_law_191 ?_
        refine so_sld hx hb hX hbl hbA hS (by omega) (by omega) dL_law_192 ?_
        refine so_cV (N := 1) (As := [.int (xs (i + 1))]) (rest := []) ⟨hx, hb, hml, hown, hts⟩ (m0_offset l D a0 d0 (nI (fb_ct u 10)) u P C O (xs (i + 1))) (so_pre0 I0) q78 q79 q80 q16 q81 (by decide +kernel) ⟨Nat.le_of_ble_eq_true rfl, Nat.le_of_ble_eq_true rfl⟩ rfl hl.1 rfl (Nat.le_of_ble_eq_true rfl) ⟨Nat.le_of_ble_eq_true rfl, Nat.le_of_ble_eq_true rfl⟩ dL_law_193 (fun r1 hr1 => ?_)
        have hr1 : r1 = so_aOff u O (xs (i + 1)) := hr1
        refine lv_aload_n hx hb dL_law_196 rfl (lv_at hl 1 rfl) ?_
        refine lv_aload_n hx hb dL_law_197 rfl (lv_at hl 3 rfl) ?_
        refine lv_iload_n hx hb dL_law_198 rfl (lv_at hl 0 rfl) ?_
        refine lv_iconst (v := nI 1) hx hb dL_law_199 (by decide +kernel) ?_
        refine so_add hx hb dL_law_200 ?_
        refine so_sld hx hb hX hbl hbA hS (by omega) (by omega) dL_law_201 ?_
        refine so_cV (N := 1) (As := [.int (xs (i + 1))]) (rest := [.int r1]) ⟨hx, hb, hml, hown, hts⟩ (m1_offset l D a1 d1 u P C O ok (xs (i + 1))) (so_pre1 I1) q179 q180 q181 q17 q182 (by decide +kernel) ⟨Nat.le_of_ble_eq_true rfl, Nat.le_of_ble_eq_true rfl⟩ rfl hl.1 rfl (Nat.le_of_ble_eq_true rfl) ⟨Nat.le_of_ble_eq_true rfl, Nat.le_of_ble_eq_true rfl⟩ dL_law_202 (fun r2 hr2 => ?_)
        have hr2 : r2 = so_aOff u O (xs (i + 1)) := hr2
        refine lv_icmp_eq (tgt := 368) hx hb dL_law_205 (by decide) (fun _ => ?_) (fun c2 => ?_)
        · exact k368 u P C O ok dj H locs hP hD hS ls hl
        · exact absurd (hr1.trans hr2.symm) c2
      · refine lv_tableIn (off := 178) (tgt := 210) hx hb dL_law_32 (by decide +kernel) (by decide +kernel) (by decide +kernel) (by decide) ?_
        refine lv_aload_n hx hb dL_law_210 rfl (lv_at hl 2 rfl) ?_
        refine lv_aload_n hx hb dL_law_211 rfl (lv_at hl 3 rfl) ?_
        refine lv_iload_n hx hb dL_law_212 rfl (lv_at hl 0 rfl) ?_
        refine lv_iconst (v := nI 1) hx hb dL_law_213 (by decide +kernel) ?_
        refine so_add hx hb dL_law_214 ?_
        refine so_sld hx hb hX hbl hbA hS (by omega) (by omega) dL_law_215 ?_
        refine so_cV (N := 1) (As := [.int (xs (i + 1))]) (rest := []) ⟨hx, hb, hml, hown, hts⟩ (m0_running l D a0 d0 (nI (fb_ct u 10)) u P C O ok (xs (i + 1))) (so_pre0 I0) q82 q83 q84 q16 q85 (by decide +kernel) ⟨Nat.le_of_ble_eq_true rfl, Nat.le_of_ble_eq_true rfl⟩ rfl hl.1 rfl (Nat.le_of_ble_eq_true rfl) ⟨Nat.le_of_ble_eq_true rfl, Nat.le_of_ble_eq_true rfl⟩ dL_law_216 (fun r1 hr1 => ?_)
        have hr1 : r1 = so_aRun u P C O (xs (i + 1)) := hr1
        refine lv_aload_n hx hb dL_law_219 rfl (lv_at hl 1 rfl) ?_
        refine lv_aload_n hx hb dL_law_220 rfl (lv_at hl 3 rfl) ?_
        refine lv_iload_n hx hb dL_law_221 rfl (lv_at hl 0 rfl) ?_
        refine lv_iconst (v := nI 1) hx hb dL_law_222 (by decide +kernel) ?_
        refine so_add hx hb dL_law_223 ?_
        refine so_sld hx hb hX hbl hbA hS (by omega) (by omega) dL_law_224 ?_
        refine so_cV (N := 1) (As := [.int (xs (i + 1))]) (rest := [.int r1]) ⟨hx, hb, hml, hown, hts⟩ (m1_running l D a1 d1 u P C O ok (xs (i + 1))) (so_pre1 I1) q183 q151 q152 q17 q153 (by decide +kernel) ⟨Nat.le_of_ble_eq_true rfl, Nat.le_of_ble_eq_true rfl⟩ rfl hl.1 rfl (Nat.le_of_ble_eq_true rfl) ⟨Nat.le_of_ble_eq_true rfl, Nat.le_of_ble_eq_true rfl⟩ dL_law_225 (fun r2 hr2 => ?_)
        have hr2 : r2 = so_aRun u P C O (xs (i + 1)) := hr2
        refine lv_icmp_eq (tgt := 368) hx hb dL_law_228 (by decide) (fun _ => ?_) (fun c2 => ?_)
        · exact k368 u P C O ok dj H locs hP hD hS ls hl
        · exact absurd (hr1.trans hr2.symm) c2
      · refine lv_tableIn (off := 201) (tgt := 233) hx hb dL_law_32 (by decide +kernel) (by decide +kernel) (by decide +kernel) (by decide) ?_
        refine lv_aload_n hx hb dL_law_233 rfl (lv_at hl 2 rfl) ?_
        refine lv_aload_n hx hb dL_law_234 rfl (lv_at hl 3 rfl) ?_
        refine lv_iload_n hx hb dL_law_235 rfl (lv_at hl 0 rfl) ?_
        refine lv_iconst (v := nI 1) hx hb dL_law_236 (by decide +kernel) ?_
        refine so_add hx hb dL_law_237 ?_
        refine so_sld hx hb hX hbl hbA hS (by omega) (by omega) dL_law_238 ?_
        refine lv_aload_n hx hb dL_law_239 rfl (lv_at hl 3 rfl) ?_
        refine lv_iload_n hx hb dL_law_240 rfl (lv_at hl 0 rfl) ?_
        refine lv_iconst (v := nI 2) hx hb dL_law_241 (by decide +kernel) ?_
        refine so_add hx hb dL_law_242 ?_
        refine so_sld hx hb hX hbl hbA hS (by omega) (by omega) dL_law_243 ?_
        refine so_cV (N := 2) (As := [.int (xs (i + 1)), .int (xs (i + 2))]) (rest := []) ⟨hx, hb, hml, hown, hts⟩ (m0_free l D a0 d0 (nI (fb_ct u 10)) u P C O ok (xs (i + 1)) (xs (i + 2))) (so_pre0 I0) q90 q91 q92 q16 q93 (by decide +kernel) ⟨Nat.le_of_ble_eq_true rfl, Nat.le_of_ble_eq_true rfl⟩ rfl hl.1 rfl (Nat.le_of_ble_eq_true rfl) ⟨Nat.le_of_ble_eq_true rfl, Nat.le_of_ble_eq_true rfl⟩ dL_law_244 (fun r1 hr1 => ?_)
        have hr1 : r1 = so_aFree u P C O (xs (i + 1)) (xs (i + 2)) := hr1
        refine lv_aload_n hx hb dL_law_247 rfl (lv_at hl 1 rfl) ?_
        refine lv_aload_n hx hb dL_law_248 rfl (lv_at hl 3 rfl) ?_
        refine lv_iload_n hx hb dL_law_249 rfl (lv_at hl 0 rfl) ?_
        refine lv_iconst (v := nI 1) hx hb dL_law_250 (by decide +kernel) ?_
        refine so_add hx hb dL_law_251 ?_
        refine so_sld hx hb hX hbl hbA hS (by omega) (by omega) dL_law_252 ?_
        refine lv_aload_n hx hb dL_law_253 rfl (lv_at hl 3 rfl) ?_
        refine lv_iload_n hx hb dL_law_254 rfl (lv_at hl 0 rfl) ?_
        refine lv_iconst (v := nI 2) hx hb dL_law_255 (by decide +kernel) ?_
        refine so_add hx hb dL_law_256 ?_
        refine so_sld hx hb hX hbl hbA hS (by omega) (by omega) dL_law_257 ?_
        refine so_cV (N := 2) (As := [.int (xs (i + 1)), .int (xs (i + 2))]) (rest := [.int r1]) ⟨hx, hb, hml, hown, hts⟩ (m1_free l D a1 d1 u P C O ok dj (xs (i + 1)) (xs (i + 2))) (so_pre1 I1) q184 q185 q186 q17 q187 (by decide +kernel) ⟨Nat.le_of_ble_eq_true rfl, Nat.le_of_ble_eq_true rfl⟩ rfl hl.1 rfl (Nat.le_of_ble_eq_true rfl) ⟨Nat.le_of_ble_eq_true rfl, Nat.le_of_ble_eq_true rfl⟩ dL_law_258 (fun r2 hr2 => ?_)
        have hr2 : r2 = so_aFree u P C O (xs (i + 1)) (xs (i + 2)) := hr2
        refine lv_icmp_eq (tgt := 368) hx hb dL_law_261 (by decide) (fun _ => ?_) (fun c2 => ?_)
        · exact k368 u P C O ok dj H locs hP hD hS ls hl
        · exact absurd (hr1.trans hr2.symm) c2
      · refine lv_tableIn (off := 234) (tgt := 266) hx hb dL_law_32 (by decide +kernel) (by decide +kernel) (by decide +kernel) (by decide) ?_
        refine lv_aload_n hx hb dL_law_266 rfl (lv_at hl 2 rfl) ?_
        refine lv_aload_n hx hb dL_law_267 rfl (lv_at hl 3 rfl) ?_
        refine lv_iload_n hx hb dL_law_268 rfl (lv_at hl 0 rfl) ?_
        refine lv_iconst (v := nI 1) hx hb dL_law_269 (by decide +kernel) ?_
        refine so_add hx hb dL_law_270 ?_
        refine so_sld hx hb hX hbl hbA hS (by omega) (by omega) dL_law_271 ?_
        refine lv_aload_n hx hb dL_law_272 rfl (lv_at hl 3 rfl) ?_
        refine lv_iload_n hx hb dL_law_273 rfl (lv_at hl 0 rfl) ?_
        refine lv_iconst (v := nI 2) hx hb dL_law_274 (by decide +kernel) ?_
        refine so_add hx hb dL_law_275 ?_
        refine so_sld hx hb hX hbl hbA hS (by omega) (by omega) dL_law_276 ?_
        refine lv_aload_n hx hb dL_law_277 rfl (lv_at hl 3 rfl) ?_
        refine lv_iload_n hx hb dL_law_278 rfl (lv_at hl 0 rfl) ?_
        refine lv_iconst (v := nI 3) hx hb dL_law_279 (by decide +kernel) ?_
        refine so_add hx hb dL_law_280 ?_
        refine so_sld hx hb hX hbl hbA hS (by omega) (by omega) dL_law_281 ?_
        refine so_cV (N := 3) (As := [.int (xs (i + 1)), .int (xs (i + 2)), .int (xs (i + 3))]) (rest := []) ⟨hx, hb, hml, hown, hts⟩ (m0_starts l D a0 d0 (nI (fb_ct u 10)) u P C O ok (xs (i + 1)) (xs (i + 2)) (xs (i + 3))) (so_pre0 I0) q98 q99 q100 q16 q101 (by decide +kernel) ⟨Nat.le_of_ble_eq_true rfl, Nat.le_of_ble_eq_true rfl⟩ rfl hl.1 rfl (Nat.le_of_ble_eq_true rfl) ⟨Nat.le_of_ble_eq_true rfl, Nat.le_of_ble_eq_true rfl⟩ dL_law_282 (fun r1 hr1 => ?_)
        have hr1 : r1 = so_aSt u P O (xs (i + 1)) (xs (i + 2)) (xs (i + 3)) := hr1
        refine lv_aload_n hx hb dL_law_285 rfl (lv_at hl 1 rfl) ?_
        refine lv_aload_n hx hb dL_law_286 rfl (lv_at hl 3 rfl) ?_
        refine lv_iload_n hx hb dL_law_287 rfl (lv_at hl 0 rfl) ?_
        refine lv_iconst (v := nI 1) hx hb dL_law_288 (by decide +kernel) ?_
        refine so_add hx hb dL_law_289 ?_
        refine so_sld hx hb hX hbl hbA hS (by omega) (by omega) dL_law_290 ?_
        refine lv_aload_n hx hb dL_law_291 rfl (lv_at hl 3 rfl) ?_
        refine lv_iload_n hx hb dL_law_292 rfl (lv_at hl 0 rfl) ?_
        refine lv_iconst (v := nI 2) hx hb dL_law_293 (by decide +kernel) ?_
        refine so_add hx hb dL_law_294 ?_
        refine so_sld hx hb hX hbl hbA hS (by omega) (by omega) dL_law_295 ?_
        refine lv_aload_n hx hb dL_law_296 rfl (lv_at hl 3 rfl) ?_
        refine lv_iload_n hx hb dL_law_297 rfl (lv_at hl 0 rfl) ?_
        refine lv_iconst (v := nI 3) hx hb dL_law_298 (by decide +kernel) ?_
        refine so_add hx hb dL_law_299 ?_
        refine so_sld hx hb hX hbl hbA hS (by omega) (by omega) dL_law_300 ?_
        refine so_cV (N := 3) (As := [.int (xs (i + 1)), .int (xs (i + 2)), .int (xs (i + 3))]) (rest := [.int r1]) ⟨hx, hb, hml, hown, hts⟩ (m1_starts l D a1 d1 u P C O ok (xs (i + 1)) (xs (i + 2)) (xs (i + 3))) (so_pre1 I1) q192 q193 q194 q17 q195 (by decide +kernel) ⟨Nat.le_of_ble_eq_true rfl, Nat.le_of_ble_eq_true rfl⟩ rfl hl.1 rfl (Nat.le_of_ble_eq_true rfl) ⟨Nat.le_of_ble_eq_true rfl, Nat.le_of_ble_eq_true rfl⟩ dL_law_301 (fun r2 hr2 => ?_)
        have hr2 : r2 = so_aSt u P O (xs (i + 1)) (xs (i + 2)) (xs (i + 3)) := hr2
        refine lv_icmp_eq (tgt := 368) hx hb dL_law_304 (by decide) (fun _ => ?_) (fun c2 => ?_)
        · exact k368 u P C O ok dj H locs hP hD hS ls hl
        · exact absurd (hr1.trans hr2.symm) c2
      · refine lv_tableIn (off := 277) (tgt := 309) hx hb dL_law_32 (by decide +kernel) (by decide +kernel) (by decide +kernel) (by decide) ?_
        refine lv_aload_n hx hb dL_law_309 rfl (lv_at hl 2 rfl) ?_
        refine lv_aload_n hx hb dL_law_310 rfl (lv_at hl 3 rfl) ?_
        refine lv_iload_n hx hb dL_law_311 rfl (lv_at hl 0 rfl) ?_
        refine lv_iconst (v := nI 1) hx hb dL_law_312 (by decide +kernel) ?_
        refine so_add hx hb dL_law_313 ?_
        refine so_sld hx hb hX hbl hbA hS (by omega) (by omega) dL_law_314 ?_
        refine so_cV (N := 1) (As := [.int (xs (i + 1))]) (rest := []) ⟨hx, hb, hml, hown, hts⟩ (m0_nextStart l D a0 d0 (nI (fb_ct u 10)) u P C O ok (xs (i + 1))) (so_pre0 I0) q106 q107 q108 q16 q109 (by decide +kernel) ⟨Nat.le_of_ble_eq_true rfl, Nat.le_of_ble_eq_true rfl⟩ rfl hl.1 rfl (Nat.le_of_ble_eq_true rfl) ⟨Nat.le_of_ble_eq_true rfl, Nat.le_of_ble_eq_true rfl⟩ dL_law_315 (fun r1 hr1 => ?_)
        have hr1 : r1 = so_aNext u P O (xs (i + 1)) := hr1
        refine lv_aload_n hx hb dL_law_318 rfl (lv_at hl 1 rfl) ?_
        refine lv_aload_n hx hb dL_law_319 rfl (lv_at hl 3 rfl) ?_
        refine lv_iload_n hx hb dL_law_320 rfl (lv_at hl 0 rfl) ?_
        refine lv_iconst (v := nI 1) hx hb dL_law_321 (by decide +kernel) ?_
        refine so_add hx hb dL_law_322 ?_
        refine so_sld hx hb hX hbl hbA hS (by omega) (by omega) dL_law_323 ?_
        refine so_cV (N := 1) (As := [.int (xs (i + 1))]) (rest := [.int r1]) ⟨hx, hb, hml, hown, hts⟩ (m1_nextStart l D a1 d1 u P C O ok (xs (i + 1))) (so_pre1 I1) q196 q197 q198 q17 q199 (by decide +kernel) ⟨Nat.le_of_ble_eq_true rfl, Nat.le_of_ble_eq_true rfl⟩ rfl hl.1 rfl (Nat.le_of_ble_eq_true rfl) ⟨Nat.le_of_ble_eq_true rfl, Nat.le_of_ble_eq_true rfl⟩ dL_law_324 (fun r2 hr2 => ?_)
        have hr2 : r2 = so_aNext u P O (xs (i + 1)) := hr2
        refine lv_icmp_eq (tgt := 368) hx hb dL_law_327 (by decide) (fun _ => ?_) (fun c2 => ?_)
        · exact k368 u P C O ok dj H locs hP hD hS ls hl
        · exact absurd (hr1.trans hr2.symm) c2
      · refine lv_tableIn (off := 300) (tgt := 332) hx hb dL_law_32 (by decide +kernel) (by decide +kernel) (by decide +kernel) (by decide) ?_
        refine lv_aload_n hx hb dL_law_332 rfl (lv_at hl 2 rfl) ?_
        refine lv_aload_n hx hb dL_law_333 rfl (lv_at hl 3 rfl) ?_
        refine lv_iload_n hx hb dL_law_334 rfl (lv_at hl 0 rfl) ?_
        refine lv_iconst (v := nI 1) hx hb dL_law_335 (by decide +kernel) ?_
        refine so_add hx hb dL_law_336 ?_
        refine so_sld hx hb hX hbl hbA hS (by omega) (by omega) dL_law_337 ?_
        refine so_cV (N := 1) (As := [.int (xs (i + 1))]) (rest := []) ⟨hx, hb, hml, hown, hts⟩ (m0_room l D a0 d0 (nI (fb_ct u 10)) u P C O ok (xs (i + 1))) (so_pre0 I0) q110 q111 q112 q16 q113 (by decide +kernel) ⟨Nat.le_of_ble_eq_true rfl, Nat.le_of_ble_eq_true rfl⟩ rfl hl.1 rfl (Nat.le_of_ble_eq_true rfl) ⟨Nat.le_of_ble_eq_true rfl, Nat.le_of_ble_eq_true rfl⟩ dL_law_338 (fun r1 hr1 => ?_)
        have hr1 : r1 = so_aRoom u P C O (xs (i + 1)) := hr1
        refine lv_aload_n hx hb dL_law_341 rfl (lv_at hl 1 rfl) ?_
        refine lv_aload_n hx hb dL_law_342 rfl (lv_at hl 3 rfl) ?_
        refine lv_iload_n hx hb dL_law_343 rfl (lv_at hl 0 rfl) ?_
        refine lv_iconst (v := nI 1) hx hb dL_law_344 (by decide +kernel) ?_
        refine so_add hx hb dL_law_345 ?_
        refine so_sld hx hb hX hbl hbA hS (by omega) (by omega) dL_law_346 ?_
        refine so_cV (N := 1) (As := [.int (xs (i + 1))]) (rest := [.int r1]) ⟨hx, hb, hml, hown, hts⟩ (m1_room l D a1 d1 u P C O ok (xs (i + 1))) (so_pre1 I1) q204 q205 q206 q17 q207 (by decide +kernel) ⟨Nat.le_of_ble_eq_true rfl, Nat.le_of_ble_eq_true rfl⟩ rfl hl.1 rfl (Nat.le_of_ble_eq_true rfl) ⟨Nat.le_of_ble_eq_true rfl, Nat.le_of_ble_eq_true rfl⟩ dL_law_347 (fun r2 hr2 => ?_)
        have hr2 : r2 = so_aRoom u P C O (xs (i + 1)) := hr2
        refine lv_icmp_eq (tgt := 368) hx hb dL_law_350 (by decide) (fun _ => ?_) (fun c2 => ?_)
        · exact k368 u P C O ok dj H locs hP hD hS ls hl
        · exact absurd (hr1.trans hr2.symm) c2
      · refine lv_tableIn (off := 323) (tgt := 355) hx hb dL_law_32 (by decide +kernel) (by decide +kernel) (by decide +kernel) (by decide) ?_
        refine lv_aload_n hx hb dL_law_355 rfl (lv_at hl 2 rfl) ?_
        refine so_cV (N := 0) (As := []) (rest := []) ⟨hx, hb, hml, hown, hts⟩ (m0_load l D a0 d0 (nI (fb_ct u 10)) u P C O ok ) (so_pre0 I0) q114 q115 q116 q16 q117 (by decide +kernel) ⟨Nat.le_of_ble_eq_true rfl, Nat.le_of_ble_eq_true rfl⟩ rfl hl.1 rfl (Nat.le_of_ble_eq_true rfl) ⟨Nat.le_of_ble_eq_true rfl, Nat.le_of_ble_eq_true rfl⟩ dL_law_356 (fun r1 hr1 => ?_)
        have hr1 : r1 = so_aLoad u P C := hr1
        refine lv_aload_n hx hb dL_law_359 rfl (lv_at hl 1 rfl) ?_
        refine so_cV (N := 0) (As := []) (rest := [.int r1]) ⟨hx, hb, hml, hown, hts⟩ (m1_load l D a1 d1 u P C O ok dj ) (so_pre1 I1) q208 q209 q210 q17 q211 (by decide +kernel) ⟨Nat.le_of_ble_eq_true rfl, Nat.le_of_ble_eq_true rfl⟩ rfl hl.1 rfl (Nat.le_of_ble_eq_true rfl) ⟨Nat.le_of_ble_eq_true rfl, Nat.le_of_ble_eq_true rfl⟩ dL_law_360 (fun r2 hr2 => ?_)
        have hr2 : r2 = so_aLoad u P C := hr2
        refine lv_icmp_eq (tgt := 368) hx hb dL_law_363 (by decide) (fun _ => ?_) (fun c2 => ?_)
        · exact k368 u P C O ok dj H locs hP hD hS ls hl
        · exact absurd (hr1.trans hr2.symm) c2
      · refine lv_tableOut (tgt := 368) hx hb dL_law_32 (Or.inr (by rw [nI_toInt (by omega)]; omega)) (by decide) ?_
        exact k368 u P C O ok dj H locs hP hD hS ls hl
set_option maxHeartbeats 4000000 in
/-- from the entry, for every script of at most 256 ints, the law comes to its end with true -/
theorem whole_start {p : Program} {e : Env} {s : State} {m : MethodId} {below : List Frame} {meth : Method} {c : Code} (l : Launch) {b L : Nat} {xs : Nat → Int32} (hL : L ≤ 256) (C0 : lw_At p s m meth c b L xs) : W p l e room_1 s m #[Value.ref b] below meth c s.heap [] 0 0 (lw_Z below #[Value.ref b] s) (entryFrame m ([Value.ref b] : List Value).toArray 4) := by
  obtain ⟨hx, hb, hr, hml, hown, hts0, hX, hbl, hlocks, hgv⟩ := id C0
  have hts : ∀ w ∈ lw_all, w.before #[Value.ref b] s = true := fun w h => hts0 w (lw_all_tbl h)
  obtain ⟨A, hAe⟩ : ∃ A : Nat → Prop, A = fun q : Nat => s.heap.size ≤ q := ⟨_, rfl⟩
  have hA : ∀ q : Nat, s.heap.size ≤ q → A q := fun q h => by rw [hAe]; exact h
  have hA2 : ∀ q : Nat, A q → s.heap.size ≤ q := fun q h => by rw [hAe] at h; exact h
  have hbA : ¬ A b := fun h => absurd (hA2 b h) (Nat.not_le.mpr hbl)
  obtain ⟨c0, iS0, hKn0⟩ := u_known (C := RX0) (T := TX0) (N := 5) (n := 5) hts in_X0 (hts _ q19)
  obtain ⟨c1, iS1, hKn1⟩ := u_known (C := RX1) (T := TX1) (N := 3) (n := 3) hts in_X1 (hts _ q119)
  obtain ⟨D, hKc⟩ : ∃ D : va_G, ∀ (k : Nat) (q : vw_C), vwCl[k]? = some q → u_Kn s q.1 q.2.1 q.2.2 (D.1 k) (D.2 k) := by
    refine ⟨(fun k => if k = 0 then c0 else c1, fun k => if k = 0 then iS0 else iS1), ?_⟩
    intro k q hq
    match k, hq with
    | 0, hq => cases hq; exact hKn0
    | 1, hq => cases hq; exact hKn1
    | k + 2, hq => simp [vwCl] at hq
  have hS : va_S A s.heap s.heap [] := va_S.rf
  have hK : va_K D vwCl [] s := ⟨hKc, fun k q h => by simp at h⟩
  have hP : va_P D vwCl [] s.heap := fun k q h => by simp at h
  have hD : va_D A [] := ⟨fun i j p q h => by simp at h, fun k q h => by simp at h⟩
  have hl := lv_entry ([.ref b]) (n := 4) (Nat.le_of_ble_eq_true rfl)
  rw [lg_entry_eq]
  generalize (lg_sl ([.ref b]) ++ List.replicate (4 - (lg_sl ([.ref b])).length) Slot.unset).toArray = ls at hl ⊢
  have hl : lv_has ls 4 [(0, .ref b)] := hl
  refine va_new (ci := 0) (fs := [.null, .null, .null, .null, .int 0]) (C := RX0) (T := TX0) (N := 5) hx hb hts in_X0 tyX0 tyX0_ok hown (hts _ q18) (hts _ q19) (hts _ q16) hK hP hD hS hA rfl (fun j hj => by rcases (show j = 0 ∨ j = 1 ∨ j = 2 ∨ j = 3 ∨ j = 4 by omega) with rfl | rfl | rfl | rfl | rfl <;> rfl) (Nat.le_of_ble_eq_true rfl) (Nat.le_of_ble_eq_true rfl) dL_law_0 (fun q0 H hP hD hS => ?_)
  have hP : va_P D vwCl [(q0, .inr (0, [.null, .null, .null, .null, .int 0]))] H := hP
  have hD : va_D A [(q0, .inr (0, [.null, .null, .null, .null, .int 0]))] := hD
  refine W.widen (k := 1) (n := 5) (by decide) (by decide) ?_
  refine lv_dup hx hb dL_law_3 rfl ?_
  have hFc := va_free (wc := [(q0, .inr (0, [.null, .null, .null, .null, .int 0]))]) hD hS hA [0] rfl
  refine va_callv (va_runI (As := []) (rest := [.ref q0]) ⟨hx, hb, hml, hown, hts⟩ (m0_init l D q0 H.size) (cwI 0 hts (lw_meth q22) rfl rfl rfl (hts _ q16) (hts _ q20) (hts _ q21) rfl (by decide +kernel) ⟨Nat.le_of_ble_eq_true rfl, Nat.le_of_ble_eq_true rfl⟩) ⟨fun a U g mk q => by obtain ⟨r0, r1, qP, qK, qD⟩ := q; exact ⟨r0, r1, qP, va_K.moved (u := U) (U := U.calling g mk a) (Vm.Alike.refl U.vm) qK, qD⟩, fun U hU hW => ⟨rfl, by rw [hU], by rw [hU]; exact hP, va_K.moved hW.alike hK, hD.weaken (fun _ _ _ _ => trivial)⟩⟩ rfl rfl hl.1 rfl (lv_room (Nat.le_of_ble_eq_true rfl)) dL_law_4 ⟨Nat.le_of_ble_eq_true rfl, Nat.le_of_ble_eq_true rfl⟩) hS (fun q _ h => hFc q h) hFc (fun w t H1 locs ht hvm hw hB hz1 hk1 hS => ?_)
  obtain ⟨a0, d0⟩ := w
  have hw : a0 0 = q0 := hw
  have J0 := so_mv0 (s := s) t H1 ht hvm hB.1
  have hK0 : va_K D vwCl (so_T0 d0) s := J0.2
  obtain ⟨hP, hD⟩ := va_join (wr := []) (w1 := so_V0 a0 d0 (nI (fb_ct so_u0 10)) so_u0 so_z0 so_z0 so_z0) hP hD [0] [] rfl rfl (by decide) (by decide) hk1 hFc J0.1 hB.2
  clear hB hk1 hFc hz1
  generalize H1 = H at hP hS J0 ⊢
  have hP : va_P D vwCl (so_V0 a0 d0 (nI (fb_ct so_u0 10)) so_u0 so_z0 so_z0 so_z0) H := hP
  have hD : va_D A (so_V0 a0 d0 (nI (fb_ct so_u0 10)) so_u0 so_z0 so_z0 so_z0) := hD
  refine W.widen (k := 5) (n := 45) (by decide) (by decide) ?_
  refine lv_astore_n (lv' := [(1, .ref q0), (0, .ref b)]) hx hb dL_law_7 rfl hl (by decide) rfl (fun ls hl => ?_)
  refine va_new (ci := 1) (fs := [.null, .null, .null]) (C := RX1) (T := TX1) (N := 3) hx hb hts in_X1 tyX1 tyX1_ok hown (hts _ q118) (hts _ q119) (hts _ q17) hK hP hD hS hA rfl (fun j hj => by rcases (show j = 0 ∨ j = 1 ∨ j = 2 by omega) with rfl | rfl | rfl <;> rfl) (Nat.le_of_ble_eq_true rfl) (Nat.le_of_ble_eq_true rfl) dL_law_8 (fun q1 H hP hD hS => ?_)
  refine W.widen (k := 6) (n := 48) (by decide) (by decide) ?_
  refine lv_dup hx hb dL_law_11 rfl ?_
  have hPc := hP.sub (ws' := [(q1, .inr (1, [.null, .null, .null]))]) [5] rfl
  have hDc := hD.sub (ws' := [(q1, .inr (1, [.null, .null, .null]))]) [5] (by decide) rfl
  have hFc := va_free (wc := [(q1, .inr (1, [.null, .null, .null]))]) hD hS hA [5] rfl
  refine va_callv (va_runI (As := []) (rest := [.ref q1]) ⟨hx, hb, hml, hown, hts⟩ (m1_init l D q1 H.size) (cwI 0 hts (lw_meth q122) rfl rfl rfl (hts _ q17) (hts _ q120) (hts _ q121) rfl (by decide +kernel) ⟨Nat.le_of_ble_eq_true rfl, Nat.le_of_ble_eq_true rfl⟩) ⟨fun a U g mk q => by obtain ⟨r0, r1, qP, qK, qD⟩ := q; exact ⟨r0, r1, qP, va_K.moved (u := U) (U := U.calling g mk a) (Vm.Alike.refl U.vm) qK, qD⟩, fun U hU hW => ⟨rfl, by rw [hU], by rw [hU]; exact hPc, va_K.moved hW.alike hK, hDc.weaken (fun _ _ _ _ => trivial)⟩⟩ rfl rfl hl.1 rfl (lv_room (Nat.le_of_ble_eq_true rfl)) dL_law_12 ⟨Nat.le_of_ble_eq_true rfl, Nat.le_of_ble_eq_true rfl⟩) hS (fun q _ h => hFc q h) hFc (fun w t H1 locs ht hvm hw1 hB hz1 hk1 hS => ?_)
  obtain ⟨a1, d1⟩ := w
  have hw1 : a1 0 = q1 := hw1
  have J1 := so_mv1 (s := s) t H1 ht hvm hB.1
  have hK1 : va_K D vwCl (so_T1 d1) s := J1.2
  obtain ⟨hP, hD⟩ := va_join (wr := so_V0 a0 d0 (nI (fb_ct so_u0 10)) so_u0 so_z0 so_z0 so_z0) (w1 := so_V1 a1 d1 so_u0 so_z0 so_z0 so_z0) hP hD [5] [0, 1, 2, 3, 4] rfl rfl (by decide) (by decide) hk1 hFc J1.1 hB.2
  refine W.widen (k := 9) (n := 78) (by decide) (by decide) ?_
  refine lv_astore_n (lv' := [(2, .ref q1), (1, .ref q0), (0, .ref b)]) hx hb dL_law_15 rfl hl (by decide) rfl (fun ls hl => ?_)
  refine lv_iconst (v := nI 0) hx hb dL_law_16 (by decide +kernel) ?_
  refine lv_istore_n (lv' := [(3, .int (nI 0)), (2, .ref q1), (1, .ref q0), (0, .ref b)]) hx hb dL_law_17 rfl hl (by decide) rfl (fun ls hl => ?_)
  rw [← hw, ← hw1] at hl
  exact law_loop hL C0 hA hA2 hbA a0 a1 d0 d1 hK0 hK1 64 0 so_u0 so_z0 so_z0 so_z0 (by omega) (by omega) (fun j _ h => by cases h) (fun i j t _ _ _ h => by simp [so_run, so_u0] at h) H1 locs hP hD hS ls hl
end
section
set_option maxHeartbeats 4000000 in
theorem lw_walk (l : Launch) (b : Addr) (xs : List Int32) : MetFree l x (headSpec (Jvm.Cond.code x code maxLocals ret :: tables_1) room_1) (lw_P b xs) (fun _ _ _ _ _ => True) lw_Q := by
  refine MetFree.of_bodyS (code := code) (maxLocals := maxLocals) (ret := ret) (by decide) ?_ ?_
  · intro args s m h hn
    obtain ⟨meth, c, h1, h2, h3, h4, h5, h6, -, -⟩ := Cond.code_spec hn (atoms_spec (ws := Jvm.Cond.code x code maxLocals ret :: tables_1) h _ List.mem_cons_self)
    exact ⟨meth, c, h1, h2, h3, h4, h5, h6⟩
  · intro p e s m args below meth c s₁ B hml0 hP _
    obtain ⟨rfl, hx, hbd, hgv⟩ := hP
    obtain ⟨scr, harrAt, hlist, hof, hsmall⟩ := hx
    obtain ⟨hcb, hkn, -, -⟩ := State.arrayAt?_spec harrAt
    have hown : s.vm.findClass R_law = some m.cls := findClass_of_methodNamed B.named
    have hts0 : ∀ c ∈ (Jvm.Cond.code x code maxLocals ret :: tables_1), c.before #[Value.ref b] s = true := atoms_spec (ws := Jvm.Cond.code x code maxLocals ret :: tables_1) B.pre
    have hts : ∀ w ∈ lw_tbl, w.before #[Value.ref b] s = true := k2_hts_sels lw_privs (fun w hw => hts0 w (List.mem_cons_of_mem _ hw)) lw_privs_ok
    have hml : c.maxLocals = 4 := B.maxLocals_eq (hts0 _ List.mem_cons_self)
    have X₀ : Stand p l e room_1 s m #[Value.ref b] below meth c s₁ [] 0 0 := Stand.of_body B
    have hh0 : s₁.heap = s.heap := by rw [B.state]; rfl
    have hsz : scr.slots.size = xs.length := by rw [← Array.length_toList, hlist, List.length_map]
    have hval : ∀ j : Nat, j < xs.length → scr.slots[j]? = some (.int (xs.getD j 0)) := fun j hj => by
      rw [← Array.getElem?_toList, hlist]
      simp [hj]
    have hbl : b < s.heap.size := (Array.getElem?_eq_some_iff.mp hcb).1
    have hX : va_X b xs.length (fun j => xs.getD j 0) s s.heap := ⟨scr, hcb, hof, hkn, hsz, hval⟩
    have K : W p l e room_1 s m #[Value.ref b] below meth c s₁.heap [] 0 0 (lw_Z below #[Value.ref b] s) (entryFrame m ([Value.ref b] : List Value).toArray 4) := by
      rw [hh0]
      exact whole_start l hbd ⟨B.exec, B.bytes, B.returns, hml, hown, hts, hX, hbl, B.notSynchronized, hgv⟩
    obtain ⟨t, a1, o, b1, b2, b3⟩ := K s₁ rfl X₀
    exact ⟨t, o, a1, b1, b2, b3⟩
theorem lw_pre_spec {args : Array Value} {s : State} (h : (Jvm.Cond.and given_1 narrow_1).before args s = true) (hr : rest_1_c.before args s = true) : ∃ (b : Addr) (xs : List Int32), lw_P b xs args s := by
  have hs := flat_of_before _ h
  have hq := flat_of_before _ hr
  have hc : (Cond.count 1).before args s = true := hs _ (by decide +kernel)
  have harr : (Cond.arrayOf (.arg 0) .int).before args s = true := hs _ (by decide +kernel)
  have hle : (Cond.le (.length (.arg 0)) (.int 256)).before args s = true := hs _ (by decide +kernel)
  have hlen : (Cond.isInt (.length (.arg 0))).before args s = true := hq _ (by decide +kernel)
  have hall : (Cond.all (.arg 0) (.isInt (.elem (.arg 0) (.index 0)))).before args s = true := hq _ (by decide +kernel)
  obtain ⟨b, xs, hb, hx⟩ := State.ints_of_pre rfl harr hlen hall
  have hsm : xs.length < 2 ^ 31 := hx.choose_spec.2.2.2
  have hev : (Term.length (.arg 0)).eval args s none [] s = some (.int xs.length.toInt32) := hx.length_eval hb
  have hv := Cond.le_ints hev (show (Term.int 256).eval args s none [] s = some (.int 256) from rfl)
  have hd : xs.length.toInt32 ≤ 256 := by
    simpa [Cond.before, Cond.holds, hv] using hle
  have hN : xs.length ≤ 256 := (Int32.ofNat_le_ofNat hsm (by decide)).mp (show Int32.ofNat xs.length ≤ Int32.ofNat 256 from hd)
  exact ⟨b, xs, Cond.one_arg hc (show args[0]? = some (.ref b) from hb), hx, hN, h⟩
theorem lw_comes (l : Launch) : Comes l x (Jvm.Cond.code x code maxLocals ret :: tables_1) room_1 (fun tb e args s => Calls_1 tb e args s ∧ rest_1 tb e args s ∧ Pre_1 tb e args s)
    (fun _ _ args s o t => lw_Q args s o t) := by
  intro p e ha hc hk s m args below hf hfit hheap happ hpre
  obtain ⟨b, xs, hP⟩ := lw_pre_spec hpre.2.2 hpre.2.1
  obtain ⟨k, o, h1, h2, h3, hQ⟩ := lw_walk l b xs p e ha hc hk s m args below hf ((Spec.applies_iff_loose hf).mp happ).1 hP trivial
  exact ⟨k, o, h1, h2, h3, hQ⟩
theorem lw_frame {s t : State} {o : Outcome} {args : Array Value} (h : Framed s o t [] 600000 7290000) :
    Framed s o t (fieldLocs frame_1_writes args s ++ arrayLocs frame_1_arrays args s ++ staticLocs frame_1_statics s) 600000 7290000 := h
theorem lw_limb (L : Cond) (hL : ∀ (args : Array Value) (s t : State), L.after args s (.returned (some (.int 1))) t = true) :
    ArmFor flags0 classFile x code maxLocals ret World_1 tables_1 room_1 Calls_1 rest_1 Pre_1
      (fun tb e a s o t => postC L tb e a s o t ∧ Framed s o t (fieldLocs frame_1_writes a s ++ arrayLocs frame_1_arrays a s ++ staticLocs frame_1_statics s) 600000 7290000) := by
  intro l _ _ _ p e ha hc hk s m args below hf hfit hheap happ hpre
  obtain ⟨k, o, h1, h2, h3, rfl, hF⟩ := lw_comes l p e ha hc hk s m args below hf hfit hheap happ hpre
  exact ⟨k, _, h1, h2, h3, hL args s _, lw_frame hF⟩
theorem i_vc : Claimed_1_1 ∧ Claimed_1_2 := ⟨lw_limb limb_1_1 (fun args s t => by simp [limb_1_1, Cond.after, Cond.holds, Cond.value]), lw_limb limb_1_2 (fun args s t => Cond.after_iff.mpr (by
  first | (rw [show limb_1_2 = Cond.eq .result (.int 1) from rfl, Cond.eq_ints (x := 1) (y := 1) rfl rfl]; simp; done) | (simp [limb_1_2, Cond.value, Term.eval]; done)))⟩
end
