section
-- ===== PART A: goes FIRST, ahead of the names: the tables' words, and 'selects' of the private methods out of them =====
/-- a private method of a class that the tables say can be made, by its rows of tables_1 -/
def lw_okq (q : MethodName × Nat) : Prop := (q.1.cls ≠ "java/lang/invoke/MethodHandle" ∧ q.1.cls ≠ "java/lang/invoke/VarHandle") ∧ Cond.instantiable q.1.cls q.2 ∈ tables_1 ∧ Cond.privateMethod q.1 ∈ tables_1 ∧ Cond.instanceMethod q.1 ∈ tables_1
set_option maxRecDepth 100000
theorem lw_p0 : lw_okq (⟨"JumpPoints", "isFree", "(I)Z"⟩, 8) := ⟨⟨by decide +kernel, by decide +kernel⟩, List.mem_of_getElem? (i := 4) rfl, List.mem_of_getElem? (i := 56) rfl, List.mem_of_getElem? (i := 57) rfl⟩
theorem lw_p1 : lw_okq (⟨"JumpPoints", "search", "(II)I"⟩, 8) := ⟨⟨by decide +kernel, by decide +kernel⟩, List.mem_of_getElem? (i := 4) rfl, List.mem_of_getElem? (i := 60) rfl, List.mem_of_getElem? (i := 61) rfl⟩
theorem lw_p2 : lw_okq (⟨"JumpPoints", "offer", "(III)V"⟩, 8) := ⟨⟨by decide +kernel, by decide +kernel⟩, List.mem_of_getElem? (i := 4) rfl, List.mem_of_getElem? (i := 64) rfl, List.mem_of_getElem? (i := 65) rfl⟩
theorem lw_p3 : lw_okq (⟨"JumpPoints", "takeBest", "()I"⟩, 8) := ⟨⟨by decide +kernel, by decide +kernel⟩, List.mem_of_getElem? (i := 4) rfl, List.mem_of_getElem? (i := 68) rfl, List.mem_of_getElem? (i := 69) rfl⟩
theorem lw_p4 : lw_okq (⟨"JumpPoints", "atLeast", "(II)I"⟩, 8) := ⟨⟨by decide +kernel, by decide +kernel⟩, List.mem_of_getElem? (i := 4) rfl, List.mem_of_getElem? (i := 72) rfl, List.mem_of_getElem? (i := 73) rfl⟩
theorem lw_p5 : lw_okq (⟨"JumpPoints", "goOn", "(I)V"⟩, 8) := ⟨⟨by decide +kernel, by decide +kernel⟩, List.mem_of_getElem? (i := 4) rfl, List.mem_of_getElem? (i := 76) rfl, List.mem_of_getElem? (i := 77) rfl⟩
theorem lw_p6 : lw_okq (⟨"JumpPoints", "jumpDiagonal", "(III)I"⟩, 8) := ⟨⟨by decide +kernel, by decide +kernel⟩, List.mem_of_getElem? (i := 4) rfl, List.mem_of_getElem? (i := 80) rfl, List.mem_of_getElem? (i := 81) rfl⟩
theorem lw_p7 : lw_okq (⟨"JumpPoints", "freeBeside", "(III)Z"⟩, 8) := ⟨⟨by decide +kernel, by decide +kernel⟩, List.mem_of_getElem? (i := 4) rfl, List.mem_of_getElem? (i := 84) rfl, List.mem_of_getElem? (i := 85) rfl⟩
theorem lw_p8 : lw_okq (⟨"JumpPoints", "forced", "(III)I"⟩, 8) := ⟨⟨by decide +kernel, by decide +kernel⟩, List.mem_of_getElem? (i := 4) rfl, List.mem_of_getElem? (i := 88) rfl, List.mem_of_getElem? (i := 89) rfl⟩
theorem lw_p9 : lw_okq (⟨"JumpPoints", "wallBeside", "(III)Z"⟩, 8) := ⟨⟨by decide +kernel, by decide +kernel⟩, List.mem_of_getElem? (i := 4) rfl, List.mem_of_getElem? (i := 92) rfl, List.mem_of_getElem? (i := 93) rfl⟩
theorem lw_p10 : lw_okq (⟨"JumpPoints", "bitOf", "(II)I"⟩, 8) := ⟨⟨by decide +kernel, by decide +kernel⟩, List.mem_of_getElem? (i := 4) rfl, List.mem_of_getElem? (i := 96) rfl, List.mem_of_getElem? (i := 97) rfl⟩
theorem lw_p11 : lw_okq (⟨"JumpPoints", "jumpStraight", "(III)I"⟩, 8) := ⟨⟨by decide +kernel, by decide +kernel⟩, List.mem_of_getElem? (i := 4) rfl, List.mem_of_getElem? (i := 100) rfl, List.mem_of_getElem? (i := 101) rfl⟩
theorem lw_p12 : lw_okq (⟨"JumpPointsModel", "isCell", "(I)Z"⟩, 2) := ⟨⟨by decide +kernel, by decide +kernel⟩, List.mem_of_getElem? (i := 124) rfl, List.mem_of_getElem? (i := 142) rfl, List.mem_of_getElem? (i := 143) rfl⟩
theorem lw_p13 : lw_okq (⟨"JumpPointsModel", "isFree", "(I)Z"⟩, 2) := ⟨⟨by decide +kernel, by decide +kernel⟩, List.mem_of_getElem? (i := 124) rfl, List.mem_of_getElem? (i := 158) rfl, List.mem_of_getElem? (i := 159) rfl⟩
theorem lw_p14 : lw_okq (⟨"JumpPointsModel", "search", "(I)V"⟩, 2) := ⟨⟨by decide +kernel, by decide +kernel⟩, List.mem_of_getElem? (i := 124) rfl, List.mem_of_getElem? (i := 162) rfl, List.mem_of_getElem? (i := 163) rfl⟩
theorem lw_p15 : lw_okq (⟨"JumpPointsModel", "lower", "(I)Z"⟩, 2) := ⟨⟨by decide +kernel, by decide +kernel⟩, List.mem_of_getElem? (i := 124) rfl, List.mem_of_getElem? (i := 166) rfl, List.mem_of_getElem? (i := 167) rfl⟩
def lw_privs_1 : List (MethodName × Nat) := [(⟨"JumpPoints", "isFree", "(I)Z"⟩, 8), (⟨"JumpPoints", "search", "(II)I"⟩, 8), (⟨"JumpPoints", "offer", "(III)V"⟩, 8), (⟨"JumpPoints", "takeBest", "()I"⟩, 8), (⟨"JumpPoints", "atLeast", "(II)I"⟩, 8), (⟨"JumpPoints", "goOn", "(I)V"⟩, 8), (⟨"JumpPoints", "jumpDiagonal", "(III)I"⟩, 8), (⟨"JumpPoints", "freeBeside", "(III)Z"⟩, 8), (⟨"JumpPoints", "forced", "(III)I"⟩, 8), (⟨"JumpPoints", "wallBeside", "(III)Z"⟩, 8), (⟨"JumpPoints", "bitOf", "(II)I"⟩, 8), (⟨"JumpPoints", "jumpStraight", "(III)I"⟩, 8), (⟨"JumpPointsModel", "isCell", "(I)Z"⟩, 2), (⟨"JumpPointsModel", "isFree", "(I)Z"⟩, 2), (⟨"JumpPointsModel", "search", "(I)V"⟩, 2), (⟨"JumpPointsModel", "lower", "(I)Z"⟩, 2)]
theorem lw_r1 : ∀ q ∈ lw_privs_1, lw_okq q := List.forall_mem_cons.mpr ⟨lw_p0, List.forall_mem_cons.mpr ⟨lw_p1, List.forall_mem_cons.mpr ⟨lw_p2, List.forall_mem_cons.mpr ⟨lw_p3, List.forall_mem_cons.mpr ⟨lw_p4, List.forall_mem_cons.mpr ⟨lw_p5, List.forall_mem_cons.mpr ⟨lw_p6, List.forall_mem_cons.mpr ⟨lw_p7, List.forall_mem_cons.mpr ⟨lw_p8, List.forall_mem_cons.mpr ⟨lw_p9, List.forall_mem_cons.mpr ⟨lw_p10, List.forall_mem_cons.mpr ⟨lw_p11, List.forall_mem_cons.mpr ⟨lw_p12, List.forall_mem_cons.mpr ⟨lw_p13, List.forall_mem_cons.mpr ⟨lw_p14, List.forall_mem_cons.mpr ⟨lw_p15, fun _ h => absurd h List.not_mem_nil⟩⟩⟩⟩⟩⟩⟩⟩⟩⟩⟩⟩⟩⟩⟩⟩
def lw_privs : List (MethodName × Nat) := lw_privs_1
def lw_tbl : List Cond := k2_sels lw_privs ++ tables_1
theorem lw_privs_ok : ∀ q ∈ lw_privs, lw_okq q := lw_r1
-- ===== ONE list of words for every method: the tables' words that hold all through a run =====
def lw_all : List Cond := lw_tbl.filter goodWord
/-- a word of the tables by its place: claim/WORDS.tsv -/
theorem lw_w {w : Cond} (i : Nat) (h : lw_tbl[i]? = some w) (g : goodWord w = true) : w ∈ lw_all := List.mem_filter.mpr ⟨List.mem_of_getElem? h, g⟩
theorem lw_all_tbl {w : Cond} (h : w ∈ lw_all) : w ∈ lw_tbl := (List.mem_filter.mp h).1
theorem lw_self : GoodIn lw_all lw_all := fun w h => ⟨h, good_of_word (List.mem_filter.mp h).2⟩
/-- a class's field words, by their places -/
theorem lw_in (ws : List Cond) (ps : List Nat) (hp : ws = ps.filterMap (fun i => lw_tbl[i]?)) (hg : ws.all goodWord = true) : ∀ w ∈ ws, w ∈ lw_all := by
  intro w h
  have h1 := List.all_eq_true.mp hg w h
  rw [hp] at h
  obtain ⟨i, -, hi⟩ := List.mem_filterMap.mp h
  exact lw_w i hi h1
/-- the words of a contract for the method y with code b, L locals, answer r -/
abbrev ws_ (y : MethodName) (b : ByteArray) (L : Nat) (r : Option FieldType) : List Cond := Cond.code y b L r :: lw_all
theorem lw_meth {y : MethodName} {b : ByteArray} {L : Nat} {r : Option FieldType} (h : Cond.code y b L r ∈ lw_all) : GoodIn lw_all (ws_ y b L r) := by
  intro w hw
  rcases List.mem_cons.mp hw with e | e
  · rw [e]
    exact lw_self _ h
  · exact lw_self _ e
theorem lw_app {a c : List Cond} (ha : ∀ w ∈ a, w ∈ lw_all) (hc : GoodIn lw_all c) : GoodIn lw_all (a ++ c) := by
  intro w hw
  rcases List.mem_append.mp hw with e | e
  · exact lw_self w (ha w e)
  · exact hc w e
/-- what a call through an object asks: cwV n hts (lw_V ..) -/
theorem lw_V {own : String} {idx : Nat} {C : String} {y : MethodName} {b : ByteArray} {L : Nat} {r : Option FieldType} (h1 : Cond.methodLink own idx y ∈ lw_all) (h2 : Cond.instanceMethod y ∈ lw_all) (h3 : Cond.selects C y y ∈ lw_all) (h4 : Cond.initialized C ∈ lw_all) (h5 : Cond.code y b L r ∈ lw_all) : GoodIn lw_all (wsV own idx C y (ws_ y b L r)) := by
  refine lw_app ?_ (lw_meth h5)
  intro w hw
  simp only [List.mem_cons, List.not_mem_nil, or_false] at hw
  rcases hw with e | e | e | e
  · rw [e]; exact h1
  · rw [e]; exact h2
  · rw [e]; exact h3
  · rw [e]; exact h4
/-- what a static call asks: va_cwS n hts (lw_S ..) -/
theorem lw_S {own : String} {idx : Nat} {y : MethodName} {b : ByteArray} {L : Nat} {r : Option FieldType} (h1 : Cond.methodLink own idx y ∈ lw_all) (h2 : Cond.static y ∈ lw_all) (h3 : Cond.initialized y.cls ∈ lw_all) (h4 : Cond.code y b L r ∈ lw_all) : GoodIn lw_all (va_wsS own idx y (ws_ y b L r)) := by
  refine lw_app ?_ (lw_meth h4)
  intro w hw
  simp only [List.mem_cons, List.not_mem_nil, or_false] at hw
  rcases hw with e | e | e
  · rw [e]; exact h1
  · rw [e]; exact h2
  · rw [e]; exact h3
/-- the words of a contract for a method WITH HANDLERS (hh: its table) -/
abbrev wsW_ (y : MethodName) (b : ByteArray) (L : Nat) (r : Option FieldType) (hh : List (Nat × Nat × Nat × Nat)) : List Cond := Cond.codeWith y b L r hh :: lw_all
theorem lw_methW {y : MethodName} {b : ByteArray} {L : Nat} {r : Option FieldType} {hh : List (Nat × Nat × Nat × Nat)} (h : Cond.codeWith y b L r hh ∈ lw_all) : GoodIn lw_all (wsW_ y b L r hh) := by
  intro w hw
  rcases List.mem_cons.mp hw with e | e
  · rw [e]
    exact lw_self _ h
  · exact lw_self _ e
/-- any list of words by their places (lw_in), good -/
theorem lw_good {ws : List Cond} (h : ∀ w ∈ ws, w ∈ lw_all) : GoodIn lw_all ws := fun w hw => lw_self w (h w hw)
/-- what a call of a method with handlers asks: vx_cwVW n hts (lw_VW ..), vx_cwSW n hts (lw_SW ..) -/
theorem lw_VW {own : String} {idx : Nat} {C : String} {y : MethodName} {b : ByteArray} {L : Nat} {r : Option FieldType} {hh : List (Nat × Nat × Nat × Nat)} (h1 : Cond.methodLink own idx y ∈ lw_all) (h2 : Cond.instanceMethod y ∈ lw_all) (h3 : Cond.selects C y y ∈ lw_all) (h4 : Cond.initialized C ∈ lw_all) (h5 : Cond.codeWith y b L r hh ∈ lw_all) : GoodIn lw_all (wsV own idx C y (wsW_ y b L r hh)) := by
  refine lw_app ?_ (lw_methW h5)
  intro w hw
  simp only [List.mem_cons, List.not_mem_nil, or_false] at hw
  rcases hw with e | e | e | e
  · rw [e]; exact h1
  · rw [e]; exact h2
  · rw [e]; exact h3
  · rw [e]; exact h4
theorem lw_SW {own : String} {idx : Nat} {y : MethodName} {b : ByteArray} {L : Nat} {r : Option FieldType} {hh : List (Nat × Nat × Nat × Nat)} (h1 : Cond.methodLink own idx y ∈ lw_all) (h2 : Cond.static y ∈ lw_all) (h3 : Cond.initialized y.cls ∈ lw_all) (h4 : Cond.codeWith y b L r hh ∈ lw_all) : GoodIn lw_all (va_wsS own idx y (wsW_ y b L r hh)) := by
  refine lw_app ?_ (lw_methW h4)
  intro w hw
  simp only [List.mem_cons, List.not_mem_nil, or_false] at hw
  rcases hw with e | e | e
  · rw [e]; exact h1
  · rw [e]; exact h2
  · rw [e]; exact h3
/-- a word by its place in its run of the tables -/
theorem lw_at {r : List Cond} (hr : ∀ w ∈ r, w ∈ lw_tbl) {w : Cond} (i : Nat) (h : r[i]? = some w) : w ∈ lw_tbl := hr w (List.mem_of_getElem? h)
theorem lw_g {w : Cond} (h : w ∈ lw_tbl) (g : goodWord w = true) : w ∈ lw_all := List.mem_filter.mpr ⟨h, g⟩
theorem lw_ms : ∀ w ∈ k2_sels lw_privs, w ∈ lw_tbl := fun w h => show w ∈ k2_sels lw_privs ++ tables_1 from List.mem_append_left _ h
theorem lw_m0 : ∀ w ∈ tables_1, w ∈ lw_tbl := fun w h => show w ∈ k2_sels lw_privs ++ tables_1 from List.mem_append_right (k2_sels lw_privs) h
theorem qs0 : (Cond.selects "JumpPoints" ⟨"JumpPoints", "isFree", "(I)Z"⟩ ⟨"JumpPoints", "isFree", "(I)Z"⟩) ∈ lw_all := lw_g (lw_at lw_ms 0 rfl) rfl
theorem qs1 : (Cond.selects "JumpPoints" ⟨"JumpPoints", "search", "(II)I"⟩ ⟨"JumpPoints", "search", "(II)I"⟩) ∈ lw_all := lw_g (lw_at lw_ms 1 rfl) rfl
theorem qs2 : (Cond.selects "JumpPoints" ⟨"JumpPoints", "offer", "(III)V"⟩ ⟨"JumpPoints", "offer", "(III)V"⟩) ∈ lw_all := lw_g (lw_at lw_ms 2 rfl) rfl
theorem qs3 : (Cond.selects "JumpPoints" ⟨"JumpPoints", "takeBest", "()I"⟩ ⟨"JumpPoints", "takeBest", "()I"⟩) ∈ lw_all := lw_g (lw_at lw_ms 3 rfl) rfl
theorem qs4 : (Cond.selects "JumpPoints" ⟨"JumpPoints", "atLeast", "(II)I"⟩ ⟨"JumpPoints", "atLeast", "(II)I"⟩) ∈ lw_all := lw_g (lw_at lw_ms 4 rfl) rfl
theorem qs5 : (Cond.selects "JumpPoints" ⟨"JumpPoints", "goOn", "(I)V"⟩ ⟨"JumpPoints", "goOn", "(I)V"⟩) ∈ lw_all := lw_g (lw_at lw_ms 5 rfl) rfl
theorem qs6 : (Cond.selects "JumpPoints" ⟨"JumpPoints", "jumpDiagonal", "(III)I"⟩ ⟨"JumpPoints", "jumpDiagonal", "(III)I"⟩) ∈ lw_all := lw_g (lw_at lw_ms 6 rfl) rfl
theorem qs7 : (Cond.selects "JumpPoints" ⟨"JumpPoints", "freeBeside", "(III)Z"⟩ ⟨"JumpPoints", "freeBeside", "(III)Z"⟩) ∈ lw_all := lw_g (lw_at lw_ms 7 rfl) rfl
theorem qs8 : (Cond.selects "JumpPoints" ⟨"JumpPoints", "forced", "(III)I"⟩ ⟨"JumpPoints", "forced", "(III)I"⟩) ∈ lw_all := lw_g (lw_at lw_ms 8 rfl) rfl
theorem qs9 : (Cond.selects "JumpPoints" ⟨"JumpPoints", "wallBeside", "(III)Z"⟩ ⟨"JumpPoints", "wallBeside", "(III)Z"⟩) ∈ lw_all := lw_g (lw_at lw_ms 9 rfl) rfl
theorem qs10 : (Cond.selects "JumpPoints" ⟨"JumpPoints", "bitOf", "(II)I"⟩ ⟨"JumpPoints", "bitOf", "(II)I"⟩) ∈ lw_all := lw_g (lw_at lw_ms 10 rfl) rfl
theorem qs11 : (Cond.selects "JumpPoints" ⟨"JumpPoints", "jumpStraight", "(III)I"⟩ ⟨"JumpPoints", "jumpStraight", "(III)I"⟩) ∈ lw_all := lw_g (lw_at lw_ms 11 rfl) rfl
theorem qs12 : (Cond.selects "JumpPointsModel" ⟨"JumpPointsModel", "isCell", "(I)Z"⟩ ⟨"JumpPointsModel", "isCell", "(I)Z"⟩) ∈ lw_all := lw_g (lw_at lw_ms 12 rfl) rfl
theorem qs13 : (Cond.selects "JumpPointsModel" ⟨"JumpPointsModel", "isFree", "(I)Z"⟩ ⟨"JumpPointsModel", "isFree", "(I)Z"⟩) ∈ lw_all := lw_g (lw_at lw_ms 13 rfl) rfl
theorem qs14 : (Cond.selects "JumpPointsModel" ⟨"JumpPointsModel", "search", "(I)V"⟩ ⟨"JumpPointsModel", "search", "(I)V"⟩) ∈ lw_all := lw_g (lw_at lw_ms 14 rfl) rfl
theorem qs15 : (Cond.selects "JumpPointsModel" ⟨"JumpPointsModel", "lower", "(I)Z"⟩ ⟨"JumpPointsModel", "lower", "(I)Z"⟩) ∈ lw_all := lw_g (lw_at lw_ms 15 rfl) rfl
end
section
/-! java/lang/Object -/
set_option maxRecDepth 100000
def RJ0 : String := "java/lang/Object"
abbrev cJ0_init : ByteArray := object_method_1_code
def yJ0_init : MethodName := ⟨RJ0, "<init>", "()V"⟩
theorem dJ0_init_0 : decode cJ0_init 0 = .ok (.return_, 1) := by decide +kernel
theorem q25 : (Jvm.Cond.instanceMethod ({ cls := "java/lang/Object", name := "<init>", desc := "()V" } : Jvm.MethodName)) ∈ lw_all := lw_g (lw_at lw_m0 9 rfl) rfl
theorem q26 : (Jvm.Cond.code ({ cls := "java/lang/Object", name := "<init>", desc := "()V" } : Jvm.MethodName) object_method_1_code (1 : Nat) (Option.none : Option Jvm.ClassFile.FieldType)) ∈ lw_all := lw_g (lw_at lw_m0 10 rfl) rfl

/-! JumpPoints -/
set_option maxRecDepth 100000
def RX0 : String := "JumpPoints"
def TX0 : u_T := fun k => match k with
  | 0 => ("JumpPoints", "walls", "[Z", true)
  | 1 => ("JumpPoints", "length", "[S", true)
  | 2 => ("JumpPoints", "directions", "[S", true)
  | 3 => ("JumpPoints", "mark", "[B", true)
  | 4 => ("JumpPoints", "open", "[S", true)
  | 5 => ("JumpPoints", "openCount", "I", false)
  | 6 => ("JumpPoints", "goal", "I", false)
  | _ => ("JumpPoints", "landed", "I", false)
def tyX0 : Nat → FieldType := fun k => match k with
  | 0 => .array .boolean
  | 1 => .array .short
  | 2 => .array .short
  | 3 => .array .byte
  | 4 => .array .short
  | 5 => .int
  | 6 => .int
  | _ => .int
abbrev wsX00 : List Cond := u_ws RX0 TX0 8
theorem nmX0 : ∀ a, a < 8 → ∀ b, b < 8 → a ≠ b → (TX0 a).2.1 ≠ (TX0 b).2.1 := by decide +kernel
theorem tyX0_ok : ∀ k, k < 8 → parseFieldDescriptor (TX0 k).2.2.1 = some (tyX0 k) := by decide +kernel
abbrev cX0_init : ByteArray := prog_1_method_1_code
def yX0_init : MethodName := ⟨RX0, "<init>", "()V"⟩
abbrev cX0_wall : ByteArray := prog_1_method_2_code
def yX0_wall : MethodName := ⟨RX0, "wall", "(IZ)Z"⟩
abbrev cX0_block : ByteArray := prog_1_method_3_code
def yX0_block : MethodName := ⟨RX0, "block", "(IZ)I"⟩
abbrev cX0_isWall : ByteArray := prog_1_method_4_code
def yX0_isWall : MethodName := ⟨RX0, "isWall", "(I)Z"⟩
abbrev cX0_distance : ByteArray := prog_1_method_6_code
def yX0_distance : MethodName := ⟨RX0, "distance", "(II)I"⟩
abbrev cX0_isFree : ByteArray := prog_1_method_5_code
def yX0_isFree : MethodName := ⟨RX0, "isFree", "(I)Z"⟩
abbrev cX0_search : ByteArray := prog_1_method_21_code
def yX0_search : MethodName := ⟨RX0, "search", "(II)I"⟩
abbrev cX0_offer : ByteArray := prog_1_method_19_code
def yX0_offer : MethodName := ⟨RX0, "offer", "(III)V"⟩
abbrev cX0_takeBest : ByteArray := prog_1_method_20_code
def yX0_takeBest : MethodName := ⟨RX0, "takeBest", "()I"⟩
abbrev cX0_atLeast : ByteArray := prog_1_method_15_code
def yX0_atLeast : MethodName := ⟨RX0, "atLeast", "(II)I"⟩
abbrev cX0_goOn : ByteArray := prog_1_method_22_code
def yX0_goOn : MethodName := ⟨RX0, "goOn", "(I)V"⟩
abbrev cX0_jumpDiagonal : ByteArray := prog_1_method_18_code
def yX0_jumpDiagonal : MethodName := ⟨RX0, "jumpDiagonal", "(III)I"⟩
abbrev cX0_freeBeside : ByteArray := prog_1_method_12_code
def yX0_freeBeside : MethodName := ⟨RX0, "freeBeside", "(III)Z"⟩
abbrev cX0_forced : ByteArray := prog_1_method_16_code
def yX0_forced : MethodName := ⟨RX0, "forced", "(III)I"⟩
abbrev cX0_wallBeside : ByteArray := prog_1_method_13_code
def yX0_wallBeside : MethodName := ⟨RX0, "wallBeside", "(III)Z"⟩
abbrev cX0_bitOf : ByteArray := prog_1_method_14_code
def yX0_bitOf : MethodName := ⟨RX0, "bitOf", "(II)I"⟩
abbrev cX0_jumpStraight : ByteArray := prog_1_method_17_code
def yX0_jumpStraight : MethodName := ⟨RX0, "jumpStraight", "(III)I"⟩
abbrev cX0_nearer : ByteArray := prog_1_method_7_code
def yX0_nearer : MethodName := ⟨RX0, "nearer", "(III)I"⟩
abbrev cX0_vital : ByteArray := prog_1_method_8_code
def yX0_vital : MethodName := ⟨RX0, "vital", "(III)Z"⟩
abbrev cX0_farthest : ByteArray := prog_1_method_9_code
def yX0_farthest : MethodName := ⟨RX0, "farthest", "(I)I"⟩
abbrev cX0_reach : ByteArray := prog_1_method_10_code
def yX0_reach : MethodName := ⟨RX0, "reach", "(I)I"⟩
abbrev cX0_at : ByteArray := prog_1_method_11_code
def yX0_at : MethodName := ⟨RX0, "at", "(II)I"⟩
theorem q17 : (Jvm.Cond.initialized "JumpPoints") ∈ lw_all := lw_g (lw_at lw_m0 1 rfl) rfl
theorem q20 : (Jvm.Cond.instantiable "JumpPoints" (8 : Nat)) ∈ lw_all := lw_g (lw_at lw_m0 4 rfl) rfl
theorem q22 : (Jvm.Cond.instanceMethod ({ cls := "JumpPoints", name := "<init>", desc := "()V" } : Jvm.MethodName)) ∈ lw_all := lw_g (lw_at lw_m0 6 rfl) rfl
theorem q23 : (Jvm.Cond.code ({ cls := "JumpPoints", name := "<init>", desc := "()V" } : Jvm.MethodName) prog_1_method_1_code (1 : Nat) (Option.none : Option Jvm.ClassFile.FieldType)) ∈ lw_all := lw_g (lw_at lw_m0 7 rfl) rfl
theorem q24 : (Jvm.Cond.methodLink "JumpPoints" (1 : Nat) ({ cls := "java/lang/Object", name := "<init>", desc := "()V" } : Jvm.MethodName)) ∈ lw_all := lw_g (lw_at lw_m0 8 rfl) rfl
theorem q27 : (Jvm.Cond.fieldLink "JumpPoints" (7 : Nat) "JumpPoints" "walls" "[Z") ∈ lw_all := lw_g (lw_at lw_m0 11 rfl) rfl
theorem q28 : (Jvm.Cond.fieldLink "JumpPoints" (13 : Nat) "JumpPoints" "length" "[S") ∈ lw_all := lw_g (lw_at lw_m0 12 rfl) rfl
theorem q29 : (Jvm.Cond.fieldLink "JumpPoints" (17 : Nat) "JumpPoints" "directions" "[S") ∈ lw_all := lw_g (lw_at lw_m0 13 rfl) rfl
theorem q30 : (Jvm.Cond.fieldLink "JumpPoints" (20 : Nat) "JumpPoints" "mark" "[B") ∈ lw_all := lw_g (lw_at lw_m0 14 rfl) rfl
theorem q31 : (Jvm.Cond.fieldLink "JumpPoints" (24 : Nat) "JumpPoints" "open" "[S") ∈ lw_all := lw_g (lw_at lw_m0 15 rfl) rfl
theorem q32 : (Jvm.Cond.fieldLink "JumpPoints" (59 : Nat) "JumpPoints" "openCount" "I") ∈ lw_all := lw_g (lw_at lw_m0 16 rfl) rfl
theorem q33 : (Jvm.Cond.fieldLink "JumpPoints" (49 : Nat) "JumpPoints" "goal" "I") ∈ lw_all := lw_g (lw_at lw_m0 17 rfl) rfl
theorem q34 : (Jvm.Cond.fieldLink "JumpPoints" (45 : Nat) "JumpPoints" "landed" "I") ∈ lw_all := lw_g (lw_at lw_m0 18 rfl) rfl
theorem q35 : (Jvm.Cond.laysFinal "JumpPoints" "JumpPoints" "walls" "[Z") ∈ lw_all := lw_g (lw_at lw_m0 19 rfl) rfl
theorem q36 : (Jvm.Cond.soleField "JumpPoints" "walls") ∈ lw_all := lw_g (lw_at lw_m0 20 rfl) rfl
theorem q37 : (Jvm.Cond.laysFinal "JumpPoints" "JumpPoints" "length" "[S") ∈ lw_all := lw_g (lw_at lw_m0 21 rfl) rfl
theorem q38 : (Jvm.Cond.soleField "JumpPoints" "length") ∈ lw_all := lw_g (lw_at lw_m0 22 rfl) rfl
theorem q39 : (Jvm.Cond.laysFinal "JumpPoints" "JumpPoints" "directions" "[S") ∈ lw_all := lw_g (lw_at lw_m0 23 rfl) rfl
theorem q40 : (Jvm.Cond.soleField "JumpPoints" "directions") ∈ lw_all := lw_g (lw_at lw_m0 24 rfl) rfl
theorem q41 : (Jvm.Cond.laysFinal "JumpPoints" "JumpPoints" "mark" "[B") ∈ lw_all := lw_g (lw_at lw_m0 25 rfl) rfl
theorem q42 : (Jvm.Cond.soleField "JumpPoints" "mark") ∈ lw_all := lw_g (lw_at lw_m0 26 rfl) rfl
theorem q43 : (Jvm.Cond.laysFinal "JumpPoints" "JumpPoints" "open" "[S") ∈ lw_all := lw_g (lw_at lw_m0 27 rfl) rfl
theorem q44 : (Jvm.Cond.soleField "JumpPoints" "open") ∈ lw_all := lw_g (lw_at lw_m0 28 rfl) rfl
theorem q45 : (Jvm.Cond.lays "JumpPoints" "JumpPoints" "openCount" "I") ∈ lw_all := lw_g (lw_at lw_m0 29 rfl) rfl
theorem q46 : (Jvm.Cond.soleField "JumpPoints" "openCount") ∈ lw_all := lw_g (lw_at lw_m0 30 rfl) rfl
theorem q47 : (Jvm.Cond.lays "JumpPoints" "JumpPoints" "goal" "I") ∈ lw_all := lw_g (lw_at lw_m0 31 rfl) rfl
theorem q48 : (Jvm.Cond.soleField "JumpPoints" "goal") ∈ lw_all := lw_g (lw_at lw_m0 32 rfl) rfl
theorem q49 : (Jvm.Cond.lays "JumpPoints" "JumpPoints" "landed" "I") ∈ lw_all := lw_g (lw_at lw_m0 33 rfl) rfl
theorem q50 : (Jvm.Cond.soleField "JumpPoints" "landed") ∈ lw_all := lw_g (lw_at lw_m0 34 rfl) rfl
theorem q51 : (Jvm.Cond.superclass "JumpPoints" "java/lang/Object") ∈ lw_all := lw_g (lw_at lw_m0 35 rfl) rfl
theorem q56 : (Jvm.Cond.instanceMethod ({ cls := "JumpPoints", name := "wall", desc := "(IZ)Z" } : Jvm.MethodName)) ∈ lw_all := lw_g (lw_at lw_m0 40 rfl) rfl
theorem q57 : (Jvm.Cond.selects "JumpPoints" ({ cls := "JumpPoints", name := "wall", desc := "(IZ)Z" } : Jvm.MethodName) ({ cls := "JumpPoints", name := "wall", desc := "(IZ)Z" } : Jvm.MethodName)) ∈ lw_all := lw_g (lw_at lw_m0 41 rfl) rfl
theorem q58 : (Jvm.Cond.code ({ cls := "JumpPoints", name := "wall", desc := "(IZ)Z" } : Jvm.MethodName) prog_1_method_2_code (3 : Nat) (Option.some Jvm.ClassFile.FieldType.boolean)) ∈ lw_all := lw_g (lw_at lw_m0 42 rfl) rfl
theorem q60 : (Jvm.Cond.instanceMethod ({ cls := "JumpPoints", name := "block", desc := "(IZ)I" } : Jvm.MethodName)) ∈ lw_all := lw_g (lw_at lw_m0 44 rfl) rfl
theorem q61 : (Jvm.Cond.selects "JumpPoints" ({ cls := "JumpPoints", name := "block", desc := "(IZ)I" } : Jvm.MethodName) ({ cls := "JumpPoints", name := "block", desc := "(IZ)I" } : Jvm.MethodName)) ∈ lw_all := lw_g (lw_at lw_m0 45 rfl) rfl
theorem q62 : (Jvm.Cond.code ({ cls := "JumpPoints", name := "block", desc := "(IZ)I" } : Jvm.MethodName) prog_1_method_3_code (10 : Nat) (Option.some Jvm.ClassFile.FieldType.int)) ∈ lw_all := lw_g (lw_at lw_m0 46 rfl) rfl
theorem q64 : (Jvm.Cond.instanceMethod ({ cls := "JumpPoints", name := "isWall", desc := "(I)Z" } : Jvm.MethodName)) ∈ lw_all := lw_g (lw_at lw_m0 48 rfl) rfl
theorem q65 : (Jvm.Cond.selects "JumpPoints" ({ cls := "JumpPoints", name := "isWall", desc := "(I)Z" } : Jvm.MethodName) ({ cls := "JumpPoints", name := "isWall", desc := "(I)Z" } : Jvm.MethodName)) ∈ lw_all := lw_g (lw_at lw_m0 49 rfl) rfl
theorem q66 : (Jvm.Cond.code ({ cls := "JumpPoints", name := "isWall", desc := "(I)Z" } : Jvm.MethodName) prog_1_method_4_code (2 : Nat) (Option.some Jvm.ClassFile.FieldType.boolean)) ∈ lw_all := lw_g (lw_at lw_m0 50 rfl) rfl
theorem q68 : (Jvm.Cond.instanceMethod ({ cls := "JumpPoints", name := "distance", desc := "(II)I" } : Jvm.MethodName)) ∈ lw_all := lw_g (lw_at lw_m0 52 rfl) rfl
theorem q69 : (Jvm.Cond.selects "JumpPoints" ({ cls := "JumpPoints", name := "distance", desc := "(II)I" } : Jvm.MethodName) ({ cls := "JumpPoints", name := "distance", desc := "(II)I" } : Jvm.MethodName)) ∈ lw_all := lw_g (lw_at lw_m0 53 rfl) rfl
theorem q70 : (Jvm.Cond.code ({ cls := "JumpPoints", name := "distance", desc := "(II)I" } : Jvm.MethodName) prog_1_method_6_code (3 : Nat) (Option.some Jvm.ClassFile.FieldType.int)) ∈ lw_all := lw_g (lw_at lw_m0 54 rfl) rfl
theorem q71 : (Jvm.Cond.methodLink "JumpPoints" (27 : Nat) ({ cls := "JumpPoints", name := "isFree", desc := "(I)Z" } : Jvm.MethodName)) ∈ lw_all := lw_g (lw_at lw_m0 55 rfl) rfl
theorem q72 : (Jvm.Cond.privateMethod ({ cls := "JumpPoints", name := "isFree", desc := "(I)Z" } : Jvm.MethodName)) ∈ lw_tbl := lw_at lw_m0 56 rfl
theorem q73 : (Jvm.Cond.instanceMethod ({ cls := "JumpPoints", name := "isFree", desc := "(I)Z" } : Jvm.MethodName)) ∈ lw_all := lw_g (lw_at lw_m0 57 rfl) rfl
theorem q74 : (Jvm.Cond.code ({ cls := "JumpPoints", name := "isFree", desc := "(I)Z" } : Jvm.MethodName) prog_1_method_5_code (2 : Nat) (Option.some Jvm.ClassFile.FieldType.boolean)) ∈ lw_all := lw_g (lw_at lw_m0 58 rfl) rfl
theorem q75 : (Jvm.Cond.methodLink "JumpPoints" (31 : Nat) ({ cls := "JumpPoints", name := "search", desc := "(II)I" } : Jvm.MethodName)) ∈ lw_all := lw_g (lw_at lw_m0 59 rfl) rfl
theorem q76 : (Jvm.Cond.privateMethod ({ cls := "JumpPoints", name := "search", desc := "(II)I" } : Jvm.MethodName)) ∈ lw_tbl := lw_at lw_m0 60 rfl
theorem q77 : (Jvm.Cond.instanceMethod ({ cls := "JumpPoints", name := "search", desc := "(II)I" } : Jvm.MethodName)) ∈ lw_all := lw_g (lw_at lw_m0 61 rfl) rfl
theorem q78 : (Jvm.Cond.code ({ cls := "JumpPoints", name := "search", desc := "(II)I" } : Jvm.MethodName) prog_1_method_21_code (4 : Nat) (Option.some Jvm.ClassFile.FieldType.int)) ∈ lw_all := lw_g (lw_at lw_m0 62 rfl) rfl
theorem q79 : (Jvm.Cond.methodLink "JumpPoints" (65 : Nat) ({ cls := "JumpPoints", name := "offer", desc := "(III)V" } : Jvm.MethodName)) ∈ lw_all := lw_g (lw_at lw_m0 63 rfl) rfl
theorem q80 : (Jvm.Cond.privateMethod ({ cls := "JumpPoints", name := "offer", desc := "(III)V" } : Jvm.MethodName)) ∈ lw_tbl := lw_at lw_m0 64 rfl
theorem q81 : (Jvm.Cond.instanceMethod ({ cls := "JumpPoints", name := "offer", desc := "(III)V" } : Jvm.MethodName)) ∈ lw_all := lw_g (lw_at lw_m0 65 rfl) rfl
theorem q82 : (Jvm.Cond.code ({ cls := "JumpPoints", name := "offer", desc := "(III)V" } : Jvm.MethodName) prog_1_method_19_code (4 : Nat) (Option.none : Option Jvm.ClassFile.FieldType)) ∈ lw_all := lw_g (lw_at lw_m0 66 rfl) rfl
theorem q83 : (Jvm.Cond.methodLink "JumpPoints" (69 : Nat) ({ cls := "JumpPoints", name := "takeBest", desc := "()I" } : Jvm.MethodName)) ∈ lw_all := lw_g (lw_at lw_m0 67 rfl) rfl
theorem q84 : (Jvm.Cond.privateMethod ({ cls := "JumpPoints", name := "takeBest", desc := "()I" } : Jvm.MethodName)) ∈ lw_tbl := lw_at lw_m0 68 rfl
theorem q85 : (Jvm.Cond.instanceMethod ({ cls := "JumpPoints", name := "takeBest", desc := "()I" } : Jvm.MethodName)) ∈ lw_all := lw_g (lw_at lw_m0 69 rfl) rfl
theorem q86 : (Jvm.Cond.code ({ cls := "JumpPoints", name := "takeBest", desc := "()I" } : Jvm.MethodName) prog_1_method_20_code (5 : Nat) (Option.some Jvm.ClassFile.FieldType.int)) ∈ lw_all := lw_g (lw_at lw_m0 70 rfl) rfl
theorem q87 : (Jvm.Cond.methodLink "JumpPoints" (62 : Nat) ({ cls := "JumpPoints", name := "atLeast", desc := "(II)I" } : Jvm.MethodName)) ∈ lw_all := lw_g (lw_at lw_m0 71 rfl) rfl
theorem q88 : (Jvm.Cond.privateMethod ({ cls := "JumpPoints", name := "atLeast", desc := "(II)I" } : Jvm.MethodName)) ∈ lw_tbl := lw_at lw_m0 72 rfl
theorem q89 : (Jvm.Cond.instanceMethod ({ cls := "JumpPoints", name := "atLeast", desc := "(II)I" } : Jvm.MethodName)) ∈ lw_all := lw_g (lw_at lw_m0 73 rfl) rfl
theorem q90 : (Jvm.Cond.code ({ cls := "JumpPoints", name := "atLeast", desc := "(II)I" } : Jvm.MethodName) prog_1_method_15_code (5 : Nat) (Option.some Jvm.ClassFile.FieldType.int)) ∈ lw_all := lw_g (lw_at lw_m0 74 rfl) rfl
theorem q91 : (Jvm.Cond.methodLink "JumpPoints" (73 : Nat) ({ cls := "JumpPoints", name := "goOn", desc := "(I)V" } : Jvm.MethodName)) ∈ lw_all := lw_g (lw_at lw_m0 75 rfl) rfl
theorem q92 : (Jvm.Cond.privateMethod ({ cls := "JumpPoints", name := "goOn", desc := "(I)V" } : Jvm.MethodName)) ∈ lw_tbl := lw_at lw_m0 76 rfl
theorem q93 : (Jvm.Cond.instanceMethod ({ cls := "JumpPoints", name := "goOn", desc := "(I)V" } : Jvm.MethodName)) ∈ lw_all := lw_g (lw_at lw_m0 77 rfl) rfl
theorem q94 : (Jvm.Cond.code ({ cls := "JumpPoints", name := "goOn", desc := "(I)V" } : Jvm.MethodName) prog_1_method_22_code (10 : Nat) (Option.none : Option Jvm.ClassFile.FieldType)) ∈ lw_all := lw_g (lw_at lw_m0 78 rfl) rfl
theorem q95 : (Jvm.Cond.methodLink "JumpPoints" (77 : Nat) ({ cls := "JumpPoints", name := "jumpDiagonal", desc := "(III)I" } : Jvm.MethodName)) ∈ lw_all := lw_g (lw_at lw_m0 79 rfl) rfl
theorem q96 : (Jvm.Cond.privateMethod ({ cls := "JumpPoints", name := "jumpDiagonal", desc := "(III)I" } : Jvm.MethodName)) ∈ lw_tbl := lw_at lw_m0 80 rfl
theorem q97 : (Jvm.Cond.instanceMethod ({ cls := "JumpPoints", name := "jumpDiagonal", desc := "(III)I" } : Jvm.MethodName)) ∈ lw_all := lw_g (lw_at lw_m0 81 rfl) rfl
theorem q98 : (Jvm.Cond.code ({ cls := "JumpPoints", name := "jumpDiagonal", desc := "(III)I" } : Jvm.MethodName) prog_1_method_18_code (7 : Nat) (Option.some Jvm.ClassFile.FieldType.int)) ∈ lw_all := lw_g (lw_at lw_m0 82 rfl) rfl
theorem q99 : (Jvm.Cond.methodLink "JumpPoints" (35 : Nat) ({ cls := "JumpPoints", name := "freeBeside", desc := "(III)Z" } : Jvm.MethodName)) ∈ lw_all := lw_g (lw_at lw_m0 83 rfl) rfl
theorem q100 : (Jvm.Cond.privateMethod ({ cls := "JumpPoints", name := "freeBeside", desc := "(III)Z" } : Jvm.MethodName)) ∈ lw_tbl := lw_at lw_m0 84 rfl
theorem q101 : (Jvm.Cond.instanceMethod ({ cls := "JumpPoints", name := "freeBeside", desc := "(III)Z" } : Jvm.MethodName)) ∈ lw_all := lw_g (lw_at lw_m0 85 rfl) rfl
theorem q102 : (Jvm.Cond.code ({ cls := "JumpPoints", name := "freeBeside", desc := "(III)Z" } : Jvm.MethodName) prog_1_method_12_code (6 : Nat) (Option.some Jvm.ClassFile.FieldType.boolean)) ∈ lw_all := lw_g (lw_at lw_m0 86 rfl) rfl
theorem q103 : (Jvm.Cond.methodLink "JumpPoints" (52 : Nat) ({ cls := "JumpPoints", name := "forced", desc := "(III)I" } : Jvm.MethodName)) ∈ lw_all := lw_g (lw_at lw_m0 87 rfl) rfl
theorem q104 : (Jvm.Cond.privateMethod ({ cls := "JumpPoints", name := "forced", desc := "(III)I" } : Jvm.MethodName)) ∈ lw_tbl := lw_at lw_m0 88 rfl
theorem q105 : (Jvm.Cond.instanceMethod ({ cls := "JumpPoints", name := "forced", desc := "(III)I" } : Jvm.MethodName)) ∈ lw_all := lw_g (lw_at lw_m0 89 rfl) rfl
theorem q106 : (Jvm.Cond.code ({ cls := "JumpPoints", name := "forced", desc := "(III)I" } : Jvm.MethodName) prog_1_method_16_code (8 : Nat) (Option.some Jvm.ClassFile.FieldType.int)) ∈ lw_all := lw_g (lw_at lw_m0 90 rfl) rfl
theorem q107 : (Jvm.Cond.methodLink "JumpPoints" (39 : Nat) ({ cls := "JumpPoints", name := "wallBeside", desc := "(III)Z" } : Jvm.MethodName)) ∈ lw_all := lw_g (lw_at lw_m0 91 rfl) rfl
theorem q108 : (Jvm.Cond.privateMethod ({ cls := "JumpPoints", name := "wallBeside", desc := "(III)Z" } : Jvm.MethodName)) ∈ lw_tbl := lw_at lw_m0 92 rfl
theorem q109 : (Jvm.Cond.instanceMethod ({ cls := "JumpPoints", name := "wallBeside", desc := "(III)Z" } : Jvm.MethodName)) ∈ lw_all := lw_g (lw_at lw_m0 93 rfl) rfl
theorem q110 : (Jvm.Cond.code ({ cls := "JumpPoints", name := "wallBeside", desc := "(III)Z" } : Jvm.MethodName) prog_1_method_13_code (4 : Nat) (Option.some Jvm.ClassFile.FieldType.boolean)) ∈ lw_all := lw_g (lw_at lw_m0 94 rfl) rfl
theorem q111 : (Jvm.Cond.methodLink "JumpPoints" (42 : Nat) ({ cls := "JumpPoints", name := "bitOf", desc := "(II)I" } : Jvm.MethodName)) ∈ lw_all := lw_g (lw_at lw_m0 95 rfl) rfl
theorem q112 : (Jvm.Cond.privateMethod ({ cls := "JumpPoints", name := "bitOf", desc := "(II)I" } : Jvm.MethodName)) ∈ lw_tbl := lw_at lw_m0 96 rfl
theorem q113 : (Jvm.Cond.instanceMethod ({ cls := "JumpPoints", name := "bitOf", desc := "(II)I" } : Jvm.MethodName)) ∈ lw_all := lw_g (lw_at lw_m0 97 rfl) rfl
theorem q114 : (Jvm.Cond.code ({ cls := "JumpPoints", name := "bitOf", desc := "(II)I" } : Jvm.MethodName) prog_1_method_14_code (3 : Nat) (Option.some Jvm.ClassFile.FieldType.int)) ∈ lw_all := lw_g (lw_at lw_m0 98 rfl) rfl
theorem q115 : (Jvm.Cond.methodLink "JumpPoints" (56 : Nat) ({ cls := "JumpPoints", name := "jumpStraight", desc := "(III)I" } : Jvm.MethodName)) ∈ lw_all := lw_g (lw_at lw_m0 99 rfl) rfl
theorem q116 : (Jvm.Cond.privateMethod ({ cls := "JumpPoints", name := "jumpStraight", desc := "(III)I" } : Jvm.MethodName)) ∈ lw_tbl := lw_at lw_m0 100 rfl
theorem q117 : (Jvm.Cond.instanceMethod ({ cls := "JumpPoints", name := "jumpStraight", desc := "(III)I" } : Jvm.MethodName)) ∈ lw_all := lw_g (lw_at lw_m0 101 rfl) rfl
theorem q118 : (Jvm.Cond.code ({ cls := "JumpPoints", name := "jumpStraight", desc := "(III)I" } : Jvm.MethodName) prog_1_method_17_code (6 : Nat) (Option.some Jvm.ClassFile.FieldType.int)) ∈ lw_all := lw_g (lw_at lw_m0 102 rfl) rfl
theorem q120 : (Jvm.Cond.instanceMethod ({ cls := "JumpPoints", name := "nearer", desc := "(III)I" } : Jvm.MethodName)) ∈ lw_all := lw_g (lw_at lw_m0 104 rfl) rfl
theorem q121 : (Jvm.Cond.selects "JumpPoints" ({ cls := "JumpPoints", name := "nearer", desc := "(III)I" } : Jvm.MethodName) ({ cls := "JumpPoints", name := "nearer", desc := "(III)I" } : Jvm.MethodName)) ∈ lw_all := lw_g (lw_at lw_m0 105 rfl) rfl
theorem q122 : (Jvm.Cond.code ({ cls := "JumpPoints", name := "nearer", desc := "(III)I" } : Jvm.MethodName) prog_1_method_7_code (6 : Nat) (Option.some Jvm.ClassFile.FieldType.int)) ∈ lw_all := lw_g (lw_at lw_m0 106 rfl) rfl
theorem q124 : (Jvm.Cond.instanceMethod ({ cls := "JumpPoints", name := "vital", desc := "(III)Z" } : Jvm.MethodName)) ∈ lw_all := lw_g (lw_at lw_m0 108 rfl) rfl
theorem q125 : (Jvm.Cond.selects "JumpPoints" ({ cls := "JumpPoints", name := "vital", desc := "(III)Z" } : Jvm.MethodName) ({ cls := "JumpPoints", name := "vital", desc := "(III)Z" } : Jvm.MethodName)) ∈ lw_all := lw_g (lw_at lw_m0 109 rfl) rfl
theorem q126 : (Jvm.Cond.code ({ cls := "JumpPoints", name := "vital", desc := "(III)Z" } : Jvm.MethodName) prog_1_method_8_code (6 : Nat) (Option.some Jvm.ClassFile.FieldType.boolean)) ∈ lw_all := lw_g (lw_at lw_m0 110 rfl) rfl
theorem q128 : (Jvm.Cond.instanceMethod ({ cls := "JumpPoints", name := "farthest", desc := "(I)I" } : Jvm.MethodName)) ∈ lw_all := lw_g (lw_at lw_m0 112 rfl) rfl
theorem q129 : (Jvm.Cond.selects "JumpPoints" ({ cls := "JumpPoints", name := "farthest", desc := "(I)I" } : Jvm.MethodName) ({ cls := "JumpPoints", name := "farthest", desc := "(I)I" } : Jvm.MethodName)) ∈ lw_all := lw_g (lw_at lw_m0 113 rfl) rfl
theorem q130 : (Jvm.Cond.code ({ cls := "JumpPoints", name := "farthest", desc := "(I)I" } : Jvm.MethodName) prog_1_method_9_code (5 : Nat) (Option.some Jvm.ClassFile.FieldType.int)) ∈ lw_all := lw_g (lw_at lw_m0 114 rfl) rfl
theorem q132 : (Jvm.Cond.instanceMethod ({ cls := "JumpPoints", name := "reach", desc := "(I)I" } : Jvm.MethodName)) ∈ lw_all := lw_g (lw_at lw_m0 116 rfl) rfl
theorem q133 : (Jvm.Cond.selects "JumpPoints" ({ cls := "JumpPoints", name := "reach", desc := "(I)I" } : Jvm.MethodName) ({ cls := "JumpPoints", name := "reach", desc := "(I)I" } : Jvm.MethodName)) ∈ lw_all := lw_g (lw_at lw_m0 117 rfl) rfl
theorem q134 : (Jvm.Cond.code ({ cls := "JumpPoints", name := "reach", desc := "(I)I" } : Jvm.MethodName) prog_1_method_10_code (5 : Nat) (Option.some Jvm.ClassFile.FieldType.int)) ∈ lw_all := lw_g (lw_at lw_m0 118 rfl) rfl
theorem q136 : (Jvm.Cond.instanceMethod ({ cls := "JumpPoints", name := "at", desc := "(II)I" } : Jvm.MethodName)) ∈ lw_all := lw_g (lw_at lw_m0 120 rfl) rfl
theorem q137 : (Jvm.Cond.selects "JumpPoints" ({ cls := "JumpPoints", name := "at", desc := "(II)I" } : Jvm.MethodName) ({ cls := "JumpPoints", name := "at", desc := "(II)I" } : Jvm.MethodName)) ∈ lw_all := lw_g (lw_at lw_m0 121 rfl) rfl
theorem q138 : (Jvm.Cond.code ({ cls := "JumpPoints", name := "at", desc := "(II)I" } : Jvm.MethodName) prog_1_method_11_code (5 : Nat) (Option.some Jvm.ClassFile.FieldType.int)) ∈ lw_all := lw_g (lw_at lw_m0 122 rfl) rfl
theorem in_X0 : ∀ w ∈ wsX00, w ∈ lw_all := lw_in wsX00 [35, 37, 39, 41, 43, 45, 47, 49] (by decide +kernel) (by decide +kernel)

/-! JumpPointsModel -/
def RX1 : String := "JumpPointsModel"
def TX1 : u_T := fun k => match k with
  | 0 => ("JumpPointsModel", "walls", "[Z", false)
  | _ => ("JumpPointsModel", "far", "[I", false)
def tyX1 : Nat → FieldType := fun k => match k with
  | 0 => .array .boolean
  | _ => .array .int
abbrev wsX10 : List Cond := u_ws RX1 TX1 2
theorem nmX1 : ∀ a, a < 2 → ∀ b, b < 2 → a ≠ b → (TX1 a).2.1 ≠ (TX1 b).2.1 := by decide +kernel
theorem tyX1_ok : ∀ k, k < 2 → parseFieldDescriptor (TX1 k).2.2.1 = some (tyX1 k) := by decide +kernel
abbrev cX1_init : ByteArray := prog_3_method_1_code
def yX1_init : MethodName := ⟨RX1, "<init>", "()V"⟩
abbrev cX1_wall : ByteArray := prog_3_method_4_code
def yX1_wall : MethodName := ⟨RX1, "wall", "(IZ)Z"⟩
abbrev cX1_isCell : ByteArray := prog_3_method_2_code
def yX1_isCell : MethodName := ⟨RX1, "isCell", "(I)Z"⟩
abbrev cX1_block : ByteArray := prog_3_method_5_code
def yX1_block : MethodName := ⟨RX1, "block", "(IZ)I"⟩
abbrev cX1_isWall : ByteArray := prog_3_method_6_code
def yX1_isWall : MethodName := ⟨RX1, "isWall", "(I)Z"⟩
abbrev cX1_distance : ByteArray := prog_3_method_9_code
def yX1_distance : MethodName := ⟨RX1, "distance", "(II)I"⟩
abbrev cX1_isFree : ByteArray := prog_3_method_3_code
def yX1_isFree : MethodName := ⟨RX1, "isFree", "(I)Z"⟩
abbrev cX1_search : ByteArray := prog_3_method_8_code
def yX1_search : MethodName := ⟨RX1, "search", "(I)V"⟩
abbrev cX1_lower : ByteArray := prog_3_method_7_code
def yX1_lower : MethodName := ⟨RX1, "lower", "(I)Z"⟩
abbrev cX1_nearer : ByteArray := prog_3_method_10_code
def yX1_nearer : MethodName := ⟨RX1, "nearer", "(III)I"⟩
abbrev cX1_vital : ByteArray := prog_3_method_11_code
def yX1_vital : MethodName := ⟨RX1, "vital", "(III)Z"⟩
abbrev cX1_farthest : ByteArray := prog_3_method_12_code
def yX1_farthest : MethodName := ⟨RX1, "farthest", "(I)I"⟩
abbrev cX1_reach : ByteArray := prog_3_method_13_code
def yX1_reach : MethodName := ⟨RX1, "reach", "(I)I"⟩
abbrev cX1_at : ByteArray := prog_3_method_14_code
def yX1_at : MethodName := ⟨RX1, "at", "(II)I"⟩
theorem q18 : (Jvm.Cond.initialized "JumpPointsModel") ∈ lw_all := lw_g (lw_at lw_m0 2 rfl) rfl
theorem q140 : (Jvm.Cond.instantiable "JumpPointsModel" (2 : Nat)) ∈ lw_all := lw_g (lw_at lw_m0 124 rfl) rfl
theorem q142 : (Jvm.Cond.instanceMethod ({ cls := "JumpPointsModel", name := "<init>", desc := "()V" } : Jvm.MethodName)) ∈ lw_all := lw_g (lw_at lw_m0 126 rfl) rfl
theorem q143 : (Jvm.Cond.code ({ cls := "JumpPointsModel", name := "<init>", desc := "()V" } : Jvm.MethodName) prog_3_method_1_code (1 : Nat) (Option.none : Option Jvm.ClassFile.FieldType)) ∈ lw_all := lw_g (lw_at lw_m0 127 rfl) rfl
theorem q144 : (Jvm.Cond.methodLink "JumpPointsModel" (1 : Nat) ({ cls := "java/lang/Object", name := "<init>", desc := "()V" } : Jvm.MethodName)) ∈ lw_all := lw_g (lw_at lw_m0 128 rfl) rfl
theorem q145 : (Jvm.Cond.fieldLink "JumpPointsModel" (7 : Nat) "JumpPointsModel" "walls" "[Z") ∈ lw_all := lw_g (lw_at lw_m0 129 rfl) rfl
theorem q146 : (Jvm.Cond.fieldLink "JumpPointsModel" (13 : Nat) "JumpPointsModel" "far" "[I") ∈ lw_all := lw_g (lw_at lw_m0 130 rfl) rfl
theorem q147 : (Jvm.Cond.lays "JumpPointsModel" "JumpPointsModel" "walls" "[Z") ∈ lw_all := lw_g (lw_at lw_m0 131 rfl) rfl
theorem q148 : (Jvm.Cond.soleField "JumpPointsModel" "walls") ∈ lw_all := lw_g (lw_at lw_m0 132 rfl) rfl
theorem q149 : (Jvm.Cond.lays "JumpPointsModel" "JumpPointsModel" "far" "[I") ∈ lw_all := lw_g (lw_at lw_m0 133 rfl) rfl
theorem q150 : (Jvm.Cond.soleField "JumpPointsModel" "far") ∈ lw_all := lw_g (lw_at lw_m0 134 rfl) rfl
theorem q151 : (Jvm.Cond.superclass "JumpPointsModel" "java/lang/Object") ∈ lw_all := lw_g (lw_at lw_m0 135 rfl) rfl
theorem q154 : (Jvm.Cond.instanceMethod ({ cls := "JumpPointsModel", name := "wall", desc := "(IZ)Z" } : Jvm.MethodName)) ∈ lw_all := lw_g (lw_at lw_m0 138 rfl) rfl
theorem q155 : (Jvm.Cond.selects "JumpPointsModel" ({ cls := "JumpPointsModel", name := "wall", desc := "(IZ)Z" } : Jvm.MethodName) ({ cls := "JumpPointsModel", name := "wall", desc := "(IZ)Z" } : Jvm.MethodName)) ∈ lw_all := lw_g (lw_at lw_m0 139 rfl) rfl
theorem q156 : (Jvm.Cond.code ({ cls := "JumpPointsModel", name := "wall", desc := "(IZ)Z" } : Jvm.MethodName) prog_3_method_4_code (3 : Nat) (Option.some Jvm.ClassFile.FieldType.boolean)) ∈ lw_all := lw_g (lw_at lw_m0 140 rfl) rfl
theorem q157 : (Jvm.Cond.methodLink "JumpPointsModel" (17 : Nat) ({ cls := "JumpPointsModel", name := "isCell", desc := "(I)Z" } : Jvm.MethodName)) ∈ lw_all := lw_g (lw_at lw_m0 141 rfl) rfl
theorem q158 : (Jvm.Cond.privateMethod ({ cls := "JumpPointsModel", name := "isCell", desc := "(I)Z" } : Jvm.MethodName)) ∈ lw_tbl := lw_at lw_m0 142 rfl
theorem q159 : (Jvm.Cond.instanceMethod ({ cls := "JumpPointsModel", name := "isCell", desc := "(I)Z" } : Jvm.MethodName)) ∈ lw_all := lw_g (lw_at lw_m0 143 rfl) rfl
theorem q160 : (Jvm.Cond.code ({ cls := "JumpPointsModel", name := "isCell", desc := "(I)Z" } : Jvm.MethodName) prog_3_method_2_code (2 : Nat) (Option.some Jvm.ClassFile.FieldType.boolean)) ∈ lw_all := lw_g (lw_at lw_m0 144 rfl) rfl
theorem q162 : (Jvm.Cond.instanceMethod ({ cls := "JumpPointsModel", name := "block", desc := "(IZ)I" } : Jvm.MethodName)) ∈ lw_all := lw_g (lw_at lw_m0 146 rfl) rfl
theorem q163 : (Jvm.Cond.selects "JumpPointsModel" ({ cls := "JumpPointsModel", name := "block", desc := "(IZ)I" } : Jvm.MethodName) ({ cls := "JumpPointsModel", name := "block", desc := "(IZ)I" } : Jvm.MethodName)) ∈ lw_all := lw_g (lw_at lw_m0 147 rfl) rfl
theorem q164 : (Jvm.Cond.code ({ cls := "JumpPointsModel", name := "block", desc := "(IZ)I" } : Jvm.MethodName) prog_3_method_5_code (10 : Nat) (Option.some Jvm.ClassFile.FieldType.int)) ∈ lw_all := lw_g (lw_at lw_m0 148 rfl) rfl
theorem q166 : (Jvm.Cond.instanceMethod ({ cls := "JumpPointsModel", name := "isWall", desc := "(I)Z" } : Jvm.MethodName)) ∈ lw_all := lw_g (lw_at lw_m0 150 rfl) rfl
theorem q167 : (Jvm.Cond.selects "JumpPointsModel" ({ cls := "JumpPointsModel", name := "isWall", desc := "(I)Z" } : Jvm.MethodName) ({ cls := "JumpPointsModel", name := "isWall", desc := "(I)Z" } : Jvm.MethodName)) ∈ lw_all := lw_g (lw_at lw_m0 151 rfl) rfl
theorem q168 : (Jvm.Cond.code ({ cls := "JumpPointsModel", name := "isWall", desc := "(I)Z" } : Jvm.MethodName) prog_3_method_6_code (2 : Nat) (Option.some Jvm.ClassFile.FieldType.boolean)) ∈ lw_all := lw_g (lw_at lw_m0 152 rfl) rfl
theorem q170 : (Jvm.Cond.instanceMethod ({ cls := "JumpPointsModel", name := "distance", desc := "(II)I" } : Jvm.MethodName)) ∈ lw_all := lw_g (lw_at lw_m0 154 rfl) rfl
theorem q171 : (Jvm.Cond.selects "JumpPointsModel" ({ cls := "JumpPointsModel", name := "distance", desc := "(II)I" } : Jvm.MethodName) ({ cls := "JumpPointsModel", name := "distance", desc := "(II)I" } : Jvm.MethodName)) ∈ lw_all := lw_g (lw_at lw_m0 155 rfl) rfl
theorem q172 : (Jvm.Cond.code ({ cls := "JumpPointsModel", name := "distance", desc := "(II)I" } : Jvm.MethodName) prog_3_method_9_code (3 : Nat) (Option.some Jvm.ClassFile.FieldType.int)) ∈ lw_all := lw_g (lw_at lw_m0 156 rfl) rfl
theorem q173 : (Jvm.Cond.methodLink "JumpPointsModel" (24 : Nat) ({ cls := "JumpPointsModel", name := "isFree", desc := "(I)Z" } : Jvm.MethodName)) ∈ lw_all := lw_g (lw_at lw_m0 157 rfl) rfl
theorem q174 : (Jvm.Cond.privateMethod ({ cls := "JumpPointsModel", name := "isFree", desc := "(I)Z" } : Jvm.MethodName)) ∈ lw_tbl := lw_at lw_m0 158 rfl
theorem q175 : (Jvm.Cond.instanceMethod ({ cls := "JumpPointsModel", name := "isFree", desc := "(I)Z" } : Jvm.MethodName)) ∈ lw_all := lw_g (lw_at lw_m0 159 rfl) rfl
theorem q176 : (Jvm.Cond.code ({ cls := "JumpPointsModel", name := "isFree", desc := "(I)Z" } : Jvm.MethodName) prog_3_method_3_code (2 : Nat) (Option.some Jvm.ClassFile.FieldType.boolean)) ∈ lw_all := lw_g (lw_at lw_m0 160 rfl) rfl
theorem q177 : (Jvm.Cond.methodLink "JumpPointsModel" (27 : Nat) ({ cls := "JumpPointsModel", name := "search", desc := "(I)V" } : Jvm.MethodName)) ∈ lw_all := lw_g (lw_at lw_m0 161 rfl) rfl
theorem q178 : (Jvm.Cond.privateMethod ({ cls := "JumpPointsModel", name := "search", desc := "(I)V" } : Jvm.MethodName)) ∈ lw_tbl := lw_at lw_m0 162 rfl
theorem q179 : (Jvm.Cond.instanceMethod ({ cls := "JumpPointsModel", name := "search", desc := "(I)V" } : Jvm.MethodName)) ∈ lw_all := lw_g (lw_at lw_m0 163 rfl) rfl
theorem q180 : (Jvm.Cond.code ({ cls := "JumpPointsModel", name := "search", desc := "(I)V" } : Jvm.MethodName) prog_3_method_8_code (5 : Nat) (Option.none : Option Jvm.ClassFile.FieldType)) ∈ lw_all := lw_g (lw_at lw_m0 164 rfl) rfl
theorem q181 : (Jvm.Cond.methodLink "JumpPointsModel" (21 : Nat) ({ cls := "JumpPointsModel", name := "lower", desc := "(I)Z" } : Jvm.MethodName)) ∈ lw_all := lw_g (lw_at lw_m0 165 rfl) rfl
theorem q182 : (Jvm.Cond.privateMethod ({ cls := "JumpPointsModel", name := "lower", desc := "(I)Z" } : Jvm.MethodName)) ∈ lw_tbl := lw_at lw_m0 166 rfl
theorem q183 : (Jvm.Cond.instanceMethod ({ cls := "JumpPointsModel", name := "lower", desc := "(I)Z" } : Jvm.MethodName)) ∈ lw_all := lw_g (lw_at lw_m0 167 rfl) rfl
theorem q184 : (Jvm.Cond.code ({ cls := "JumpPointsModel", name := "lower", desc := "(I)Z" } : Jvm.MethodName) prog_3_method_7_code (8 : Nat) (Option.some Jvm.ClassFile.FieldType.boolean)) ∈ lw_all := lw_g (lw_at lw_m0 168 rfl) rfl
theorem q186 : (Jvm.Cond.instanceMethod ({ cls := "JumpPointsModel", name := "nearer", desc := "(III)I" } : Jvm.MethodName)) ∈ lw_all := lw_g (lw_at lw_m0 170 rfl) rfl
theorem q187 : (Jvm.Cond.selects "JumpPointsModel" ({ cls := "JumpPointsModel", name := "nearer", desc := "(III)I" } : Jvm.MethodName) ({ cls := "JumpPointsModel", name := "nearer", desc := "(III)I" } : Jvm.MethodName)) ∈ lw_all := lw_g (lw_at lw_m0 171 rfl) rfl
theorem q188 : (Jvm.Cond.code ({ cls := "JumpPointsModel", name := "nearer", desc := "(III)I" } : Jvm.MethodName) prog_3_method_10_code (4 : Nat) (Option.some Jvm.ClassFile.FieldType.int)) ∈ lw_all := lw_g (lw_at lw_m0 172 rfl) rfl
theorem q190 : (Jvm.Cond.instanceMethod ({ cls := "JumpPointsModel", name := "vital", desc := "(III)Z" } : Jvm.MethodName)) ∈ lw_all := lw_g (lw_at lw_m0 174 rfl) rfl
theorem q191 : (Jvm.Cond.selects "JumpPointsModel" ({ cls := "JumpPointsModel", name := "vital", desc := "(III)Z" } : Jvm.MethodName) ({ cls := "JumpPointsModel", name := "vital", desc := "(III)Z" } : Jvm.MethodName)) ∈ lw_all := lw_g (lw_at lw_m0 175 rfl) rfl
theorem q192 : (Jvm.Cond.code ({ cls := "JumpPointsModel", name := "vital", desc := "(III)Z" } : Jvm.MethodName) prog_3_method_11_code (6 : Nat) (Option.some Jvm.ClassFile.FieldType.boolean)) ∈ lw_all := lw_g (lw_at lw_m0 176 rfl) rfl
theorem q193 : (Jvm.Cond.methodLink "JumpPointsModel" (31 : Nat) ({ cls := "JumpPointsModel", name := "distance", desc := "(II)I" } : Jvm.MethodName)) ∈ lw_all := lw_g (lw_at lw_m0 177 rfl) rfl
theorem q195 : (Jvm.Cond.instanceMethod ({ cls := "JumpPointsModel", name := "farthest", desc := "(I)I" } : Jvm.MethodName)) ∈ lw_all := lw_g (lw_at lw_m0 179 rfl) rfl
theorem q196 : (Jvm.Cond.selects "JumpPointsModel" ({ cls := "JumpPointsModel", name := "farthest", desc := "(I)I" } : Jvm.MethodName) ({ cls := "JumpPointsModel", name := "farthest", desc := "(I)I" } : Jvm.MethodName)) ∈ lw_all := lw_g (lw_at lw_m0 180 rfl) rfl
theorem q197 : (Jvm.Cond.code ({ cls := "JumpPointsModel", name := "farthest", desc := "(I)I" } : Jvm.MethodName) prog_3_method_12_code (4 : Nat) (Option.some Jvm.ClassFile.FieldType.int)) ∈ lw_all := lw_g (lw_at lw_m0 181 rfl) rfl
theorem q199 : (Jvm.Cond.instanceMethod ({ cls := "JumpPointsModel", name := "reach", desc := "(I)I" } : Jvm.MethodName)) ∈ lw_all := lw_g (lw_at lw_m0 183 rfl) rfl
theorem q200 : (Jvm.Cond.selects "JumpPointsModel" ({ cls := "JumpPointsModel", name := "reach", desc := "(I)I" } : Jvm.MethodName) ({ cls := "JumpPointsModel", name := "reach", desc := "(I)I" } : Jvm.MethodName)) ∈ lw_all := lw_g (lw_at lw_m0 184 rfl) rfl
theorem q201 : (Jvm.Cond.code ({ cls := "JumpPointsModel", name := "reach", desc := "(I)I" } : Jvm.MethodName) prog_3_method_13_code (4 : Nat) (Option.some Jvm.ClassFile.FieldType.int)) ∈ lw_all := lw_g (lw_at lw_m0 185 rfl) rfl
theorem q203 : (Jvm.Cond.instanceMethod ({ cls := "JumpPointsModel", name := "at", desc := "(II)I" } : Jvm.MethodName)) ∈ lw_all := lw_g (lw_at lw_m0 187 rfl) rfl
theorem q204 : (Jvm.Cond.selects "JumpPointsModel" ({ cls := "JumpPointsModel", name := "at", desc := "(II)I" } : Jvm.MethodName) ({ cls := "JumpPointsModel", name := "at", desc := "(II)I" } : Jvm.MethodName)) ∈ lw_all := lw_g (lw_at lw_m0 188 rfl) rfl
theorem q205 : (Jvm.Cond.code ({ cls := "JumpPointsModel", name := "at", desc := "(II)I" } : Jvm.MethodName) prog_3_method_14_code (4 : Nat) (Option.some Jvm.ClassFile.FieldType.int)) ∈ lw_all := lw_g (lw_at lw_m0 189 rfl) rfl
theorem in_X1 : ∀ w ∈ wsX10, w ∈ lw_all := lw_in wsX10 [147, 149] (by decide +kernel) (by decide +kernel)

theorem q16 : (Jvm.Cond.initialized "JumpPointsLaw") ∈ lw_all := lw_g (lw_at lw_m0 0 rfl) rfl
theorem q19 : (Jvm.Cond.classLink "JumpPointsLaw" (7 : Nat) "JumpPoints") ∈ lw_all := lw_g (lw_at lw_m0 3 rfl) rfl
theorem q21 : (Jvm.Cond.methodLink "JumpPointsLaw" (9 : Nat) ({ cls := "JumpPoints", name := "<init>", desc := "()V" } : Jvm.MethodName)) ∈ lw_all := lw_g (lw_at lw_m0 5 rfl) rfl
theorem q55 : (Jvm.Cond.methodLink "JumpPointsLaw" (13 : Nat) ({ cls := "JumpPoints", name := "wall", desc := "(IZ)Z" } : Jvm.MethodName)) ∈ lw_all := lw_g (lw_at lw_m0 39 rfl) rfl
theorem q59 : (Jvm.Cond.methodLink "JumpPointsLaw" (18 : Nat) ({ cls := "JumpPoints", name := "block", desc := "(IZ)I" } : Jvm.MethodName)) ∈ lw_all := lw_g (lw_at lw_m0 43 rfl) rfl
theorem q63 : (Jvm.Cond.methodLink "JumpPointsLaw" (23 : Nat) ({ cls := "JumpPoints", name := "isWall", desc := "(I)Z" } : Jvm.MethodName)) ∈ lw_all := lw_g (lw_at lw_m0 47 rfl) rfl
theorem q67 : (Jvm.Cond.methodLink "JumpPointsLaw" (28 : Nat) ({ cls := "JumpPoints", name := "distance", desc := "(II)I" } : Jvm.MethodName)) ∈ lw_all := lw_g (lw_at lw_m0 51 rfl) rfl
theorem q119 : (Jvm.Cond.methodLink "JumpPointsLaw" (33 : Nat) ({ cls := "JumpPoints", name := "nearer", desc := "(III)I" } : Jvm.MethodName)) ∈ lw_all := lw_g (lw_at lw_m0 103 rfl) rfl
theorem q123 : (Jvm.Cond.methodLink "JumpPointsLaw" (38 : Nat) ({ cls := "JumpPoints", name := "vital", desc := "(III)Z" } : Jvm.MethodName)) ∈ lw_all := lw_g (lw_at lw_m0 107 rfl) rfl
theorem q127 : (Jvm.Cond.methodLink "JumpPointsLaw" (43 : Nat) ({ cls := "JumpPoints", name := "farthest", desc := "(I)I" } : Jvm.MethodName)) ∈ lw_all := lw_g (lw_at lw_m0 111 rfl) rfl
theorem q131 : (Jvm.Cond.methodLink "JumpPointsLaw" (48 : Nat) ({ cls := "JumpPoints", name := "reach", desc := "(I)I" } : Jvm.MethodName)) ∈ lw_all := lw_g (lw_at lw_m0 115 rfl) rfl
theorem q135 : (Jvm.Cond.methodLink "JumpPointsLaw" (52 : Nat) ({ cls := "JumpPoints", name := "at", desc := "(II)I" } : Jvm.MethodName)) ∈ lw_all := lw_g (lw_at lw_m0 119 rfl) rfl
theorem q139 : (Jvm.Cond.classLink "JumpPointsLaw" (10 : Nat) "JumpPointsModel") ∈ lw_all := lw_g (lw_at lw_m0 123 rfl) rfl
theorem q141 : (Jvm.Cond.methodLink "JumpPointsLaw" (12 : Nat) ({ cls := "JumpPointsModel", name := "<init>", desc := "()V" } : Jvm.MethodName)) ∈ lw_all := lw_g (lw_at lw_m0 125 rfl) rfl
theorem q153 : (Jvm.Cond.methodLink "JumpPointsLaw" (17 : Nat) ({ cls := "JumpPointsModel", name := "wall", desc := "(IZ)Z" } : Jvm.MethodName)) ∈ lw_all := lw_g (lw_at lw_m0 137 rfl) rfl
theorem q161 : (Jvm.Cond.methodLink "JumpPointsLaw" (22 : Nat) ({ cls := "JumpPointsModel", name := "block", desc := "(IZ)I" } : Jvm.MethodName)) ∈ lw_all := lw_g (lw_at lw_m0 145 rfl) rfl
theorem q165 : (Jvm.Cond.methodLink "JumpPointsLaw" (27 : Nat) ({ cls := "JumpPointsModel", name := "isWall", desc := "(I)Z" } : Jvm.MethodName)) ∈ lw_all := lw_g (lw_at lw_m0 149 rfl) rfl
theorem q169 : (Jvm.Cond.methodLink "JumpPointsLaw" (32 : Nat) ({ cls := "JumpPointsModel", name := "distance", desc := "(II)I" } : Jvm.MethodName)) ∈ lw_all := lw_g (lw_at lw_m0 153 rfl) rfl
theorem q185 : (Jvm.Cond.methodLink "JumpPointsLaw" (37 : Nat) ({ cls := "JumpPointsModel", name := "nearer", desc := "(III)I" } : Jvm.MethodName)) ∈ lw_all := lw_g (lw_at lw_m0 169 rfl) rfl
theorem q189 : (Jvm.Cond.methodLink "JumpPointsLaw" (42 : Nat) ({ cls := "JumpPointsModel", name := "vital", desc := "(III)Z" } : Jvm.MethodName)) ∈ lw_all := lw_g (lw_at lw_m0 173 rfl) rfl
theorem q194 : (Jvm.Cond.methodLink "JumpPointsLaw" (47 : Nat) ({ cls := "JumpPointsModel", name := "farthest", desc := "(I)I" } : Jvm.MethodName)) ∈ lw_all := lw_g (lw_at lw_m0 178 rfl) rfl
theorem q198 : (Jvm.Cond.methodLink "JumpPointsLaw" (51 : Nat) ({ cls := "JumpPointsModel", name := "reach", desc := "(I)I" } : Jvm.MethodName)) ∈ lw_all := lw_g (lw_at lw_m0 182 rfl) rfl
theorem q202 : (Jvm.Cond.methodLink "JumpPointsLaw" (55 : Nat) ({ cls := "JumpPointsModel", name := "at", desc := "(II)I" } : Jvm.MethodName)) ∈ lw_all := lw_g (lw_at lw_m0 186 rfl) rfl
theorem q52 : (Jvm.Cond.arrayClass Jvm.ClassFile.FieldType.boolean) ∈ lw_all := lw_g (lw_at lw_m0 36 rfl) rfl
theorem q53 : (Jvm.Cond.arrayClass Jvm.ClassFile.FieldType.short) ∈ lw_all := lw_g (lw_at lw_m0 37 rfl) rfl
theorem q54 : (Jvm.Cond.arrayClass Jvm.ClassFile.FieldType.byte) ∈ lw_all := lw_g (lw_at lw_m0 38 rfl) rfl
theorem q152 : (Jvm.Cond.arrayClass Jvm.ClassFile.FieldType.int) ∈ lw_all := lw_g (lw_at lw_m0 136 rfl) rfl
end
section
set_option maxRecDepth 100000
theorem dX0_init_0 : decode cX0_init 0 = .ok (.aload_n 0, 1) := by decide +kernel
theorem dX0_init_1 : decode cX0_init 1 = .ok (.invokespecial 1, 3) := by decide +kernel
theorem dX0_init_4 : decode cX0_init 4 = .ok (.aload_n 0, 1) := by decide +kernel
theorem dX0_init_5 : decode cX0_init 5 = .ok (.sipush 144, 3) := by decide +kernel
theorem dX0_init_8 : decode cX0_init 8 = .ok (.newarray .boolean, 2) := by decide +kernel
theorem dX0_init_10 : decode cX0_init 10 = .ok (.putfield 7, 3) := by decide +kernel
theorem dX0_init_13 : decode cX0_init 13 = .ok (.aload_n 0, 1) := by decide +kernel
theorem dX0_init_14 : decode cX0_init 14 = .ok (.sipush 144, 3) := by decide +kernel
theorem dX0_init_17 : decode cX0_init 17 = .ok (.newarray .short, 2) := by decide +kernel
theorem dX0_init_19 : decode cX0_init 19 = .ok (.putfield 13, 3) := by decide +kernel
theorem dX0_init_22 : decode cX0_init 22 = .ok (.aload_n 0, 1) := by decide +kernel
theorem dX0_init_23 : decode cX0_init 23 = .ok (.sipush 144, 3) := by decide +kernel
theorem dX0_init_26 : decode cX0_init 26 = .ok (.newarray .short, 2) := by decide +kernel
theorem dX0_init_28 : decode cX0_init 28 = .ok (.putfield 17, 3) := by decide +kernel
theorem dX0_init_31 : decode cX0_init 31 = .ok (.aload_n 0, 1) := by decide +kernel
theorem dX0_init_32 : decode cX0_init 32 = .ok (.sipush 144, 3) := by decide +kernel
theorem dX0_init_35 : decode cX0_init 35 = .ok (.newarray .byte, 2) := by decide +kernel
theorem dX0_init_37 : decode cX0_init 37 = .ok (.putfield 20, 3) := by decide +kernel
theorem dX0_init_40 : decode cX0_init 40 = .ok (.aload_n 0, 1) := by decide +kernel
theorem dX0_init_41 : decode cX0_init 41 = .ok (.sipush 144, 3) := by decide +kernel
theorem dX0_init_44 : decode cX0_init 44 = .ok (.newarray .short, 2) := by decide +kernel
theorem dX0_init_46 : decode cX0_init 46 = .ok (.putfield 24, 3) := by decide +kernel
theorem dX0_init_49 : decode cX0_init 49 = .ok (.return_, 1) := by decide +kernel
theorem dX0_wall_0 : decode cX0_wall 0 = .ok (.iload_n 1, 1) := by decide +kernel
theorem dX0_wall_1 : decode cX0_wall 1 = .ok (.ifCond .lt 10, 3) := by decide +kernel
theorem dX0_wall_4 : decode cX0_wall 4 = .ok (.iload_n 1, 1) := by decide +kernel
theorem dX0_wall_5 : decode cX0_wall 5 = .ok (.sipush 144, 3) := by decide +kernel
theorem dX0_wall_8 : decode cX0_wall 8 = .ok (.if_icmp .lt 5, 3) := by decide +kernel
theorem dX0_wall_11 : decode cX0_wall 11 = .ok (.iconst 0, 1) := by decide +kernel
theorem dX0_wall_12 : decode cX0_wall 12 = .ok (.ireturn, 1) := by decide +kernel
theorem dX0_wall_13 : decode cX0_wall 13 = .ok (.aload_n 0, 1) := by decide +kernel
theorem dX0_wall_14 : decode cX0_wall 14 = .ok (.getfield 7, 3) := by decide +kernel
theorem dX0_wall_17 : decode cX0_wall 17 = .ok (.iload_n 1, 1) := by decide +kernel
theorem dX0_wall_18 : decode cX0_wall 18 = .ok (.iload_n 2, 1) := by decide +kernel
theorem dX0_wall_19 : decode cX0_wall 19 = .ok (.bastore, 1) := by decide +kernel
theorem dX0_wall_20 : decode cX0_wall 20 = .ok (.iconst 1, 1) := by decide +kernel
theorem dX0_wall_21 : decode cX0_wall 21 = .ok (.ireturn, 1) := by decide +kernel
theorem dX0_block_0 : decode cX0_block 0 = .ok (.iload_n 1, 1) := by decide +kernel
theorem dX0_block_1 : decode cX0_block 1 = .ok (.ifCond .ge 5, 3) := by decide +kernel
theorem dX0_block_4 : decode cX0_block 4 = .ok (.iconst (-1), 1) := by decide +kernel
theorem dX0_block_5 : decode cX0_block 5 = .ok (.ireturn, 1) := by decide +kernel
theorem dX0_block_6 : decode cX0_block 6 = .ok (.iload_n 1, 1) := by decide +kernel
theorem dX0_block_7 : decode cX0_block 7 = .ok (.bipush 12, 2) := by decide +kernel
theorem dX0_block_9 : decode cX0_block 9 = .ok (.ishr, 1) := by decide +kernel
theorem dX0_block_10 : decode cX0_block 10 = .ok (.istore_n 3, 1) := by decide +kernel
theorem dX0_block_11 : decode cX0_block 11 = .ok (.iload_n 1, 1) := by decide +kernel
theorem dX0_block_12 : decode cX0_block 12 = .ok (.bipush 8, 2) := by decide +kernel
theorem dX0_block_14 : decode cX0_block 14 = .ok (.ishr, 1) := by decide +kernel
theorem dX0_block_15 : decode cX0_block 15 = .ok (.bipush 15, 2) := by decide +kernel
theorem dX0_block_17 : decode cX0_block 17 = .ok (.iand, 1) := by decide +kernel
theorem dX0_block_18 : decode cX0_block 18 = .ok (.istore 4, 2) := by decide +kernel
theorem dX0_block_20 : decode cX0_block 20 = .ok (.iload_n 1, 1) := by decide +kernel
theorem dX0_block_21 : decode cX0_block 21 = .ok (.iconst 4, 1) := by decide +kernel
theorem dX0_block_22 : decode cX0_block 22 = .ok (.ishr, 1) := by decide +kernel
theorem dX0_block_23 : decode cX0_block 23 = .ok (.bipush 15, 2) := by decide +kernel
theorem dX0_block_25 : decode cX0_block 25 = .ok (.iand, 1) := by decide +kernel
theorem dX0_block_26 : decode cX0_block 26 = .ok (.istore 5, 2) := by decide +kernel
theorem dX0_block_28 : decode cX0_block 28 = .ok (.iload_n 1, 1) := by decide +kernel
theorem dX0_block_29 : decode cX0_block 29 = .ok (.bipush 15, 2) := by decide +kernel
theorem dX0_block_31 : decode cX0_block 31 = .ok (.iand, 1) := by decide +kernel
theorem dX0_block_32 : decode cX0_block 32 = .ok (.istore 6, 2) := by decide +kernel
theorem dX0_block_34 : decode cX0_block 34 = .ok (.iload_n 3, 1) := by decide +kernel
theorem dX0_block_35 : decode cX0_block 35 = .ok (.iload 4, 2) := by decide +kernel
theorem dX0_block_37 : decode cX0_block 37 = .ok (.if_icmp .gt 24, 3) := by decide +kernel
theorem dX0_block_40 : decode cX0_block 40 = .ok (.iload 4, 2) := by decide +kernel
theorem dX0_block_42 : decode cX0_block 42 = .ok (.bipush 11, 2) := by decide +kernel
theorem dX0_block_44 : decode cX0_block 44 = .ok (.if_icmp .gt 17, 3) := by decide +kernel
theorem dX0_block_47 : decode cX0_block 47 = .ok (.iload 5, 2) := by decide +kernel
theorem dX0_block_49 : decode cX0_block 49 = .ok (.iload 6, 2) := by decide +kernel
theorem dX0_block_51 : decode cX0_block 51 = .ok (.if_icmp .gt 10, 3) := by decide +kernel
theorem dX0_block_54 : decode cX0_block 54 = .ok (.iload 6, 2) := by decide +kernel
theorem dX0_block_56 : decode cX0_block 56 = .ok (.bipush 11, 2) := by decide +kernel
theorem dX0_block_58 : decode cX0_block 58 = .ok (.if_icmp .le 5, 3) := by decide +kernel
theorem dX0_block_61 : decode cX0_block 61 = .ok (.iconst (-1), 1) := by decide +kernel
theorem dX0_block_62 : decode cX0_block 62 = .ok (.ireturn, 1) := by decide +kernel
theorem dX0_block_63 : decode cX0_block 63 = .ok (.iconst 0, 1) := by decide +kernel
theorem dX0_block_64 : decode cX0_block 64 = .ok (.istore 7, 2) := by decide +kernel
theorem dX0_block_66 : decode cX0_block 66 = .ok (.iload 5, 2) := by decide +kernel
theorem dX0_block_68 : decode cX0_block 68 = .ok (.istore 8, 2) := by decide +kernel
theorem dX0_block_70 : decode cX0_block 70 = .ok (.iload 8, 2) := by decide +kernel
theorem dX0_block_72 : decode cX0_block 72 = .ok (.iload 6, 2) := by decide +kernel
theorem dX0_block_74 : decode cX0_block 74 = .ok (.if_icmp .gt 59, 3) := by decide +kernel
theorem dX0_block_77 : decode cX0_block 77 = .ok (.iload_n 3, 1) := by decide +kernel
theorem dX0_block_78 : decode cX0_block 78 = .ok (.istore 9, 2) := by decide +kernel
theorem dX0_block_80 : decode cX0_block 80 = .ok (.iload 9, 2) := by decide +kernel
theorem dX0_block_82 : decode cX0_block 82 = .ok (.iload 4, 2) := by decide +kernel
theorem dX0_block_84 : decode cX0_block 84 = .ok (.if_icmp .gt 43, 3) := by decide +kernel
theorem dX0_block_87 : decode cX0_block 87 = .ok (.aload_n 0, 1) := by decide +kernel
theorem dX0_block_88 : decode cX0_block 88 = .ok (.getfield 7, 3) := by decide +kernel
theorem dX0_block_91 : decode cX0_block 91 = .ok (.bipush 12, 2) := by decide +kernel
theorem dX0_block_93 : decode cX0_block 93 = .ok (.iload 8, 2) := by decide +kernel
theorem dX0_block_95 : decode cX0_block 95 = .ok (.imul, 1) := by decide +kernel
theorem dX0_block_96 : decode cX0_block 96 = .ok (.iload 9, 2) := by decide +kernel
theorem dX0_block_98 : decode cX0_block 98 = .ok (.iadd, 1) := by decide +kernel
theorem dX0_block_99 : decode cX0_block 99 = .ok (.baload, 1) := by decide +kernel
theorem dX0_block_100 : decode cX0_block 100 = .ok (.iload_n 2, 1) := by decide +kernel
theorem dX0_block_101 : decode cX0_block 101 = .ok (.if_icmp .eq 6, 3) := by decide +kernel
theorem dX0_block_104 : decode cX0_block 104 = .ok (.iinc 7 1, 3) := by decide +kernel
theorem dX0_block_107 : decode cX0_block 107 = .ok (.aload_n 0, 1) := by decide +kernel
theorem dX0_block_108 : decode cX0_block 108 = .ok (.getfield 7, 3) := by decide +kernel
theorem dX0_block_111 : decode cX0_block 111 = .ok (.bipush 12, 2) := by decide +kernel
theorem dX0_block_113 : decode cX0_block 113 = .ok (.iload 8, 2) := by decide +kernel
theorem dX0_block_115 : decode cX0_block 115 = .ok (.imul, 1) := by decide +kernel
theorem dX0_block_116 : decode cX0_block 116 = .ok (.iload 9, 2) := by decide +kernel
theorem dX0_block_118 : decode cX0_block 118 = .ok (.iadd, 1) := by decide +kernel
theorem dX0_block_119 : decode cX0_block 119 = .ok (.iload_n 2, 1) := by decide +kernel
theorem dX0_block_120 : decode cX0_block 120 = .ok (.bastore, 1) := by decide +kernel
theorem dX0_block_121 : decode cX0_block 121 = .ok (.iinc 9 1, 3) := by decide +kernel
theorem dX0_block_124 : decode cX0_block 124 = .ok (.goto (-44), 3) := by decide +kernel
theorem dX0_block_127 : decode cX0_block 127 = .ok (.iinc 8 1, 3) := by decide +kernel
theorem dX0_block_130 : decode cX0_block 130 = .ok (.goto (-60), 3) := by decide +kernel
theorem dX0_block_133 : decode cX0_block 133 = .ok (.iload 7, 2) := by decide +kernel
theorem dX0_block_135 : decode cX0_block 135 = .ok (.ireturn, 1) := by decide +kernel
theorem dX0_isWall_0 : decode cX0_isWall 0 = .ok (.iload_n 1, 1) := by decide +kernel
theorem dX0_isWall_1 : decode cX0_isWall 1 = .ok (.ifCond .lt 23, 3) := by decide +kernel
theorem dX0_isWall_4 : decode cX0_isWall 4 = .ok (.iload_n 1, 1) := by decide +kernel
theorem dX0_isWall_5 : decode cX0_isWall 5 = .ok (.sipush 144, 3) := by decide +kernel
theorem dX0_isWall_8 : decode cX0_isWall 8 = .ok (.if_icmp .ge 16, 3) := by decide +kernel
theorem dX0_isWall_11 : decode cX0_isWall 11 = .ok (.aload_n 0, 1) := by decide +kernel
theorem dX0_isWall_12 : decode cX0_isWall 12 = .ok (.getfield 7, 3) := by decide +kernel
theorem dX0_isWall_15 : decode cX0_isWall 15 = .ok (.iload_n 1, 1) := by decide +kernel
theorem dX0_isWall_16 : decode cX0_isWall 16 = .ok (.baload, 1) := by decide +kernel
theorem dX0_isWall_17 : decode cX0_isWall 17 = .ok (.ifCond .eq 7, 3) := by decide +kernel
theorem dX0_isWall_20 : decode cX0_isWall 20 = .ok (.iconst 1, 1) := by decide +kernel
theorem dX0_isWall_21 : decode cX0_isWall 21 = .ok (.goto 4, 3) := by decide +kernel
theorem dX0_isWall_24 : decode cX0_isWall 24 = .ok (.iconst 0, 1) := by decide +kernel
theorem dX0_isWall_25 : decode cX0_isWall 25 = .ok (.ireturn, 1) := by decide +kernel
theorem dX0_distance_0 : decode cX0_distance 0 = .ok (.aload_n 0, 1) := by decide +kernel
theorem dX0_distance_1 : decode cX0_distance 1 = .ok (.iload_n 1, 1) := by decide +kernel
theorem dX0_distance_2 : decode cX0_distance 2 = .ok (.invokevirtual 27, 3) := by decide +kernel
theorem dX0_distance_5 : decode cX0_distance 5 = .ok (.ifCond .eq 11, 3) := by decide +kernel
theorem dX0_distance_8 : decode cX0_distance 8 = .ok (.aload_n 0, 1) := by decide +kernel
theorem dX0_distance_9 : decode cX0_distance 9 = .ok (.iload_n 2, 1) := by decide +kernel
theorem dX0_distance_10 : decode cX0_distance 10 = .ok (.invokevirtual 27, 3) := by decide +kernel
theorem dX0_distance_13 : decode cX0_distance 13 = .ok (.ifCond .ne 5, 3) := by decide +kernel
theorem dX0_distance_16 : decode cX0_distance 16 = .ok (.iconst (-1), 1) := by decide +kernel
theorem dX0_distance_17 : decode cX0_distance 17 = .ok (.ireturn, 1) := by decide +kernel
theorem dX0_distance_18 : decode cX0_distance 18 = .ok (.aload_n 0, 1) := by decide +kernel
theorem dX0_distance_19 : decode cX0_distance 19 = .ok (.iload_n 1, 1) := by decide +kernel
theorem dX0_distance_20 : decode cX0_distance 20 = .ok (.iload_n 2, 1) := by decide +kernel
theorem dX0_distance_21 : decode cX0_distance 21 = .ok (.invokevirtual 31, 3) := by decide +kernel
theorem dX0_distance_24 : decode cX0_distance 24 = .ok (.ireturn, 1) := by decide +kernel
theorem dX0_isFree_0 : decode cX0_isFree 0 = .ok (.iload_n 1, 1) := by decide +kernel
theorem dX0_isFree_1 : decode cX0_isFree 1 = .ok (.ifCond .lt 23, 3) := by decide +kernel
theorem dX0_isFree_4 : decode cX0_isFree 4 = .ok (.iload_n 1, 1) := by decide +kernel
theorem dX0_isFree_5 : decode cX0_isFree 5 = .ok (.sipush 144, 3) := by decide +kernel
theorem dX0_isFree_8 : decode cX0_isFree 8 = .ok (.if_icmp .ge 16, 3) := by decide +kernel
theorem dX0_isFree_11 : decode cX0_isFree 11 = .ok (.aload_n 0, 1) := by decide +kernel
theorem dX0_isFree_12 : decode cX0_isFree 12 = .ok (.getfield 7, 3) := by decide +kernel
theorem dX0_isFree_15 : decode cX0_isFree 15 = .ok (.iload_n 1, 1) := by decide +kernel
theorem dX0_isFree_16 : decode cX0_isFree 16 = .ok (.baload, 1) := by decide +kernel
theorem dX0_isFree_17 : decode cX0_isFree 17 = .ok (.ifCond .ne 7, 3) := by decide +kernel
theorem dX0_isFree_20 : decode cX0_isFree 20 = .ok (.iconst 1, 1) := by decide +kernel
theorem dX0_isFree_21 : decode cX0_isFree 21 = .ok (.goto 4, 3) := by decide +kernel
theorem dX0_isFree_24 : decode cX0_isFree 24 = .ok (.iconst 0, 1) := by decide +kernel
theorem dX0_isFree_25 : decode cX0_isFree 25 = .ok (.ireturn, 1) := by decide +kernel
theorem dX0_search_0 : decode cX0_search 0 = .ok (.iconst 0, 1) := by decide +kernel
theorem dX0_search_1 : decode cX0_search 1 = .ok (.istore_n 3, 1) := by decide +kernel
theorem dX0_search_2 : decode cX0_search 2 = .ok (.iload_n 3, 1) := by decide +kernel
theorem dX0_search_3 : decode cX0_search 3 = .ok (.sipush 144, 3) := by decide +kernel
theorem dX0_search_6 : decode cX0_search 6 = .ok (.if_icmp .ge 16, 3) := by decide +kernel
theorem dX0_search_9 : decode cX0_search 9 = .ok (.aload_n 0, 1) := by decide +kernel
theorem dX0_search_10 : decode cX0_search 10 = .ok (.getfield 20, 3) := by decide +kernel
theorem dX0_search_13 : decode cX0_search 13 = .ok (.iload_n 3, 1) := by decide +kernel
theorem dX0_search_14 : decode cX0_search 14 = .ok (.iconst 0, 1) := by decide +kernel
theorem dX0_search_15 : decode cX0_search 15 = .ok (.bastore, 1) := by decide +kernel
theorem dX0_search_16 : decode cX0_search 16 = .ok (.iinc 3 1, 3) := by decide +kernel
theorem dX0_search_19 : decode cX0_search 19 = .ok (.goto (-17), 3) := by decide +kernel
theorem dX0_search_22 : decode cX0_search 22 = .ok (.aload_n 0, 1) := by decide +kernel
theorem dX0_search_23 : decode cX0_search 23 = .ok (.iload_n 2, 1) := by decide +kernel
theorem dX0_search_24 : decode cX0_search 24 = .ok (.putfield 49, 3) := by decide +kernel
theorem dX0_search_27 : decode cX0_search 27 = .ok (.aload_n 0, 1) := by decide +kernel
theorem dX0_search_28 : decode cX0_search 28 = .ok (.iconst 0, 1) := by decide +kernel
theorem dX0_search_29 : decode cX0_search 29 = .ok (.putfield 59, 3) := by decide +kernel
theorem dX0_search_32 : decode cX0_search 32 = .ok (.aload_n 0, 1) := by decide +kernel
theorem dX0_search_33 : decode cX0_search 33 = .ok (.iload_n 1, 1) := by decide +kernel
theorem dX0_search_34 : decode cX0_search 34 = .ok (.iconst 0, 1) := by decide +kernel
theorem dX0_search_35 : decode cX0_search 35 = .ok (.sipush 511, 3) := by decide +kernel
theorem dX0_search_38 : decode cX0_search 38 = .ok (.invokevirtual 65, 3) := by decide +kernel
theorem dX0_search_41 : decode cX0_search 41 = .ok (.aload_n 0, 1) := by decide +kernel
theorem dX0_search_42 : decode cX0_search 42 = .ok (.getfield 59, 3) := by decide +kernel
theorem dX0_search_45 : decode cX0_search 45 = .ok (.ifCond .le 28, 3) := by decide +kernel
theorem dX0_search_48 : decode cX0_search 48 = .ok (.aload_n 0, 1) := by decide +kernel
theorem dX0_search_49 : decode cX0_search 49 = .ok (.invokevirtual 69, 3) := by decide +kernel
theorem dX0_search_52 : decode cX0_search 52 = .ok (.istore_n 3, 1) := by decide +kernel
theorem dX0_search_53 : decode cX0_search 53 = .ok (.iload_n 3, 1) := by decide +kernel
theorem dX0_search_54 : decode cX0_search 54 = .ok (.iload_n 2, 1) := by decide +kernel
theorem dX0_search_55 : decode cX0_search 55 = .ok (.if_icmp .ne 10, 3) := by decide +kernel
theorem dX0_search_58 : decode cX0_search 58 = .ok (.aload_n 0, 1) := by decide +kernel
theorem dX0_search_59 : decode cX0_search 59 = .ok (.getfield 13, 3) := by decide +kernel
theorem dX0_search_62 : decode cX0_search 62 = .ok (.iload_n 2, 1) := by decide +kernel
theorem dX0_search_63 : decode cX0_search 63 = .ok (.saload, 1) := by decide +kernel
theorem dX0_search_64 : decode cX0_search 64 = .ok (.ireturn, 1) := by decide +kernel
theorem dX0_search_65 : decode cX0_search 65 = .ok (.aload_n 0, 1) := by decide +kernel
theorem dX0_search_66 : decode cX0_search 66 = .ok (.iload_n 3, 1) := by decide +kernel
theorem dX0_search_67 : decode cX0_search 67 = .ok (.invokevirtual 73, 3) := by decide +kernel
theorem dX0_search_70 : decode cX0_search 70 = .ok (.goto (-29), 3) := by decide +kernel
theorem dX0_search_73 : decode cX0_search 73 = .ok (.bipush (-2), 2) := by decide +kernel
theorem dX0_search_75 : decode cX0_search 75 = .ok (.ireturn, 1) := by decide +kernel
theorem dX0_offer_0 : decode cX0_offer 0 = .ok (.aload_n 0, 1) := by decide +kernel
theorem dX0_offer_1 : decode cX0_offer 1 = .ok (.getfield 20, 3) := by decide +kernel
theorem dX0_offer_4 : decode cX0_offer 4 = .ok (.iload_n 1, 1) := by decide +kernel
theorem dX0_offer_5 : decode cX0_offer 5 = .ok (.baload, 1) := by decide +kernel
theorem dX0_offer_6 : decode cX0_offer 6 = .ok (.ifCond .eq 14, 3) := by decide +kernel
theorem dX0_offer_9 : decode cX0_offer 9 = .ok (.aload_n 0, 1) := by decide +kernel
theorem dX0_offer_10 : decode cX0_offer 10 = .ok (.getfield 13, 3) := by decide +kernel
theorem dX0_offer_13 : decode cX0_offer 13 = .ok (.iload_n 1, 1) := by decide +kernel
theorem dX0_offer_14 : decode cX0_offer 14 = .ok (.saload, 1) := by decide +kernel
theorem dX0_offer_15 : decode cX0_offer 15 = .ok (.iload_n 2, 1) := by decide +kernel
theorem dX0_offer_16 : decode cX0_offer 16 = .ok (.if_icmp .ge 4, 3) := by decide +kernel
theorem dX0_offer_19 : decode cX0_offer 19 = .ok (.return_, 1) := by decide +kernel
theorem dX0_offer_20 : decode cX0_offer 20 = .ok (.aload_n 0, 1) := by decide +kernel
theorem dX0_offer_21 : decode cX0_offer 21 = .ok (.getfield 20, 3) := by decide +kernel
theorem dX0_offer_24 : decode cX0_offer 24 = .ok (.iload_n 1, 1) := by decide +kernel
theorem dX0_offer_25 : decode cX0_offer 25 = .ok (.baload, 1) := by decide +kernel
theorem dX0_offer_26 : decode cX0_offer 26 = .ok (.ifCond .eq 41, 3) := by decide +kernel
theorem dX0_offer_29 : decode cX0_offer 29 = .ok (.aload_n 0, 1) := by decide +kernel
theorem dX0_offer_30 : decode cX0_offer 30 = .ok (.getfield 13, 3) := by decide +kernel
theorem dX0_offer_33 : decode cX0_offer 33 = .ok (.iload_n 1, 1) := by decide +kernel
theorem dX0_offer_34 : decode cX0_offer 34 = .ok (.saload, 1) := by decide +kernel
theorem dX0_offer_35 : decode cX0_offer 35 = .ok (.iload_n 2, 1) := by decide +kernel
theorem dX0_offer_36 : decode cX0_offer 36 = .ok (.if_icmp .ne 31, 3) := by decide +kernel
theorem dX0_offer_39 : decode cX0_offer 39 = .ok (.iload_n 3, 1) := by decide +kernel
theorem dX0_offer_40 : decode cX0_offer 40 = .ok (.aload_n 0, 1) := by decide +kernel
theorem dX0_offer_41 : decode cX0_offer 41 = .ok (.getfield 17, 3) := by decide +kernel
theorem dX0_offer_44 : decode cX0_offer 44 = .ok (.iload_n 1, 1) := by decide +kernel
theorem dX0_offer_45 : decode cX0_offer 45 = .ok (.saload, 1) := by decide +kernel
theorem dX0_offer_46 : decode cX0_offer 46 = .ok (.iconst (-1), 1) := by decide +kernel
theorem dX0_offer_47 : decode cX0_offer 47 = .ok (.ixor, 1) := by decide +kernel
theorem dX0_offer_48 : decode cX0_offer 48 = .ok (.iand, 1) := by decide +kernel
theorem dX0_offer_49 : decode cX0_offer 49 = .ok (.ifCond .ne 4, 3) := by decide +kernel
theorem dX0_offer_52 : decode cX0_offer 52 = .ok (.return_, 1) := by decide +kernel
theorem dX0_offer_53 : decode cX0_offer 53 = .ok (.aload_n 0, 1) := by decide +kernel
theorem dX0_offer_54 : decode cX0_offer 54 = .ok (.getfield 17, 3) := by decide +kernel
theorem dX0_offer_57 : decode cX0_offer 57 = .ok (.iload_n 1, 1) := by decide +kernel
theorem dX0_offer_58 : decode cX0_offer 58 = .ok (.dup2, 1) := by decide +kernel
theorem dX0_offer_59 : decode cX0_offer 59 = .ok (.saload, 1) := by decide +kernel
theorem dX0_offer_60 : decode cX0_offer 60 = .ok (.iload_n 3, 1) := by decide +kernel
theorem dX0_offer_61 : decode cX0_offer 61 = .ok (.ior, 1) := by decide +kernel
theorem dX0_offer_62 : decode cX0_offer 62 = .ok (.i2s, 1) := by decide +kernel
theorem dX0_offer_63 : decode cX0_offer 63 = .ok (.sastore, 1) := by decide +kernel
theorem dX0_offer_64 : decode cX0_offer 64 = .ok (.goto 19, 3) := by decide +kernel
theorem dX0_offer_67 : decode cX0_offer 67 = .ok (.aload_n 0, 1) := by decide +kernel
theorem dX0_offer_68 : decode cX0_offer 68 = .ok (.getfield 13, 3) := by decide +kernel
theorem dX0_offer_71 : decode cX0_offer 71 = .ok (.iload_n 1, 1) := by decide +kernel
theorem dX0_offer_72 : decode cX0_offer 72 = .ok (.iload_n 2, 1) := by decide +kernel
theorem dX0_offer_73 : decode cX0_offer 73 = .ok (.i2s, 1) := by decide +kernel
theorem dX0_offer_74 : decode cX0_offer 74 = .ok (.sastore, 1) := by decide +kernel
theorem dX0_offer_75 : decode cX0_offer 75 = .ok (.aload_n 0, 1) := by decide +kernel
theorem dX0_offer_76 : decode cX0_offer 76 = .ok (.getfield 17, 3) := by decide +kernel
theorem dX0_offer_79 : decode cX0_offer 79 = .ok (.iload_n 1, 1) := by decide +kernel
theorem dX0_offer_80 : decode cX0_offer 80 = .ok (.iload_n 3, 1) := by decide +kernel
theorem dX0_offer_81 : decode cX0_offer 81 = .ok (.i2s, 1) := by decide +kernel
theorem dX0_offer_82 : decode cX0_offer 82 = .ok (.sastore, 1) := by decide +kernel
theorem dX0_offer_83 : decode cX0_offer 83 = .ok (.aload_n 0, 1) := by decide +kernel
theorem dX0_offer_84 : decode cX0_offer 84 = .ok (.getfield 20, 3) := by decide +kernel
theorem dX0_offer_87 : decode cX0_offer 87 = .ok (.iload_n 1, 1) := by decide +kernel
theorem dX0_offer_88 : decode cX0_offer 88 = .ok (.baload, 1) := by decide +kernel
theorem dX0_offer_89 : decode cX0_offer 89 = .ok (.iconst 1, 1) := by decide +kernel
theorem dX0_offer_90 : decode cX0_offer 90 = .ok (.if_icmp .ne 4, 3) := by decide +kernel
theorem dX0_offer_93 : decode cX0_offer 93 = .ok (.return_, 1) := by decide +kernel
theorem dX0_offer_94 : decode cX0_offer 94 = .ok (.aload_n 0, 1) := by decide +kernel
theorem dX0_offer_95 : decode cX0_offer 95 = .ok (.getfield 20, 3) := by decide +kernel
theorem dX0_offer_98 : decode cX0_offer 98 = .ok (.iload_n 1, 1) := by decide +kernel
theorem dX0_offer_99 : decode cX0_offer 99 = .ok (.iconst 1, 1) := by decide +kernel
theorem dX0_offer_100 : decode cX0_offer 100 = .ok (.bastore, 1) := by decide +kernel
theorem dX0_offer_101 : decode cX0_offer 101 = .ok (.aload_n 0, 1) := by decide +kernel
theorem dX0_offer_102 : decode cX0_offer 102 = .ok (.getfield 24, 3) := by decide +kernel
theorem dX0_offer_105 : decode cX0_offer 105 = .ok (.aload_n 0, 1) := by decide +kernel
theorem dX0_offer_106 : decode cX0_offer 106 = .ok (.getfield 59, 3) := by decide +kernel
theorem dX0_offer_109 : decode cX0_offer 109 = .ok (.iload_n 1, 1) := by decide +kernel
theorem dX0_offer_110 : decode cX0_offer 110 = .ok (.i2s, 1) := by decide +kernel
theorem dX0_offer_111 : decode cX0_offer 111 = .ok (.sastore, 1) := by decide +kernel
theorem dX0_offer_112 : decode cX0_offer 112 = .ok (.aload_n 0, 1) := by decide +kernel
theorem dX0_offer_113 : decode cX0_offer 113 = .ok (.dup, 1) := by decide +kernel
theorem dX0_offer_114 : decode cX0_offer 114 = .ok (.getfield 59, 3) := by decide +kernel
theorem dX0_offer_117 : decode cX0_offer 117 = .ok (.iconst 1, 1) := by decide +kernel
theorem dX0_offer_118 : decode cX0_offer 118 = .ok (.iadd, 1) := by decide +kernel
theorem dX0_offer_119 : decode cX0_offer 119 = .ok (.putfield 59, 3) := by decide +kernel
theorem dX0_offer_122 : decode cX0_offer 122 = .ok (.return_, 1) := by decide +kernel
theorem dX0_takeBest_0 : decode cX0_takeBest 0 = .ok (.iconst 0, 1) := by decide +kernel
theorem dX0_takeBest_1 : decode cX0_takeBest 1 = .ok (.istore_n 1, 1) := by decide +kernel
theorem dX0_takeBest_2 : decode cX0_takeBest 2 = .ok (.iconst 1, 1) := by decide +kernel
theorem dX0_takeBest_3 : decode cX0_takeBest 3 = .ok (.istore_n 2, 1) := by decide +kernel
theorem dX0_takeBest_4 : decode cX0_takeBest 4 = .ok (.iload_n 2, 1) := by decide +kernel
theorem dX0_takeBest_5 : decode cX0_takeBest 5 = .ok (.aload_n 0, 1) := by decide +kernel
theorem dX0_takeBest_6 : decode cX0_takeBest 6 = .ok (.getfield 59, 3) := by decide +kernel
theorem dX0_takeBest_9 : decode cX0_takeBest 9 = .ok (.if_icmp .ge 72, 3) := by decide +kernel
theorem dX0_takeBest_12 : decode cX0_takeBest 12 = .ok (.aload_n 0, 1) := by decide +kernel
theorem dX0_takeBest_13 : decode cX0_takeBest 13 = .ok (.getfield 13, 3) := by decide +kernel
theorem dX0_takeBest_16 : decode cX0_takeBest 16 = .ok (.aload_n 0, 1) := by decide +kernel
theorem dX0_takeBest_17 : decode cX0_takeBest 17 = .ok (.getfield 24, 3) := by decide +kernel
theorem dX0_takeBest_20 : decode cX0_takeBest 20 = .ok (.iload_n 2, 1) := by decide +kernel
theorem dX0_takeBest_21 : decode cX0_takeBest 21 = .ok (.saload, 1) := by decide +kernel
theorem dX0_takeBest_22 : decode cX0_takeBest 22 = .ok (.saload, 1) := by decide +kernel
theorem dX0_takeBest_23 : decode cX0_takeBest 23 = .ok (.aload_n 0, 1) := by decide +kernel
theorem dX0_takeBest_24 : decode cX0_takeBest 24 = .ok (.aload_n 0, 1) := by decide +kernel
theorem dX0_takeBest_25 : decode cX0_takeBest 25 = .ok (.getfield 24, 3) := by decide +kernel
theorem dX0_takeBest_28 : decode cX0_takeBest 28 = .ok (.iload_n 2, 1) := by decide +kernel
theorem dX0_takeBest_29 : decode cX0_takeBest 29 = .ok (.saload, 1) := by decide +kernel
theorem dX0_takeBest_30 : decode cX0_takeBest 30 = .ok (.aload_n 0, 1) := by decide +kernel
theorem dX0_takeBest_31 : decode cX0_takeBest 31 = .ok (.getfield 49, 3) := by decide +kernel
theorem dX0_takeBest_34 : decode cX0_takeBest 34 = .ok (.invokevirtual 62, 3) := by decide +kernel
theorem dX0_takeBest_37 : decode cX0_takeBest 37 = .ok (.iadd, 1) := by decide +kernel
theorem dX0_takeBest_38 : decode cX0_takeBest 38 = .ok (.istore_n 3, 1) := by decide +kernel
theorem dX0_takeBest_39 : decode cX0_takeBest 39 = .ok (.aload_n 0, 1) := by decide +kernel
theorem dX0_takeBest_40 : decode cX0_takeBest 40 = .ok (.getfield 13, 3) := by decide +kernel
theorem dX0_takeBest_43 : decode cX0_takeBest 43 = .ok (.aload_n 0, 1) := by decide +kernel
theorem dX0_takeBest_44 : decode cX0_takeBest 44 = .ok (.getfield 24, 3) := by decide +kernel
theorem dX0_takeBest_47 : decode cX0_takeBest 47 = .ok (.iload_n 1, 1) := by decide +kernel
theorem dX0_takeBest_48 : decode cX0_takeBest 48 = .ok (.saload, 1) := by decide +kernel
theorem dX0_takeBest_49 : decode cX0_takeBest 49 = .ok (.saload, 1) := by decide +kernel
theorem dX0_takeBest_50 : decode cX0_takeBest 50 = .ok (.aload_n 0, 1) := by decide +kernel
theorem dX0_takeBest_51 : decode cX0_takeBest 51 = .ok (.aload_n 0, 1) := by decide +kernel
theorem dX0_takeBest_52 : decode cX0_takeBest 52 = .ok (.getfield 24, 3) := by decide +kernel
theorem dX0_takeBest_55 : decode cX0_takeBest 55 = .ok (.iload_n 1, 1) := by decide +kernel
theorem dX0_takeBest_56 : decode cX0_takeBest 56 = .ok (.saload, 1) := by decide +kernel
theorem dX0_takeBest_57 : decode cX0_takeBest 57 = .ok (.aload_n 0, 1) := by decide +kernel
theorem dX0_takeBest_58 : decode cX0_takeBest 58 = .ok (.getfield 49, 3) := by decide +kernel
theorem dX0_takeBest_61 : decode cX0_takeBest 61 = .ok (.invokevirtual 62, 3) := by decide +kernel
theorem dX0_takeBest_64 : decode cX0_takeBest 64 = .ok (.iadd, 1) := by decide +kernel
theorem dX0_takeBest_65 : decode cX0_takeBest 65 = .ok (.istore 4, 2) := by decide +kernel
theorem dX0_takeBest_67 : decode cX0_takeBest 67 = .ok (.iload_n 3, 1) := by decide +kernel
theorem dX0_takeBest_68 : decode cX0_takeBest 68 = .ok (.iload 4, 2) := by decide +kernel
theorem dX0_takeBest_70 : decode cX0_takeBest 70 = .ok (.if_icmp .ge 5, 3) := by decide +kernel
theorem dX0_takeBest_73 : decode cX0_takeBest 73 = .ok (.iload_n 2, 1) := by decide +kernel
theorem dX0_takeBest_74 : decode cX0_takeBest 74 = .ok (.istore_n 1, 1) := by decide +kernel
theorem dX0_takeBest_75 : decode cX0_takeBest 75 = .ok (.iinc 2 1, 3) := by decide +kernel
theorem dX0_takeBest_78 : decode cX0_takeBest 78 = .ok (.goto (-74), 3) := by decide +kernel
theorem dX0_takeBest_81 : decode cX0_takeBest 81 = .ok (.aload_n 0, 1) := by decide +kernel
theorem dX0_takeBest_82 : decode cX0_takeBest 82 = .ok (.getfield 24, 3) := by decide +kernel
theorem dX0_takeBest_85 : decode cX0_takeBest 85 = .ok (.iload_n 1, 1) := by decide +kernel
theorem dX0_takeBest_86 : decode cX0_takeBest 86 = .ok (.saload, 1) := by decide +kernel
theorem dX0_takeBest_87 : decode cX0_takeBest 87 = .ok (.istore_n 2, 1) := by decide +kernel
theorem dX0_takeBest_88 : decode cX0_takeBest 88 = .ok (.aload_n 0, 1) := by decide +kernel
theorem dX0_takeBest_89 : decode cX0_takeBest 89 = .ok (.dup, 1) := by decide +kernel
theorem dX0_takeBest_90 : decode cX0_takeBest 90 = .ok (.getfield 59, 3) := by decide +kernel
theorem dX0_takeBest_93 : decode cX0_takeBest 93 = .ok (.iconst 1, 1) := by decide +kernel
theorem dX0_takeBest_94 : decode cX0_takeBest 94 = .ok (.isub, 1) := by decide +kernel
theorem dX0_takeBest_95 : decode cX0_takeBest 95 = .ok (.putfield 59, 3) := by decide +kernel
theorem dX0_takeBest_98 : decode cX0_takeBest 98 = .ok (.aload_n 0, 1) := by decide +kernel
theorem dX0_takeBest_99 : decode cX0_takeBest 99 = .ok (.getfield 24, 3) := by decide +kernel
theorem dX0_takeBest_102 : decode cX0_takeBest 102 = .ok (.iload_n 1, 1) := by decide +kernel
theorem dX0_takeBest_103 : decode cX0_takeBest 103 = .ok (.aload_n 0, 1) := by decide +kernel
theorem dX0_takeBest_104 : decode cX0_takeBest 104 = .ok (.getfield 24, 3) := by decide +kernel
theorem dX0_takeBest_107 : decode cX0_takeBest 107 = .ok (.aload_n 0, 1) := by decide +kernel
theorem dX0_takeBest_108 : decode cX0_takeBest 108 = .ok (.getfield 59, 3) := by decide +kernel
theorem dX0_takeBest_111 : decode cX0_takeBest 111 = .ok (.saload, 1) := by decide +kernel
theorem dX0_takeBest_112 : decode cX0_takeBest 112 = .ok (.sastore, 1) := by decide +kernel
theorem dX0_takeBest_113 : decode cX0_takeBest 113 = .ok (.aload_n 0, 1) := by decide +kernel
theorem dX0_takeBest_114 : decode cX0_takeBest 114 = .ok (.getfield 20, 3) := by decide +kernel
theorem dX0_takeBest_117 : decode cX0_takeBest 117 = .ok (.iload_n 2, 1) := by decide +kernel
theorem dX0_takeBest_118 : decode cX0_takeBest 118 = .ok (.iconst 2, 1) := by decide +kernel
theorem dX0_takeBest_119 : decode cX0_takeBest 119 = .ok (.bastore, 1) := by decide +kernel
theorem dX0_takeBest_120 : decode cX0_takeBest 120 = .ok (.iload_n 2, 1) := by decide +kernel
theorem dX0_takeBest_121 : decode cX0_takeBest 121 = .ok (.ireturn, 1) := by decide +kernel
theorem dX0_atLeast_0 : decode cX0_atLeast 0 = .ok (.iload_n 1, 1) := by decide +kernel
theorem dX0_atLeast_1 : decode cX0_atLeast 1 = .ok (.bipush 12, 2) := by decide +kernel
theorem dX0_atLeast_3 : decode cX0_atLeast 3 = .ok (.irem, 1) := by decide +kernel
theorem dX0_atLeast_4 : decode cX0_atLeast 4 = .ok (.iload_n 2, 1) := by decide +kernel
theorem dX0_atLeast_5 : decode cX0_atLeast 5 = .ok (.bipush 12, 2) := by decide +kernel
theorem dX0_atLeast_7 : decode cX0_atLeast 7 = .ok (.irem, 1) := by decide +kernel
theorem dX0_atLeast_8 : decode cX0_atLeast 8 = .ok (.isub, 1) := by decide +kernel
theorem dX0_atLeast_9 : decode cX0_atLeast 9 = .ok (.istore_n 3, 1) := by decide +kernel
theorem dX0_atLeast_10 : decode cX0_atLeast 10 = .ok (.iload_n 1, 1) := by decide +kernel
theorem dX0_atLeast_11 : decode cX0_atLeast 11 = .ok (.bipush 12, 2) := by decide +kernel
theorem dX0_atLeast_13 : decode cX0_atLeast 13 = .ok (.idiv, 1) := by decide +kernel
theorem dX0_atLeast_14 : decode cX0_atLeast 14 = .ok (.iload_n 2, 1) := by decide +kernel
theorem dX0_atLeast_15 : decode cX0_atLeast 15 = .ok (.bipush 12, 2) := by decide +kernel
theorem dX0_atLeast_17 : decode cX0_atLeast 17 = .ok (.idiv, 1) := by decide +kernel
theorem dX0_atLeast_18 : decode cX0_atLeast 18 = .ok (.isub, 1) := by decide +kernel
theorem dX0_atLeast_19 : decode cX0_atLeast 19 = .ok (.istore 4, 2) := by decide +kernel
theorem dX0_atLeast_21 : decode cX0_atLeast 21 = .ok (.iload_n 3, 1) := by decide +kernel
theorem dX0_atLeast_22 : decode cX0_atLeast 22 = .ok (.ifCond .ge 6, 3) := by decide +kernel
theorem dX0_atLeast_25 : decode cX0_atLeast 25 = .ok (.iload_n 3, 1) := by decide +kernel
theorem dX0_atLeast_26 : decode cX0_atLeast 26 = .ok (.ineg, 1) := by decide +kernel
theorem dX0_atLeast_27 : decode cX0_atLeast 27 = .ok (.istore_n 3, 1) := by decide +kernel
theorem dX0_atLeast_28 : decode cX0_atLeast 28 = .ok (.iload 4, 2) := by decide +kernel
theorem dX0_atLeast_30 : decode cX0_atLeast 30 = .ok (.ifCond .ge 8, 3) := by decide +kernel
theorem dX0_atLeast_33 : decode cX0_atLeast 33 = .ok (.iload 4, 2) := by decide +kernel
theorem dX0_atLeast_35 : decode cX0_atLeast 35 = .ok (.ineg, 1) := by decide +kernel
theorem dX0_atLeast_36 : decode cX0_atLeast 36 = .ok (.istore 4, 2) := by decide +kernel
theorem dX0_atLeast_38 : decode cX0_atLeast 38 = .ok (.iload_n 3, 1) := by decide +kernel
theorem dX0_atLeast_39 : decode cX0_atLeast 39 = .ok (.iload 4, 2) := by decide +kernel
theorem dX0_atLeast_41 : decode cX0_atLeast 41 = .ok (.if_icmp .ge 15, 3) := by decide +kernel
theorem dX0_atLeast_44 : decode cX0_atLeast 44 = .ok (.iconst 4, 1) := by decide +kernel
theorem dX0_atLeast_45 : decode cX0_atLeast 45 = .ok (.iload_n 3, 1) := by decide +kernel
theorem dX0_atLeast_46 : decode cX0_atLeast 46 = .ok (.imul, 1) := by decide +kernel
theorem dX0_atLeast_47 : decode cX0_atLeast 47 = .ok (.bipush 10, 2) := by decide +kernel
theorem dX0_atLeast_49 : decode cX0_atLeast 49 = .ok (.iload 4, 2) := by decide +kernel
theorem dX0_atLeast_51 : decode cX0_atLeast 51 = .ok (.imul, 1) := by decide +kernel
theorem dX0_atLeast_52 : decode cX0_atLeast 52 = .ok (.iadd, 1) := by decide +kernel
theorem dX0_atLeast_53 : decode cX0_atLeast 53 = .ok (.goto 12, 3) := by decide +kernel
theorem dX0_atLeast_56 : decode cX0_atLeast 56 = .ok (.iconst 4, 1) := by decide +kernel
theorem dX0_atLeast_57 : decode cX0_atLeast 57 = .ok (.iload 4, 2) := by decide +kernel
theorem dX0_atLeast_59 : decode cX0_atLeast 59 = .ok (.imul, 1) := by decide +kernel
theorem dX0_atLeast_60 : decode cX0_atLeast 60 = .ok (.bipush 10, 2) := by decide +kernel
theorem dX0_atLeast_62 : decode cX0_atLeast 62 = .ok (.iload_n 3, 1) := by decide +kernel
theorem dX0_atLeast_63 : decode cX0_atLeast 63 = .ok (.imul, 1) := by decide +kernel
theorem dX0_atLeast_64 : decode cX0_atLeast 64 = .ok (.iadd, 1) := by decide +kernel
theorem dX0_atLeast_65 : decode cX0_atLeast 65 = .ok (.ireturn, 1) := by decide +kernel
theorem dX0_goOn_0 : decode cX0_goOn 0 = .ok (.aload_n 0, 1) := by decide +kernel
theorem dX0_goOn_1 : decode cX0_goOn 1 = .ok (.getfield 17, 3) := by decide +kernel
theorem dX0_goOn_4 : decode cX0_goOn 4 = .ok (.iload_n 1, 1) := by decide +kernel
theorem dX0_goOn_5 : decode cX0_goOn 5 = .ok (.saload, 1) := by decide +kernel
theorem dX0_goOn_6 : decode cX0_goOn 6 = .ok (.istore_n 2, 1) := by decide +kernel
theorem dX0_goOn_7 : decode cX0_goOn 7 = .ok (.iconst 0, 1) := by decide +kernel
theorem dX0_goOn_8 : decode cX0_goOn 8 = .ok (.istore_n 3, 1) := by decide +kernel
theorem dX0_goOn_9 : decode cX0_goOn 9 = .ok (.iload_n 3, 1) := by decide +kernel
theorem dX0_goOn_10 : decode cX0_goOn 10 = .ok (.bipush 9, 2) := by decide +kernel
theorem dX0_goOn_12 : decode cX0_goOn 12 = .ok (.if_icmp .ge 174, 3) := by decide +kernel
theorem dX0_goOn_15 : decode cX0_goOn 15 = .ok (.iload_n 2, 1) := by decide +kernel
theorem dX0_goOn_16 : decode cX0_goOn 16 = .ok (.iload_n 3, 1) := by decide +kernel
theorem dX0_goOn_17 : decode cX0_goOn 17 = .ok (.ishr, 1) := by decide +kernel
theorem dX0_goOn_18 : decode cX0_goOn 18 = .ok (.iconst 1, 1) := by decide +kernel
theorem dX0_goOn_19 : decode cX0_goOn 19 = .ok (.iand, 1) := by decide +kernel
theorem dX0_goOn_20 : decode cX0_goOn 20 = .ok (.ifCond .eq 160, 3) := by decide +kernel
theorem dX0_goOn_23 : decode cX0_goOn 23 = .ok (.iload_n 3, 1) := by decide +kernel
theorem dX0_goOn_24 : decode cX0_goOn 24 = .ok (.iconst 4, 1) := by decide +kernel
theorem dX0_goOn_25 : decode cX0_goOn 25 = .ok (.if_icmp .ne 6, 3) := by decide +kernel
theorem dX0_goOn_28 : decode cX0_goOn 28 = .ok (.goto 152, 3) := by decide +kernel
theorem dX0_goOn_31 : decode cX0_goOn 31 = .ok (.iload_n 3, 1) := by decide +kernel
theorem dX0_goOn_32 : decode cX0_goOn 32 = .ok (.iconst 3, 1) := by decide +kernel
theorem dX0_goOn_33 : decode cX0_goOn 33 = .ok (.irem, 1) := by decide +kernel
theorem dX0_goOn_34 : decode cX0_goOn 34 = .ok (.iconst 1, 1) := by decide +kernel
theorem dX0_goOn_35 : decode cX0_goOn 35 = .ok (.isub, 1) := by decide +kernel
theorem dX0_goOn_36 : decode cX0_goOn 36 = .ok (.istore 4, 2) := by decide +kernel
theorem dX0_goOn_38 : decode cX0_goOn 38 = .ok (.iload_n 3, 1) := by decide +kernel
theorem dX0_goOn_39 : decode cX0_goOn 39 = .ok (.iconst 3, 1) := by decide +kernel
theorem dX0_goOn_40 : decode cX0_goOn 40 = .ok (.idiv, 1) := by decide +kernel
theorem dX0_goOn_41 : decode cX0_goOn 41 = .ok (.iconst 1, 1) := by decide +kernel
theorem dX0_goOn_42 : decode cX0_goOn 42 = .ok (.isub, 1) := by decide +kernel
theorem dX0_goOn_43 : decode cX0_goOn 43 = .ok (.istore 5, 2) := by decide +kernel
theorem dX0_goOn_45 : decode cX0_goOn 45 = .ok (.iload 4, 2) := by decide +kernel
theorem dX0_goOn_47 : decode cX0_goOn 47 = .ok (.ifCond .eq 12, 3) := by decide +kernel
theorem dX0_goOn_50 : decode cX0_goOn 50 = .ok (.iload 5, 2) := by decide +kernel
theorem dX0_goOn_52 : decode cX0_goOn 52 = .ok (.ifCond .eq 7, 3) := by decide +kernel
theorem dX0_goOn_55 : decode cX0_goOn 55 = .ok (.iconst 1, 1) := by decide +kernel
theorem dX0_goOn_56 : decode cX0_goOn 56 = .ok (.goto 4, 3) := by decide +kernel
theorem dX0_goOn_59 : decode cX0_goOn 59 = .ok (.iconst 0, 1) := by decide +kernel
theorem dX0_goOn_60 : decode cX0_goOn 60 = .ok (.istore 6, 2) := by decide +kernel
theorem dX0_goOn_62 : decode cX0_goOn 62 = .ok (.iload 6, 2) := by decide +kernel
theorem dX0_goOn_64 : decode cX0_goOn 64 = .ok (.ifCond .eq 15, 3) := by decide +kernel
theorem dX0_goOn_67 : decode cX0_goOn 67 = .ok (.aload_n 0, 1) := by decide +kernel
theorem dX0_goOn_68 : decode cX0_goOn 68 = .ok (.iload_n 1, 1) := by decide +kernel
theorem dX0_goOn_69 : decode cX0_goOn 69 = .ok (.iload 4, 2) := by decide +kernel
theorem dX0_goOn_71 : decode cX0_goOn 71 = .ok (.iload 5, 2) := by decide +kernel
theorem dX0_goOn_73 : decode cX0_goOn 73 = .ok (.invokevirtual 77, 3) := by decide +kernel
theorem dX0_goOn_76 : decode cX0_goOn 76 = .ok (.goto 12, 3) := by decide +kernel
theorem dX0_goOn_79 : decode cX0_goOn 79 = .ok (.aload_n 0, 1) := by decide +kernel
theorem dX0_goOn_80 : decode cX0_goOn 80 = .ok (.iload_n 1, 1) := by decide +kernel
theorem dX0_goOn_81 : decode cX0_goOn 81 = .ok (.iload 4, 2) := by decide +kernel
theorem dX0_goOn_83 : decode cX0_goOn 83 = .ok (.iload 5, 2) := by decide +kernel
theorem dX0_goOn_85 : decode cX0_goOn 85 = .ok (.invokevirtual 56, 3) := by decide +kernel
theorem dX0_goOn_88 : decode cX0_goOn 88 = .ok (.istore 7, 2) := by decide +kernel
theorem dX0_goOn_90 : decode cX0_goOn 90 = .ok (.iload 7, 2) := by decide +kernel
theorem dX0_goOn_92 : decode cX0_goOn 92 = .ok (.ifCond .ne 6, 3) := by decide +kernel
theorem dX0_goOn_95 : decode cX0_goOn 95 = .ok (.goto 85, 3) := by decide +kernel
theorem dX0_goOn_98 : decode cX0_goOn 98 = .ok (.aload_n 0, 1) := by decide +kernel
theorem dX0_goOn_99 : decode cX0_goOn 99 = .ok (.getfield 45, 3) := by decide +kernel
theorem dX0_goOn_102 : decode cX0_goOn 102 = .ok (.istore 8, 2) := by decide +kernel
theorem dX0_goOn_104 : decode cX0_goOn 104 = .ok (.aload_n 0, 1) := by decide +kernel
theorem dX0_goOn_105 : decode cX0_goOn 105 = .ok (.iload 4, 2) := by decide +kernel
theorem dX0_goOn_107 : decode cX0_goOn 107 = .ok (.iload 5, 2) := by decide +kernel
theorem dX0_goOn_109 : decode cX0_goOn 109 = .ok (.invokevirtual 42, 3) := by decide +kernel
theorem dX0_goOn_112 : decode cX0_goOn 112 = .ok (.aload_n 0, 1) := by decide +kernel
theorem dX0_goOn_113 : decode cX0_goOn 113 = .ok (.iload 8, 2) := by decide +kernel
theorem dX0_goOn_115 : decode cX0_goOn 115 = .ok (.iload 4, 2) := by decide +kernel
theorem dX0_goOn_117 : decode cX0_goOn 117 = .ok (.iload 5, 2) := by decide +kernel
theorem dX0_goOn_119 : decode cX0_goOn 119 = .ok (.invokevirtual 52, 3) := by decide +kernel
theorem dX0_goOn_122 : decode cX0_goOn 122 = .ok (.ior, 1) := by decide +kernel
theorem dX0_goOn_123 : decode cX0_goOn 123 = .ok (.istore 9, 2) := by decide +kernel
theorem dX0_goOn_125 : decode cX0_goOn 125 = .ok (.iload 6, 2) := by decide +kernel
theorem dX0_goOn_127 : decode cX0_goOn 127 = .ok (.ifCond .eq 23, 3) := by decide +kernel
theorem dX0_goOn_130 : decode cX0_goOn 130 = .ok (.iload 9, 2) := by decide +kernel
end
section
set_option maxRecDepth 100000
theorem dX0_goOn_132 : decode cX0_goOn 132 = .ok (.aload_n 0, 1) := by decide +kernel
theorem dX0_goOn_133 : decode cX0_goOn 133 = .ok (.iload 4, 2) := by decide +kernel
theorem dX0_goOn_135 : decode cX0_goOn 135 = .ok (.iconst 0, 1) := by decide +kernel
theorem dX0_goOn_136 : decode cX0_goOn 136 = .ok (.invokevirtual 42, 3) := by decide +kernel
theorem dX0_goOn_139 : decode cX0_goOn 139 = .ok (.aload_n 0, 1) := by decide +kernel
theorem dX0_goOn_140 : decode cX0_goOn 140 = .ok (.iconst 0, 1) := by decide +kernel
theorem dX0_goOn_141 : decode cX0_goOn 141 = .ok (.iload 5, 2) := by decide +kernel
theorem dX0_goOn_143 : decode cX0_goOn 143 = .ok (.invokevirtual 42, 3) := by decide +kernel
theorem dX0_goOn_146 : decode cX0_goOn 146 = .ok (.ior, 1) := by decide +kernel
theorem dX0_goOn_147 : decode cX0_goOn 147 = .ok (.ior, 1) := by decide +kernel
theorem dX0_goOn_148 : decode cX0_goOn 148 = .ok (.istore 9, 2) := by decide +kernel
theorem dX0_goOn_150 : decode cX0_goOn 150 = .ok (.aload_n 0, 1) := by decide +kernel
theorem dX0_goOn_151 : decode cX0_goOn 151 = .ok (.iload 8, 2) := by decide +kernel
theorem dX0_goOn_153 : decode cX0_goOn 153 = .ok (.aload_n 0, 1) := by decide +kernel
theorem dX0_goOn_154 : decode cX0_goOn 154 = .ok (.getfield 13, 3) := by decide +kernel
theorem dX0_goOn_157 : decode cX0_goOn 157 = .ok (.iload_n 1, 1) := by decide +kernel
theorem dX0_goOn_158 : decode cX0_goOn 158 = .ok (.saload, 1) := by decide +kernel
theorem dX0_goOn_159 : decode cX0_goOn 159 = .ok (.iload 7, 2) := by decide +kernel
theorem dX0_goOn_161 : decode cX0_goOn 161 = .ok (.iload 6, 2) := by decide +kernel
theorem dX0_goOn_163 : decode cX0_goOn 163 = .ok (.ifCond .eq 8, 3) := by decide +kernel
theorem dX0_goOn_166 : decode cX0_goOn 166 = .ok (.bipush 14, 2) := by decide +kernel
theorem dX0_goOn_168 : decode cX0_goOn 168 = .ok (.goto 5, 3) := by decide +kernel
theorem dX0_goOn_171 : decode cX0_goOn 171 = .ok (.bipush 10, 2) := by decide +kernel
theorem dX0_goOn_173 : decode cX0_goOn 173 = .ok (.imul, 1) := by decide +kernel
theorem dX0_goOn_174 : decode cX0_goOn 174 = .ok (.iadd, 1) := by decide +kernel
theorem dX0_goOn_175 : decode cX0_goOn 175 = .ok (.iload 9, 2) := by decide +kernel
theorem dX0_goOn_177 : decode cX0_goOn 177 = .ok (.invokevirtual 65, 3) := by decide +kernel
theorem dX0_goOn_180 : decode cX0_goOn 180 = .ok (.iinc 3 1, 3) := by decide +kernel
theorem dX0_goOn_183 : decode cX0_goOn 183 = .ok (.goto (-174), 3) := by decide +kernel
theorem dX0_goOn_186 : decode cX0_goOn 186 = .ok (.return_, 1) := by decide +kernel
theorem dX0_jumpDiagonal_0 : decode cX0_jumpDiagonal 0 = .ok (.iload_n 1, 1) := by decide +kernel
theorem dX0_jumpDiagonal_1 : decode cX0_jumpDiagonal 1 = .ok (.istore 4, 2) := by decide +kernel
theorem dX0_jumpDiagonal_3 : decode cX0_jumpDiagonal 3 = .ok (.iconst 0, 1) := by decide +kernel
theorem dX0_jumpDiagonal_4 : decode cX0_jumpDiagonal 4 = .ok (.istore 5, 2) := by decide +kernel
theorem dX0_jumpDiagonal_6 : decode cX0_jumpDiagonal 6 = .ok (.aload_n 0, 1) := by decide +kernel
theorem dX0_jumpDiagonal_7 : decode cX0_jumpDiagonal 7 = .ok (.iload 4, 2) := by decide +kernel
theorem dX0_jumpDiagonal_9 : decode cX0_jumpDiagonal 9 = .ok (.iload_n 2, 1) := by decide +kernel
theorem dX0_jumpDiagonal_10 : decode cX0_jumpDiagonal 10 = .ok (.iload_n 3, 1) := by decide +kernel
theorem dX0_jumpDiagonal_11 : decode cX0_jumpDiagonal 11 = .ok (.invokevirtual 35, 3) := by decide +kernel
theorem dX0_jumpDiagonal_14 : decode cX0_jumpDiagonal 14 = .ok (.ifCond .eq 95, 3) := by decide +kernel
theorem dX0_jumpDiagonal_17 : decode cX0_jumpDiagonal 17 = .ok (.iload 4, 2) := by decide +kernel
theorem dX0_jumpDiagonal_19 : decode cX0_jumpDiagonal 19 = .ok (.bipush 12, 2) := by decide +kernel
theorem dX0_jumpDiagonal_21 : decode cX0_jumpDiagonal 21 = .ok (.iload_n 3, 1) := by decide +kernel
theorem dX0_jumpDiagonal_22 : decode cX0_jumpDiagonal 22 = .ok (.imul, 1) := by decide +kernel
theorem dX0_jumpDiagonal_23 : decode cX0_jumpDiagonal 23 = .ok (.iload_n 2, 1) := by decide +kernel
theorem dX0_jumpDiagonal_24 : decode cX0_jumpDiagonal 24 = .ok (.iadd, 1) := by decide +kernel
theorem dX0_jumpDiagonal_25 : decode cX0_jumpDiagonal 25 = .ok (.iadd, 1) := by decide +kernel
theorem dX0_jumpDiagonal_26 : decode cX0_jumpDiagonal 26 = .ok (.istore 4, 2) := by decide +kernel
theorem dX0_jumpDiagonal_28 : decode cX0_jumpDiagonal 28 = .ok (.iinc 5 1, 3) := by decide +kernel
theorem dX0_jumpDiagonal_31 : decode cX0_jumpDiagonal 31 = .ok (.iload 4, 2) := by decide +kernel
theorem dX0_jumpDiagonal_33 : decode cX0_jumpDiagonal 33 = .ok (.aload_n 0, 1) := by decide +kernel
theorem dX0_jumpDiagonal_34 : decode cX0_jumpDiagonal 34 = .ok (.getfield 49, 3) := by decide +kernel
theorem dX0_jumpDiagonal_37 : decode cX0_jumpDiagonal 37 = .ok (.if_icmp .eq 14, 3) := by decide +kernel
theorem dX0_jumpDiagonal_40 : decode cX0_jumpDiagonal 40 = .ok (.aload_n 0, 1) := by decide +kernel
theorem dX0_jumpDiagonal_41 : decode cX0_jumpDiagonal 41 = .ok (.iload 4, 2) := by decide +kernel
theorem dX0_jumpDiagonal_43 : decode cX0_jumpDiagonal 43 = .ok (.iload_n 2, 1) := by decide +kernel
theorem dX0_jumpDiagonal_44 : decode cX0_jumpDiagonal 44 = .ok (.iload_n 3, 1) := by decide +kernel
theorem dX0_jumpDiagonal_45 : decode cX0_jumpDiagonal 45 = .ok (.invokevirtual 52, 3) := by decide +kernel
theorem dX0_jumpDiagonal_48 : decode cX0_jumpDiagonal 48 = .ok (.ifCond .eq 7, 3) := by decide +kernel
theorem dX0_jumpDiagonal_51 : decode cX0_jumpDiagonal 51 = .ok (.iconst 1, 1) := by decide +kernel
theorem dX0_jumpDiagonal_52 : decode cX0_jumpDiagonal 52 = .ok (.goto 4, 3) := by decide +kernel
theorem dX0_jumpDiagonal_55 : decode cX0_jumpDiagonal 55 = .ok (.iconst 0, 1) := by decide +kernel
theorem dX0_jumpDiagonal_56 : decode cX0_jumpDiagonal 56 = .ok (.istore 6, 2) := by decide +kernel
theorem dX0_jumpDiagonal_58 : decode cX0_jumpDiagonal 58 = .ok (.iload 6, 2) := by decide +kernel
theorem dX0_jumpDiagonal_60 : decode cX0_jumpDiagonal 60 = .ok (.ifCond .ne 32, 3) := by decide +kernel
theorem dX0_jumpDiagonal_63 : decode cX0_jumpDiagonal 63 = .ok (.aload_n 0, 1) := by decide +kernel
theorem dX0_jumpDiagonal_64 : decode cX0_jumpDiagonal 64 = .ok (.iload 4, 2) := by decide +kernel
theorem dX0_jumpDiagonal_66 : decode cX0_jumpDiagonal 66 = .ok (.iload_n 2, 1) := by decide +kernel
theorem dX0_jumpDiagonal_67 : decode cX0_jumpDiagonal 67 = .ok (.iconst 0, 1) := by decide +kernel
theorem dX0_jumpDiagonal_68 : decode cX0_jumpDiagonal 68 = .ok (.invokevirtual 56, 3) := by decide +kernel
theorem dX0_jumpDiagonal_71 : decode cX0_jumpDiagonal 71 = .ok (.ifCond .gt 14, 3) := by decide +kernel
theorem dX0_jumpDiagonal_74 : decode cX0_jumpDiagonal 74 = .ok (.aload_n 0, 1) := by decide +kernel
theorem dX0_jumpDiagonal_75 : decode cX0_jumpDiagonal 75 = .ok (.iload 4, 2) := by decide +kernel
theorem dX0_jumpDiagonal_77 : decode cX0_jumpDiagonal 77 = .ok (.iconst 0, 1) := by decide +kernel
theorem dX0_jumpDiagonal_78 : decode cX0_jumpDiagonal 78 = .ok (.iload_n 3, 1) := by decide +kernel
theorem dX0_jumpDiagonal_79 : decode cX0_jumpDiagonal 79 = .ok (.invokevirtual 56, 3) := by decide +kernel
theorem dX0_jumpDiagonal_82 : decode cX0_jumpDiagonal 82 = .ok (.ifCond .le 7, 3) := by decide +kernel
theorem dX0_jumpDiagonal_85 : decode cX0_jumpDiagonal 85 = .ok (.iconst 1, 1) := by decide +kernel
theorem dX0_jumpDiagonal_86 : decode cX0_jumpDiagonal 86 = .ok (.goto 4, 3) := by decide +kernel
theorem dX0_jumpDiagonal_89 : decode cX0_jumpDiagonal 89 = .ok (.iconst 0, 1) := by decide +kernel
theorem dX0_jumpDiagonal_90 : decode cX0_jumpDiagonal 90 = .ok (.istore 6, 2) := by decide +kernel
theorem dX0_jumpDiagonal_92 : decode cX0_jumpDiagonal 92 = .ok (.iload 6, 2) := by decide +kernel
theorem dX0_jumpDiagonal_94 : decode cX0_jumpDiagonal 94 = .ok (.ifCond .eq 12, 3) := by decide +kernel
theorem dX0_jumpDiagonal_97 : decode cX0_jumpDiagonal 97 = .ok (.aload_n 0, 1) := by decide +kernel
theorem dX0_jumpDiagonal_98 : decode cX0_jumpDiagonal 98 = .ok (.iload 4, 2) := by decide +kernel
theorem dX0_jumpDiagonal_100 : decode cX0_jumpDiagonal 100 = .ok (.putfield 45, 3) := by decide +kernel
theorem dX0_jumpDiagonal_103 : decode cX0_jumpDiagonal 103 = .ok (.iload 5, 2) := by decide +kernel
theorem dX0_jumpDiagonal_105 : decode cX0_jumpDiagonal 105 = .ok (.ireturn, 1) := by decide +kernel
theorem dX0_jumpDiagonal_106 : decode cX0_jumpDiagonal 106 = .ok (.goto (-100), 3) := by decide +kernel
theorem dX0_jumpDiagonal_109 : decode cX0_jumpDiagonal 109 = .ok (.aload_n 0, 1) := by decide +kernel
theorem dX0_jumpDiagonal_110 : decode cX0_jumpDiagonal 110 = .ok (.iconst (-1), 1) := by decide +kernel
theorem dX0_jumpDiagonal_111 : decode cX0_jumpDiagonal 111 = .ok (.putfield 45, 3) := by decide +kernel
theorem dX0_jumpDiagonal_114 : decode cX0_jumpDiagonal 114 = .ok (.iconst 0, 1) := by decide +kernel
theorem dX0_jumpDiagonal_115 : decode cX0_jumpDiagonal 115 = .ok (.ireturn, 1) := by decide +kernel
theorem dX0_freeBeside_0 : decode cX0_freeBeside 0 = .ok (.iload_n 1, 1) := by decide +kernel
theorem dX0_freeBeside_1 : decode cX0_freeBeside 1 = .ok (.bipush 12, 2) := by decide +kernel
theorem dX0_freeBeside_3 : decode cX0_freeBeside 3 = .ok (.irem, 1) := by decide +kernel
theorem dX0_freeBeside_4 : decode cX0_freeBeside 4 = .ok (.iload_n 2, 1) := by decide +kernel
theorem dX0_freeBeside_5 : decode cX0_freeBeside 5 = .ok (.iadd, 1) := by decide +kernel
theorem dX0_freeBeside_6 : decode cX0_freeBeside 6 = .ok (.istore 4, 2) := by decide +kernel
theorem dX0_freeBeside_8 : decode cX0_freeBeside 8 = .ok (.iload_n 1, 1) := by decide +kernel
theorem dX0_freeBeside_9 : decode cX0_freeBeside 9 = .ok (.bipush 12, 2) := by decide +kernel
theorem dX0_freeBeside_11 : decode cX0_freeBeside 11 = .ok (.idiv, 1) := by decide +kernel
theorem dX0_freeBeside_12 : decode cX0_freeBeside 12 = .ok (.iload_n 3, 1) := by decide +kernel
theorem dX0_freeBeside_13 : decode cX0_freeBeside 13 = .ok (.iadd, 1) := by decide +kernel
theorem dX0_freeBeside_14 : decode cX0_freeBeside 14 = .ok (.istore 5, 2) := by decide +kernel
theorem dX0_freeBeside_16 : decode cX0_freeBeside 16 = .ok (.iload 4, 2) := by decide +kernel
theorem dX0_freeBeside_18 : decode cX0_freeBeside 18 = .ok (.ifCond .lt 42, 3) := by decide +kernel
theorem dX0_freeBeside_21 : decode cX0_freeBeside 21 = .ok (.iload 4, 2) := by decide +kernel
theorem dX0_freeBeside_23 : decode cX0_freeBeside 23 = .ok (.bipush 12, 2) := by decide +kernel
theorem dX0_freeBeside_25 : decode cX0_freeBeside 25 = .ok (.if_icmp .ge 35, 3) := by decide +kernel
theorem dX0_freeBeside_28 : decode cX0_freeBeside 28 = .ok (.iload 5, 2) := by decide +kernel
theorem dX0_freeBeside_30 : decode cX0_freeBeside 30 = .ok (.ifCond .lt 30, 3) := by decide +kernel
theorem dX0_freeBeside_33 : decode cX0_freeBeside 33 = .ok (.iload 5, 2) := by decide +kernel
theorem dX0_freeBeside_35 : decode cX0_freeBeside 35 = .ok (.bipush 12, 2) := by decide +kernel
theorem dX0_freeBeside_37 : decode cX0_freeBeside 37 = .ok (.if_icmp .ge 23, 3) := by decide +kernel
theorem dX0_freeBeside_40 : decode cX0_freeBeside 40 = .ok (.aload_n 0, 1) := by decide +kernel
theorem dX0_freeBeside_41 : decode cX0_freeBeside 41 = .ok (.getfield 7, 3) := by decide +kernel
theorem dX0_freeBeside_44 : decode cX0_freeBeside 44 = .ok (.bipush 12, 2) := by decide +kernel
theorem dX0_freeBeside_46 : decode cX0_freeBeside 46 = .ok (.iload 5, 2) := by decide +kernel
theorem dX0_freeBeside_48 : decode cX0_freeBeside 48 = .ok (.imul, 1) := by decide +kernel
theorem dX0_freeBeside_49 : decode cX0_freeBeside 49 = .ok (.iload 4, 2) := by decide +kernel
theorem dX0_freeBeside_51 : decode cX0_freeBeside 51 = .ok (.iadd, 1) := by decide +kernel
theorem dX0_freeBeside_52 : decode cX0_freeBeside 52 = .ok (.baload, 1) := by decide +kernel
theorem dX0_freeBeside_53 : decode cX0_freeBeside 53 = .ok (.ifCond .ne 7, 3) := by decide +kernel
theorem dX0_freeBeside_56 : decode cX0_freeBeside 56 = .ok (.iconst 1, 1) := by decide +kernel
theorem dX0_freeBeside_57 : decode cX0_freeBeside 57 = .ok (.goto 4, 3) := by decide +kernel
theorem dX0_freeBeside_60 : decode cX0_freeBeside 60 = .ok (.iconst 0, 1) := by decide +kernel
theorem dX0_freeBeside_61 : decode cX0_freeBeside 61 = .ok (.ireturn, 1) := by decide +kernel
theorem dX0_forced_0 : decode cX0_forced 0 = .ok (.iconst 0, 1) := by decide +kernel
theorem dX0_forced_1 : decode cX0_forced 1 = .ok (.istore 4, 2) := by decide +kernel
theorem dX0_forced_3 : decode cX0_forced 3 = .ok (.iload_n 2, 1) := by decide +kernel
theorem dX0_forced_4 : decode cX0_forced 4 = .ok (.ifCond .eq 78, 3) := by decide +kernel
theorem dX0_forced_7 : decode cX0_forced 7 = .ok (.iload_n 3, 1) := by decide +kernel
theorem dX0_forced_8 : decode cX0_forced 8 = .ok (.ifCond .eq 74, 3) := by decide +kernel
theorem dX0_forced_11 : decode cX0_forced 11 = .ok (.aload_n 0, 1) := by decide +kernel
theorem dX0_forced_12 : decode cX0_forced 12 = .ok (.iload_n 1, 1) := by decide +kernel
theorem dX0_forced_13 : decode cX0_forced 13 = .ok (.iload_n 2, 1) := by decide +kernel
theorem dX0_forced_14 : decode cX0_forced 14 = .ok (.ineg, 1) := by decide +kernel
theorem dX0_forced_15 : decode cX0_forced 15 = .ok (.iconst 0, 1) := by decide +kernel
theorem dX0_forced_16 : decode cX0_forced 16 = .ok (.invokevirtual 39, 3) := by decide +kernel
theorem dX0_forced_19 : decode cX0_forced 19 = .ok (.ifCond .eq 26, 3) := by decide +kernel
theorem dX0_forced_22 : decode cX0_forced 22 = .ok (.aload_n 0, 1) := by decide +kernel
theorem dX0_forced_23 : decode cX0_forced 23 = .ok (.iload_n 1, 1) := by decide +kernel
theorem dX0_forced_24 : decode cX0_forced 24 = .ok (.iload_n 2, 1) := by decide +kernel
theorem dX0_forced_25 : decode cX0_forced 25 = .ok (.ineg, 1) := by decide +kernel
theorem dX0_forced_26 : decode cX0_forced 26 = .ok (.iload_n 3, 1) := by decide +kernel
theorem dX0_forced_27 : decode cX0_forced 27 = .ok (.invokevirtual 35, 3) := by decide +kernel
theorem dX0_forced_30 : decode cX0_forced 30 = .ok (.ifCond .eq 15, 3) := by decide +kernel
theorem dX0_forced_33 : decode cX0_forced 33 = .ok (.iload 4, 2) := by decide +kernel
theorem dX0_forced_35 : decode cX0_forced 35 = .ok (.aload_n 0, 1) := by decide +kernel
theorem dX0_forced_36 : decode cX0_forced 36 = .ok (.iload_n 2, 1) := by decide +kernel
theorem dX0_forced_37 : decode cX0_forced 37 = .ok (.ineg, 1) := by decide +kernel
theorem dX0_forced_38 : decode cX0_forced 38 = .ok (.iload_n 3, 1) := by decide +kernel
theorem dX0_forced_39 : decode cX0_forced 39 = .ok (.invokevirtual 42, 3) := by decide +kernel
theorem dX0_forced_42 : decode cX0_forced 42 = .ok (.ior, 1) := by decide +kernel
theorem dX0_forced_43 : decode cX0_forced 43 = .ok (.istore 4, 2) := by decide +kernel
theorem dX0_forced_45 : decode cX0_forced 45 = .ok (.aload_n 0, 1) := by decide +kernel
theorem dX0_forced_46 : decode cX0_forced 46 = .ok (.iload_n 1, 1) := by decide +kernel
theorem dX0_forced_47 : decode cX0_forced 47 = .ok (.iconst 0, 1) := by decide +kernel
theorem dX0_forced_48 : decode cX0_forced 48 = .ok (.iload_n 3, 1) := by decide +kernel
theorem dX0_forced_49 : decode cX0_forced 49 = .ok (.ineg, 1) := by decide +kernel
theorem dX0_forced_50 : decode cX0_forced 50 = .ok (.invokevirtual 39, 3) := by decide +kernel
theorem dX0_forced_53 : decode cX0_forced 53 = .ok (.ifCond .eq 26, 3) := by decide +kernel
theorem dX0_forced_56 : decode cX0_forced 56 = .ok (.aload_n 0, 1) := by decide +kernel
theorem dX0_forced_57 : decode cX0_forced 57 = .ok (.iload_n 1, 1) := by decide +kernel
theorem dX0_forced_58 : decode cX0_forced 58 = .ok (.iload_n 2, 1) := by decide +kernel
theorem dX0_forced_59 : decode cX0_forced 59 = .ok (.iload_n 3, 1) := by decide +kernel
theorem dX0_forced_60 : decode cX0_forced 60 = .ok (.ineg, 1) := by decide +kernel
theorem dX0_forced_61 : decode cX0_forced 61 = .ok (.invokevirtual 35, 3) := by decide +kernel
theorem dX0_forced_64 : decode cX0_forced 64 = .ok (.ifCond .eq 15, 3) := by decide +kernel
theorem dX0_forced_67 : decode cX0_forced 67 = .ok (.iload 4, 2) := by decide +kernel
theorem dX0_forced_69 : decode cX0_forced 69 = .ok (.aload_n 0, 1) := by decide +kernel
theorem dX0_forced_70 : decode cX0_forced 70 = .ok (.iload_n 2, 1) := by decide +kernel
theorem dX0_forced_71 : decode cX0_forced 71 = .ok (.iload_n 3, 1) := by decide +kernel
theorem dX0_forced_72 : decode cX0_forced 72 = .ok (.ineg, 1) := by decide +kernel
theorem dX0_forced_73 : decode cX0_forced 73 = .ok (.invokevirtual 42, 3) := by decide +kernel
theorem dX0_forced_76 : decode cX0_forced 76 = .ok (.ior, 1) := by decide +kernel
theorem dX0_forced_77 : decode cX0_forced 77 = .ok (.istore 4, 2) := by decide +kernel
theorem dX0_forced_79 : decode cX0_forced 79 = .ok (.iload 4, 2) := by decide +kernel
theorem dX0_forced_81 : decode cX0_forced 81 = .ok (.ireturn, 1) := by decide +kernel
theorem dX0_forced_82 : decode cX0_forced 82 = .ok (.iconst (-1), 1) := by decide +kernel
theorem dX0_forced_83 : decode cX0_forced 83 = .ok (.istore 5, 2) := by decide +kernel
theorem dX0_forced_85 : decode cX0_forced 85 = .ok (.iload 5, 2) := by decide +kernel
theorem dX0_forced_87 : decode cX0_forced 87 = .ok (.iconst 1, 1) := by decide +kernel
theorem dX0_forced_88 : decode cX0_forced 88 = .ok (.if_icmp .gt 78, 3) := by decide +kernel
theorem dX0_forced_91 : decode cX0_forced 91 = .ok (.iload_n 2, 1) := by decide +kernel
theorem dX0_forced_92 : decode cX0_forced 92 = .ok (.ifCond .ne 8, 3) := by decide +kernel
theorem dX0_forced_95 : decode cX0_forced 95 = .ok (.iload 5, 2) := by decide +kernel
theorem dX0_forced_97 : decode cX0_forced 97 = .ok (.goto 4, 3) := by decide +kernel
theorem dX0_forced_100 : decode cX0_forced 100 = .ok (.iconst 0, 1) := by decide +kernel
theorem dX0_forced_101 : decode cX0_forced 101 = .ok (.istore 6, 2) := by decide +kernel
theorem dX0_forced_103 : decode cX0_forced 103 = .ok (.iload_n 3, 1) := by decide +kernel
theorem dX0_forced_104 : decode cX0_forced 104 = .ok (.ifCond .ne 8, 3) := by decide +kernel
theorem dX0_forced_107 : decode cX0_forced 107 = .ok (.iload 5, 2) := by decide +kernel
theorem dX0_forced_109 : decode cX0_forced 109 = .ok (.goto 4, 3) := by decide +kernel
theorem dX0_forced_112 : decode cX0_forced 112 = .ok (.iconst 0, 1) := by decide +kernel
theorem dX0_forced_113 : decode cX0_forced 113 = .ok (.istore 7, 2) := by decide +kernel
theorem dX0_forced_115 : decode cX0_forced 115 = .ok (.aload_n 0, 1) := by decide +kernel
theorem dX0_forced_116 : decode cX0_forced 116 = .ok (.iload_n 1, 1) := by decide +kernel
theorem dX0_forced_117 : decode cX0_forced 117 = .ok (.iload 6, 2) := by decide +kernel
theorem dX0_forced_119 : decode cX0_forced 119 = .ok (.iload 7, 2) := by decide +kernel
theorem dX0_forced_121 : decode cX0_forced 121 = .ok (.invokevirtual 39, 3) := by decide +kernel
theorem dX0_forced_124 : decode cX0_forced 124 = .ok (.ifCond .eq 36, 3) := by decide +kernel
theorem dX0_forced_127 : decode cX0_forced 127 = .ok (.aload_n 0, 1) := by decide +kernel
theorem dX0_forced_128 : decode cX0_forced 128 = .ok (.iload_n 1, 1) := by decide +kernel
theorem dX0_forced_129 : decode cX0_forced 129 = .ok (.iload_n 2, 1) := by decide +kernel
theorem dX0_forced_130 : decode cX0_forced 130 = .ok (.iload 6, 2) := by decide +kernel
theorem dX0_forced_132 : decode cX0_forced 132 = .ok (.iadd, 1) := by decide +kernel
theorem dX0_forced_133 : decode cX0_forced 133 = .ok (.iload_n 3, 1) := by decide +kernel
theorem dX0_forced_134 : decode cX0_forced 134 = .ok (.iload 7, 2) := by decide +kernel
theorem dX0_forced_136 : decode cX0_forced 136 = .ok (.iadd, 1) := by decide +kernel
theorem dX0_forced_137 : decode cX0_forced 137 = .ok (.invokevirtual 35, 3) := by decide +kernel
theorem dX0_forced_140 : decode cX0_forced 140 = .ok (.ifCond .eq 20, 3) := by decide +kernel
theorem dX0_forced_143 : decode cX0_forced 143 = .ok (.iload 4, 2) := by decide +kernel
theorem dX0_forced_145 : decode cX0_forced 145 = .ok (.aload_n 0, 1) := by decide +kernel
theorem dX0_forced_146 : decode cX0_forced 146 = .ok (.iload_n 2, 1) := by decide +kernel
theorem dX0_forced_147 : decode cX0_forced 147 = .ok (.iload 6, 2) := by decide +kernel
theorem dX0_forced_149 : decode cX0_forced 149 = .ok (.iadd, 1) := by decide +kernel
theorem dX0_forced_150 : decode cX0_forced 150 = .ok (.iload_n 3, 1) := by decide +kernel
theorem dX0_forced_151 : decode cX0_forced 151 = .ok (.iload 7, 2) := by decide +kernel
theorem dX0_forced_153 : decode cX0_forced 153 = .ok (.iadd, 1) := by decide +kernel
theorem dX0_forced_154 : decode cX0_forced 154 = .ok (.invokevirtual 42, 3) := by decide +kernel
theorem dX0_forced_157 : decode cX0_forced 157 = .ok (.ior, 1) := by decide +kernel
theorem dX0_forced_158 : decode cX0_forced 158 = .ok (.istore 4, 2) := by decide +kernel
theorem dX0_forced_160 : decode cX0_forced 160 = .ok (.iinc 5 2, 3) := by decide +kernel
theorem dX0_forced_163 : decode cX0_forced 163 = .ok (.goto (-78), 3) := by decide +kernel
theorem dX0_forced_166 : decode cX0_forced 166 = .ok (.iload 4, 2) := by decide +kernel
theorem dX0_forced_168 : decode cX0_forced 168 = .ok (.ireturn, 1) := by decide +kernel
theorem dX0_wallBeside_0 : decode cX0_wallBeside 0 = .ok (.aload_n 0, 1) := by decide +kernel
theorem dX0_wallBeside_1 : decode cX0_wallBeside 1 = .ok (.iload_n 1, 1) := by decide +kernel
theorem dX0_wallBeside_2 : decode cX0_wallBeside 2 = .ok (.iload_n 2, 1) := by decide +kernel
theorem dX0_wallBeside_3 : decode cX0_wallBeside 3 = .ok (.iload_n 3, 1) := by decide +kernel
theorem dX0_wallBeside_4 : decode cX0_wallBeside 4 = .ok (.invokevirtual 35, 3) := by decide +kernel
theorem dX0_wallBeside_7 : decode cX0_wallBeside 7 = .ok (.ifCond .ne 7, 3) := by decide +kernel
theorem dX0_wallBeside_10 : decode cX0_wallBeside 10 = .ok (.iconst 1, 1) := by decide +kernel
theorem dX0_wallBeside_11 : decode cX0_wallBeside 11 = .ok (.goto 4, 3) := by decide +kernel
theorem dX0_wallBeside_14 : decode cX0_wallBeside 14 = .ok (.iconst 0, 1) := by decide +kernel
theorem dX0_wallBeside_15 : decode cX0_wallBeside 15 = .ok (.ireturn, 1) := by decide +kernel
theorem dX0_bitOf_0 : decode cX0_bitOf 0 = .ok (.iconst 1, 1) := by decide +kernel
theorem dX0_bitOf_1 : decode cX0_bitOf 1 = .ok (.iconst 3, 1) := by decide +kernel
theorem dX0_bitOf_2 : decode cX0_bitOf 2 = .ok (.iload_n 2, 1) := by decide +kernel
theorem dX0_bitOf_3 : decode cX0_bitOf 3 = .ok (.iconst 1, 1) := by decide +kernel
theorem dX0_bitOf_4 : decode cX0_bitOf 4 = .ok (.iadd, 1) := by decide +kernel
theorem dX0_bitOf_5 : decode cX0_bitOf 5 = .ok (.imul, 1) := by decide +kernel
theorem dX0_bitOf_6 : decode cX0_bitOf 6 = .ok (.iload_n 1, 1) := by decide +kernel
theorem dX0_bitOf_7 : decode cX0_bitOf 7 = .ok (.iadd, 1) := by decide +kernel
theorem dX0_bitOf_8 : decode cX0_bitOf 8 = .ok (.iconst 1, 1) := by decide +kernel
theorem dX0_bitOf_9 : decode cX0_bitOf 9 = .ok (.iadd, 1) := by decide +kernel
theorem dX0_bitOf_10 : decode cX0_bitOf 10 = .ok (.ishl, 1) := by decide +kernel
theorem dX0_bitOf_11 : decode cX0_bitOf 11 = .ok (.ireturn, 1) := by decide +kernel
theorem dX0_jumpStraight_0 : decode cX0_jumpStraight 0 = .ok (.iload_n 1, 1) := by decide +kernel
theorem dX0_jumpStraight_1 : decode cX0_jumpStraight 1 = .ok (.istore 4, 2) := by decide +kernel
theorem dX0_jumpStraight_3 : decode cX0_jumpStraight 3 = .ok (.iconst 0, 1) := by decide +kernel
theorem dX0_jumpStraight_4 : decode cX0_jumpStraight 4 = .ok (.istore 5, 2) := by decide +kernel
theorem dX0_jumpStraight_6 : decode cX0_jumpStraight 6 = .ok (.aload_n 0, 1) := by decide +kernel
theorem dX0_jumpStraight_7 : decode cX0_jumpStraight 7 = .ok (.iconst (-1), 1) := by decide +kernel
theorem dX0_jumpStraight_8 : decode cX0_jumpStraight 8 = .ok (.putfield 45, 3) := by decide +kernel
theorem dX0_jumpStraight_11 : decode cX0_jumpStraight 11 = .ok (.aload_n 0, 1) := by decide +kernel
theorem dX0_jumpStraight_12 : decode cX0_jumpStraight 12 = .ok (.iload 4, 2) := by decide +kernel
theorem dX0_jumpStraight_14 : decode cX0_jumpStraight 14 = .ok (.iload_n 2, 1) := by decide +kernel
theorem dX0_jumpStraight_15 : decode cX0_jumpStraight 15 = .ok (.iload_n 3, 1) := by decide +kernel
theorem dX0_jumpStraight_16 : decode cX0_jumpStraight 16 = .ok (.invokevirtual 35, 3) := by decide +kernel
theorem dX0_jumpStraight_19 : decode cX0_jumpStraight 19 = .ok (.ifCond .eq 46, 3) := by decide +kernel
theorem dX0_jumpStraight_22 : decode cX0_jumpStraight 22 = .ok (.iload 4, 2) := by decide +kernel
theorem dX0_jumpStraight_24 : decode cX0_jumpStraight 24 = .ok (.bipush 12, 2) := by decide +kernel
theorem dX0_jumpStraight_26 : decode cX0_jumpStraight 26 = .ok (.iload_n 3, 1) := by decide +kernel
theorem dX0_jumpStraight_27 : decode cX0_jumpStraight 27 = .ok (.imul, 1) := by decide +kernel
theorem dX0_jumpStraight_28 : decode cX0_jumpStraight 28 = .ok (.iload_n 2, 1) := by decide +kernel
theorem dX0_jumpStraight_29 : decode cX0_jumpStraight 29 = .ok (.iadd, 1) := by decide +kernel
theorem dX0_jumpStraight_30 : decode cX0_jumpStraight 30 = .ok (.iadd, 1) := by decide +kernel
theorem dX0_jumpStraight_31 : decode cX0_jumpStraight 31 = .ok (.istore 4, 2) := by decide +kernel
theorem dX0_jumpStraight_33 : decode cX0_jumpStraight 33 = .ok (.iinc 5 1, 3) := by decide +kernel
theorem dX0_jumpStraight_36 : decode cX0_jumpStraight 36 = .ok (.iload 4, 2) := by decide +kernel
theorem dX0_jumpStraight_38 : decode cX0_jumpStraight 38 = .ok (.aload_n 0, 1) := by decide +kernel
theorem dX0_jumpStraight_39 : decode cX0_jumpStraight 39 = .ok (.getfield 49, 3) := by decide +kernel
theorem dX0_jumpStraight_42 : decode cX0_jumpStraight 42 = .ok (.if_icmp .eq 14, 3) := by decide +kernel
theorem dX0_jumpStraight_45 : decode cX0_jumpStraight 45 = .ok (.aload_n 0, 1) := by decide +kernel
theorem dX0_jumpStraight_46 : decode cX0_jumpStraight 46 = .ok (.iload 4, 2) := by decide +kernel
theorem dX0_jumpStraight_48 : decode cX0_jumpStraight 48 = .ok (.iload_n 2, 1) := by decide +kernel
theorem dX0_jumpStraight_49 : decode cX0_jumpStraight 49 = .ok (.iload_n 3, 1) := by decide +kernel
theorem dX0_jumpStraight_50 : decode cX0_jumpStraight 50 = .ok (.invokevirtual 52, 3) := by decide +kernel
theorem dX0_jumpStraight_53 : decode cX0_jumpStraight 53 = .ok (.ifCond .eq (-42), 3) := by decide +kernel
theorem dX0_jumpStraight_56 : decode cX0_jumpStraight 56 = .ok (.aload_n 0, 1) := by decide +kernel
theorem dX0_jumpStraight_57 : decode cX0_jumpStraight 57 = .ok (.iload 4, 2) := by decide +kernel
theorem dX0_jumpStraight_59 : decode cX0_jumpStraight 59 = .ok (.putfield 45, 3) := by decide +kernel
theorem dX0_jumpStraight_62 : decode cX0_jumpStraight 62 = .ok (.iload 5, 2) := by decide +kernel
theorem dX0_jumpStraight_64 : decode cX0_jumpStraight 64 = .ok (.ireturn, 1) := by decide +kernel
theorem dX0_jumpStraight_65 : decode cX0_jumpStraight 65 = .ok (.iconst 0, 1) := by decide +kernel
theorem dX0_jumpStraight_66 : decode cX0_jumpStraight 66 = .ok (.ireturn, 1) := by decide +kernel
theorem dX0_nearer_0 : decode cX0_nearer 0 = .ok (.aload_n 0, 1) := by decide +kernel
theorem dX0_nearer_1 : decode cX0_nearer 1 = .ok (.iload_n 1, 1) := by decide +kernel
theorem dX0_nearer_2 : decode cX0_nearer 2 = .ok (.invokevirtual 27, 3) := by decide +kernel
theorem dX0_nearer_5 : decode cX0_nearer 5 = .ok (.ifCond .eq 19, 3) := by decide +kernel
theorem dX0_nearer_8 : decode cX0_nearer 8 = .ok (.aload_n 0, 1) := by decide +kernel
theorem dX0_nearer_9 : decode cX0_nearer 9 = .ok (.iload_n 2, 1) := by decide +kernel
theorem dX0_nearer_10 : decode cX0_nearer 10 = .ok (.invokevirtual 27, 3) := by decide +kernel
theorem dX0_nearer_13 : decode cX0_nearer 13 = .ok (.ifCond .eq 11, 3) := by decide +kernel
theorem dX0_nearer_16 : decode cX0_nearer 16 = .ok (.aload_n 0, 1) := by decide +kernel
theorem dX0_nearer_17 : decode cX0_nearer 17 = .ok (.iload_n 3, 1) := by decide +kernel
theorem dX0_nearer_18 : decode cX0_nearer 18 = .ok (.invokevirtual 27, 3) := by decide +kernel
theorem dX0_nearer_21 : decode cX0_nearer 21 = .ok (.ifCond .ne 5, 3) := by decide +kernel
theorem dX0_nearer_24 : decode cX0_nearer 24 = .ok (.iconst (-1), 1) := by decide +kernel
theorem dX0_nearer_25 : decode cX0_nearer 25 = .ok (.ireturn, 1) := by decide +kernel
theorem dX0_nearer_26 : decode cX0_nearer 26 = .ok (.aload_n 0, 1) := by decide +kernel
theorem dX0_nearer_27 : decode cX0_nearer 27 = .ok (.iload_n 1, 1) := by decide +kernel
theorem dX0_nearer_28 : decode cX0_nearer 28 = .ok (.iload_n 2, 1) := by decide +kernel
theorem dX0_nearer_29 : decode cX0_nearer 29 = .ok (.invokevirtual 31, 3) := by decide +kernel
theorem dX0_nearer_32 : decode cX0_nearer 32 = .ok (.istore 4, 2) := by decide +kernel
theorem dX0_nearer_34 : decode cX0_nearer 34 = .ok (.aload_n 0, 1) := by decide +kernel
theorem dX0_nearer_35 : decode cX0_nearer 35 = .ok (.iload_n 1, 1) := by decide +kernel
theorem dX0_nearer_36 : decode cX0_nearer 36 = .ok (.iload_n 3, 1) := by decide +kernel
theorem dX0_nearer_37 : decode cX0_nearer 37 = .ok (.invokevirtual 31, 3) := by decide +kernel
theorem dX0_nearer_40 : decode cX0_nearer 40 = .ok (.istore 5, 2) := by decide +kernel
theorem dX0_nearer_42 : decode cX0_nearer 42 = .ok (.iload 5, 2) := by decide +kernel
theorem dX0_nearer_44 : decode cX0_nearer 44 = .ok (.ifCond .lt 19, 3) := by decide +kernel
theorem dX0_nearer_47 : decode cX0_nearer 47 = .ok (.iload 4, 2) := by decide +kernel
theorem dX0_nearer_49 : decode cX0_nearer 49 = .ok (.ifCond .lt 10, 3) := by decide +kernel
theorem dX0_nearer_52 : decode cX0_nearer 52 = .ok (.iload 5, 2) := by decide +kernel
theorem dX0_nearer_54 : decode cX0_nearer 54 = .ok (.iload 4, 2) := by decide +kernel
theorem dX0_nearer_56 : decode cX0_nearer 56 = .ok (.if_icmp .ge 7, 3) := by decide +kernel
theorem dX0_nearer_59 : decode cX0_nearer 59 = .ok (.iconst 1, 1) := by decide +kernel
theorem dX0_nearer_60 : decode cX0_nearer 60 = .ok (.goto 4, 3) := by decide +kernel
theorem dX0_nearer_63 : decode cX0_nearer 63 = .ok (.iconst 0, 1) := by decide +kernel
theorem dX0_nearer_64 : decode cX0_nearer 64 = .ok (.ireturn, 1) := by decide +kernel
theorem dX0_vital_0 : decode cX0_vital 0 = .ok (.aload_n 0, 1) := by decide +kernel
theorem dX0_vital_1 : decode cX0_vital 1 = .ok (.iload_n 1, 1) := by decide +kernel
theorem dX0_vital_2 : decode cX0_vital 2 = .ok (.invokevirtual 27, 3) := by decide +kernel
theorem dX0_vital_5 : decode cX0_vital 5 = .ok (.ifCond .eq 29, 3) := by decide +kernel
theorem dX0_vital_8 : decode cX0_vital 8 = .ok (.aload_n 0, 1) := by decide +kernel
theorem dX0_vital_9 : decode cX0_vital 9 = .ok (.iload_n 2, 1) := by decide +kernel
theorem dX0_vital_10 : decode cX0_vital 10 = .ok (.invokevirtual 27, 3) := by decide +kernel
theorem dX0_vital_13 : decode cX0_vital 13 = .ok (.ifCond .eq 21, 3) := by decide +kernel
theorem dX0_vital_16 : decode cX0_vital 16 = .ok (.aload_n 0, 1) := by decide +kernel
theorem dX0_vital_17 : decode cX0_vital 17 = .ok (.iload_n 3, 1) := by decide +kernel
theorem dX0_vital_18 : decode cX0_vital 18 = .ok (.invokevirtual 27, 3) := by decide +kernel
theorem dX0_vital_21 : decode cX0_vital 21 = .ok (.ifCond .eq 13, 3) := by decide +kernel
theorem dX0_vital_24 : decode cX0_vital 24 = .ok (.iload_n 3, 1) := by decide +kernel
theorem dX0_vital_25 : decode cX0_vital 25 = .ok (.iload_n 1, 1) := by decide +kernel
theorem dX0_vital_26 : decode cX0_vital 26 = .ok (.if_icmp .eq 8, 3) := by decide +kernel
theorem dX0_vital_29 : decode cX0_vital 29 = .ok (.iload_n 3, 1) := by decide +kernel
theorem dX0_vital_30 : decode cX0_vital 30 = .ok (.iload_n 2, 1) := by decide +kernel
theorem dX0_vital_31 : decode cX0_vital 31 = .ok (.if_icmp .ne 5, 3) := by decide +kernel
theorem dX0_vital_34 : decode cX0_vital 34 = .ok (.iconst 0, 1) := by decide +kernel
theorem dX0_vital_35 : decode cX0_vital 35 = .ok (.ireturn, 1) := by decide +kernel
theorem dX0_vital_36 : decode cX0_vital 36 = .ok (.aload_n 0, 1) := by decide +kernel
theorem dX0_vital_37 : decode cX0_vital 37 = .ok (.iload_n 1, 1) := by decide +kernel
theorem dX0_vital_38 : decode cX0_vital 38 = .ok (.iload_n 2, 1) := by decide +kernel
theorem dX0_vital_39 : decode cX0_vital 39 = .ok (.invokevirtual 31, 3) := by decide +kernel
theorem dX0_vital_42 : decode cX0_vital 42 = .ok (.istore 4, 2) := by decide +kernel
theorem dX0_vital_44 : decode cX0_vital 44 = .ok (.iload 4, 2) := by decide +kernel
theorem dX0_vital_46 : decode cX0_vital 46 = .ok (.ifCond .ge 5, 3) := by decide +kernel
theorem dX0_vital_49 : decode cX0_vital 49 = .ok (.iconst 0, 1) := by decide +kernel
theorem dX0_vital_50 : decode cX0_vital 50 = .ok (.ireturn, 1) := by decide +kernel
theorem dX0_vital_51 : decode cX0_vital 51 = .ok (.aload_n 0, 1) := by decide +kernel
theorem dX0_vital_52 : decode cX0_vital 52 = .ok (.getfield 7, 3) := by decide +kernel
theorem dX0_vital_55 : decode cX0_vital 55 = .ok (.iload_n 3, 1) := by decide +kernel
theorem dX0_vital_56 : decode cX0_vital 56 = .ok (.iconst 1, 1) := by decide +kernel
theorem dX0_vital_57 : decode cX0_vital 57 = .ok (.bastore, 1) := by decide +kernel
theorem dX0_vital_58 : decode cX0_vital 58 = .ok (.aload_n 0, 1) := by decide +kernel
theorem dX0_vital_59 : decode cX0_vital 59 = .ok (.iload_n 1, 1) := by decide +kernel
theorem dX0_vital_60 : decode cX0_vital 60 = .ok (.iload_n 2, 1) := by decide +kernel
theorem dX0_vital_61 : decode cX0_vital 61 = .ok (.invokevirtual 31, 3) := by decide +kernel
theorem dX0_vital_64 : decode cX0_vital 64 = .ok (.istore 5, 2) := by decide +kernel
theorem dX0_vital_66 : decode cX0_vital 66 = .ok (.aload_n 0, 1) := by decide +kernel
theorem dX0_vital_67 : decode cX0_vital 67 = .ok (.getfield 7, 3) := by decide +kernel
theorem dX0_vital_70 : decode cX0_vital 70 = .ok (.iload_n 3, 1) := by decide +kernel
theorem dX0_vital_71 : decode cX0_vital 71 = .ok (.iconst 0, 1) := by decide +kernel
theorem dX0_vital_72 : decode cX0_vital 72 = .ok (.bastore, 1) := by decide +kernel
theorem dX0_vital_73 : decode cX0_vital 73 = .ok (.iload 5, 2) := by decide +kernel
theorem dX0_vital_75 : decode cX0_vital 75 = .ok (.ifCond .lt 10, 3) := by decide +kernel
theorem dX0_vital_78 : decode cX0_vital 78 = .ok (.iload 5, 2) := by decide +kernel
theorem dX0_vital_80 : decode cX0_vital 80 = .ok (.iload 4, 2) := by decide +kernel
theorem dX0_vital_82 : decode cX0_vital 82 = .ok (.if_icmp .le 7, 3) := by decide +kernel
theorem dX0_vital_85 : decode cX0_vital 85 = .ok (.iconst 1, 1) := by decide +kernel
theorem dX0_vital_86 : decode cX0_vital 86 = .ok (.goto 4, 3) := by decide +kernel
theorem dX0_vital_89 : decode cX0_vital 89 = .ok (.iconst 0, 1) := by decide +kernel
theorem dX0_vital_90 : decode cX0_vital 90 = .ok (.ireturn, 1) := by decide +kernel
theorem dX0_farthest_0 : decode cX0_farthest 0 = .ok (.aload_n 0, 1) := by decide +kernel
theorem dX0_farthest_1 : decode cX0_farthest 1 = .ok (.iload_n 1, 1) := by decide +kernel
theorem dX0_farthest_2 : decode cX0_farthest 2 = .ok (.invokevirtual 27, 3) := by decide +kernel
theorem dX0_farthest_5 : decode cX0_farthest 5 = .ok (.ifCond .ne 5, 3) := by decide +kernel
theorem dX0_farthest_8 : decode cX0_farthest 8 = .ok (.iconst (-1), 1) := by decide +kernel
theorem dX0_farthest_9 : decode cX0_farthest 9 = .ok (.ireturn, 1) := by decide +kernel
theorem dX0_farthest_10 : decode cX0_farthest 10 = .ok (.iconst 0, 1) := by decide +kernel
theorem dX0_farthest_11 : decode cX0_farthest 11 = .ok (.istore_n 2, 1) := by decide +kernel
theorem dX0_farthest_12 : decode cX0_farthest 12 = .ok (.iconst 0, 1) := by decide +kernel
theorem dX0_farthest_13 : decode cX0_farthest 13 = .ok (.istore_n 3, 1) := by decide +kernel
theorem dX0_farthest_14 : decode cX0_farthest 14 = .ok (.iload_n 3, 1) := by decide +kernel
theorem dX0_farthest_15 : decode cX0_farthest 15 = .ok (.sipush 144, 3) := by decide +kernel
theorem dX0_farthest_18 : decode cX0_farthest 18 = .ok (.if_icmp .ge 38, 3) := by decide +kernel
theorem dX0_farthest_21 : decode cX0_farthest 21 = .ok (.aload_n 0, 1) := by decide +kernel
theorem dX0_farthest_22 : decode cX0_farthest 22 = .ok (.getfield 7, 3) := by decide +kernel
theorem dX0_farthest_25 : decode cX0_farthest 25 = .ok (.iload_n 3, 1) := by decide +kernel
theorem dX0_farthest_26 : decode cX0_farthest 26 = .ok (.baload, 1) := by decide +kernel
theorem dX0_farthest_27 : decode cX0_farthest 27 = .ok (.ifCond .eq 6, 3) := by decide +kernel
theorem dX0_farthest_30 : decode cX0_farthest 30 = .ok (.goto 20, 3) := by decide +kernel
theorem dX0_farthest_33 : decode cX0_farthest 33 = .ok (.aload_n 0, 1) := by decide +kernel
theorem dX0_farthest_34 : decode cX0_farthest 34 = .ok (.iload_n 1, 1) := by decide +kernel
theorem dX0_farthest_35 : decode cX0_farthest 35 = .ok (.iload_n 3, 1) := by decide +kernel
theorem dX0_farthest_36 : decode cX0_farthest 36 = .ok (.invokevirtual 31, 3) := by decide +kernel
theorem dX0_farthest_39 : decode cX0_farthest 39 = .ok (.istore 4, 2) := by decide +kernel
theorem dX0_farthest_41 : decode cX0_farthest 41 = .ok (.iload 4, 2) := by decide +kernel
theorem dX0_farthest_43 : decode cX0_farthest 43 = .ok (.iload_n 2, 1) := by decide +kernel
theorem dX0_farthest_44 : decode cX0_farthest 44 = .ok (.if_icmp .le 6, 3) := by decide +kernel
theorem dX0_farthest_47 : decode cX0_farthest 47 = .ok (.iload 4, 2) := by decide +kernel
theorem dX0_farthest_49 : decode cX0_farthest 49 = .ok (.istore_n 2, 1) := by decide +kernel
theorem dX0_farthest_50 : decode cX0_farthest 50 = .ok (.iinc 3 1, 3) := by decide +kernel
theorem dX0_farthest_53 : decode cX0_farthest 53 = .ok (.goto (-39), 3) := by decide +kernel
theorem dX0_farthest_56 : decode cX0_farthest 56 = .ok (.iload_n 2, 1) := by decide +kernel
theorem dX0_farthest_57 : decode cX0_farthest 57 = .ok (.ireturn, 1) := by decide +kernel
theorem dX0_reach_0 : decode cX0_reach 0 = .ok (.aload_n 0, 1) := by decide +kernel
theorem dX0_reach_1 : decode cX0_reach 1 = .ok (.iload_n 1, 1) := by decide +kernel
theorem dX0_reach_2 : decode cX0_reach 2 = .ok (.invokevirtual 27, 3) := by decide +kernel
theorem dX0_reach_5 : decode cX0_reach 5 = .ok (.ifCond .ne 5, 3) := by decide +kernel
theorem dX0_reach_8 : decode cX0_reach 8 = .ok (.iconst (-1), 1) := by decide +kernel
theorem dX0_reach_9 : decode cX0_reach 9 = .ok (.ireturn, 1) := by decide +kernel
theorem dX0_reach_10 : decode cX0_reach 10 = .ok (.iconst 0, 1) := by decide +kernel
theorem dX0_reach_11 : decode cX0_reach 11 = .ok (.istore_n 2, 1) := by decide +kernel
theorem dX0_reach_12 : decode cX0_reach 12 = .ok (.iconst 0, 1) := by decide +kernel
theorem dX0_reach_13 : decode cX0_reach 13 = .ok (.istore_n 3, 1) := by decide +kernel
theorem dX0_reach_14 : decode cX0_reach 14 = .ok (.iload_n 3, 1) := by decide +kernel
theorem dX0_reach_15 : decode cX0_reach 15 = .ok (.sipush 144, 3) := by decide +kernel
theorem dX0_reach_18 : decode cX0_reach 18 = .ok (.if_icmp .ge 37, 3) := by decide +kernel
theorem dX0_reach_21 : decode cX0_reach 21 = .ok (.aload_n 0, 1) := by decide +kernel
theorem dX0_reach_22 : decode cX0_reach 22 = .ok (.getfield 7, 3) := by decide +kernel
theorem dX0_reach_25 : decode cX0_reach 25 = .ok (.iload_n 3, 1) := by decide +kernel
theorem dX0_reach_26 : decode cX0_reach 26 = .ok (.baload, 1) := by decide +kernel
theorem dX0_reach_27 : decode cX0_reach 27 = .ok (.ifCond .eq 6, 3) := by decide +kernel
theorem dX0_reach_30 : decode cX0_reach 30 = .ok (.goto 19, 3) := by decide +kernel
theorem dX0_reach_33 : decode cX0_reach 33 = .ok (.aload_n 0, 1) := by decide +kernel
theorem dX0_reach_34 : decode cX0_reach 34 = .ok (.iload_n 1, 1) := by decide +kernel
theorem dX0_reach_35 : decode cX0_reach 35 = .ok (.iload_n 3, 1) := by decide +kernel
theorem dX0_reach_36 : decode cX0_reach 36 = .ok (.invokevirtual 31, 3) := by decide +kernel
theorem dX0_reach_39 : decode cX0_reach 39 = .ok (.istore 4, 2) := by decide +kernel
theorem dX0_reach_41 : decode cX0_reach 41 = .ok (.iload 4, 2) := by decide +kernel
theorem dX0_reach_43 : decode cX0_reach 43 = .ok (.ifCond .lt 6, 3) := by decide +kernel
theorem dX0_reach_46 : decode cX0_reach 46 = .ok (.iinc 2 1, 3) := by decide +kernel
theorem dX0_reach_49 : decode cX0_reach 49 = .ok (.iinc 3 1, 3) := by decide +kernel
theorem dX0_reach_52 : decode cX0_reach 52 = .ok (.goto (-38), 3) := by decide +kernel
theorem dX0_reach_55 : decode cX0_reach 55 = .ok (.iload_n 2, 1) := by decide +kernel
theorem dX0_reach_56 : decode cX0_reach 56 = .ok (.ireturn, 1) := by decide +kernel
theorem dX0_at_0 : decode cX0_at 0 = .ok (.aload_n 0, 1) := by decide +kernel
theorem dX0_at_1 : decode cX0_at 1 = .ok (.iload_n 1, 1) := by decide +kernel
theorem dX0_at_2 : decode cX0_at 2 = .ok (.invokevirtual 27, 3) := by decide +kernel
theorem dX0_at_5 : decode cX0_at 5 = .ok (.ifCond .ne 5, 3) := by decide +kernel
theorem dX0_at_8 : decode cX0_at 8 = .ok (.iconst (-1), 1) := by decide +kernel
theorem dX0_at_9 : decode cX0_at 9 = .ok (.ireturn, 1) := by decide +kernel
theorem dX0_at_10 : decode cX0_at 10 = .ok (.iconst 0, 1) := by decide +kernel
theorem dX0_at_11 : decode cX0_at 11 = .ok (.istore_n 3, 1) := by decide +kernel
theorem dX0_at_12 : decode cX0_at 12 = .ok (.iload_n 3, 1) := by decide +kernel
theorem dX0_at_13 : decode cX0_at 13 = .ok (.sipush 144, 3) := by decide +kernel
theorem dX0_at_16 : decode cX0_at 16 = .ok (.if_icmp .ge 42, 3) := by decide +kernel
theorem dX0_at_19 : decode cX0_at 19 = .ok (.aload_n 0, 1) := by decide +kernel
theorem dX0_at_20 : decode cX0_at 20 = .ok (.getfield 7, 3) := by decide +kernel
theorem dX0_at_23 : decode cX0_at 23 = .ok (.iload_n 3, 1) := by decide +kernel
theorem dX0_at_24 : decode cX0_at 24 = .ok (.baload, 1) := by decide +kernel
theorem dX0_at_25 : decode cX0_at 25 = .ok (.ifCond .eq 6, 3) := by decide +kernel
theorem dX0_at_28 : decode cX0_at 28 = .ok (.goto 24, 3) := by decide +kernel
theorem dX0_at_31 : decode cX0_at 31 = .ok (.aload_n 0, 1) := by decide +kernel
theorem dX0_at_32 : decode cX0_at 32 = .ok (.iload_n 1, 1) := by decide +kernel
theorem dX0_at_33 : decode cX0_at 33 = .ok (.iload_n 3, 1) := by decide +kernel
theorem dX0_at_34 : decode cX0_at 34 = .ok (.invokevirtual 31, 3) := by decide +kernel
theorem dX0_at_37 : decode cX0_at 37 = .ok (.istore 4, 2) := by decide +kernel
theorem dX0_at_39 : decode cX0_at 39 = .ok (.iload 4, 2) := by decide +kernel
theorem dX0_at_41 : decode cX0_at 41 = .ok (.ifCond .lt 11, 3) := by decide +kernel
theorem dX0_at_44 : decode cX0_at 44 = .ok (.iload 4, 2) := by decide +kernel
theorem dX0_at_46 : decode cX0_at 46 = .ok (.iload_n 2, 1) := by decide +kernel
theorem dX0_at_47 : decode cX0_at 47 = .ok (.if_icmp .ne 5, 3) := by decide +kernel
theorem dX0_at_50 : decode cX0_at 50 = .ok (.iload_n 3, 1) := by decide +kernel
theorem dX0_at_51 : decode cX0_at 51 = .ok (.ireturn, 1) := by decide +kernel
theorem dX0_at_52 : decode cX0_at 52 = .ok (.iinc 3 1, 3) := by decide +kernel
theorem dX0_at_55 : decode cX0_at 55 = .ok (.goto (-43), 3) := by decide +kernel
theorem dX0_at_58 : decode cX0_at 58 = .ok (.bipush (-2), 2) := by decide +kernel
theorem dX0_at_60 : decode cX0_at 60 = .ok (.ireturn, 1) := by decide +kernel
end
section
set_option maxRecDepth 100000
theorem dX1_init_0 : decode cX1_init 0 = .ok (.aload_n 0, 1) := by decide +kernel
theorem dX1_init_1 : decode cX1_init 1 = .ok (.invokespecial 1, 3) := by decide +kernel
theorem dX1_init_4 : decode cX1_init 4 = .ok (.aload_n 0, 1) := by decide +kernel
theorem dX1_init_5 : decode cX1_init 5 = .ok (.sipush 144, 3) := by decide +kernel
theorem dX1_init_8 : decode cX1_init 8 = .ok (.newarray .boolean, 2) := by decide +kernel
theorem dX1_init_10 : decode cX1_init 10 = .ok (.putfield 7, 3) := by decide +kernel
theorem dX1_init_13 : decode cX1_init 13 = .ok (.aload_n 0, 1) := by decide +kernel
theorem dX1_init_14 : decode cX1_init 14 = .ok (.sipush 144, 3) := by decide +kernel
theorem dX1_init_17 : decode cX1_init 17 = .ok (.newarray .int, 2) := by decide +kernel
theorem dX1_init_19 : decode cX1_init 19 = .ok (.putfield 13, 3) := by decide +kernel
theorem dX1_init_22 : decode cX1_init 22 = .ok (.return_, 1) := by decide +kernel
theorem dX1_wall_0 : decode cX1_wall 0 = .ok (.aload_n 0, 1) := by decide +kernel
theorem dX1_wall_1 : decode cX1_wall 1 = .ok (.iload_n 1, 1) := by decide +kernel
theorem dX1_wall_2 : decode cX1_wall 2 = .ok (.invokevirtual 17, 3) := by decide +kernel
theorem dX1_wall_5 : decode cX1_wall 5 = .ok (.ifCond .ne 5, 3) := by decide +kernel
theorem dX1_wall_8 : decode cX1_wall 8 = .ok (.iconst 0, 1) := by decide +kernel
theorem dX1_wall_9 : decode cX1_wall 9 = .ok (.ireturn, 1) := by decide +kernel
theorem dX1_wall_10 : decode cX1_wall 10 = .ok (.aload_n 0, 1) := by decide +kernel
theorem dX1_wall_11 : decode cX1_wall 11 = .ok (.getfield 7, 3) := by decide +kernel
theorem dX1_wall_14 : decode cX1_wall 14 = .ok (.iload_n 1, 1) := by decide +kernel
theorem dX1_wall_15 : decode cX1_wall 15 = .ok (.iload_n 2, 1) := by decide +kernel
theorem dX1_wall_16 : decode cX1_wall 16 = .ok (.bastore, 1) := by decide +kernel
theorem dX1_wall_17 : decode cX1_wall 17 = .ok (.iconst 1, 1) := by decide +kernel
theorem dX1_wall_18 : decode cX1_wall 18 = .ok (.ireturn, 1) := by decide +kernel
theorem dX1_isCell_0 : decode cX1_isCell 0 = .ok (.iload_n 1, 1) := by decide +kernel
theorem dX1_isCell_1 : decode cX1_isCell 1 = .ok (.ifCond .lt 14, 3) := by decide +kernel
theorem dX1_isCell_4 : decode cX1_isCell 4 = .ok (.iload_n 1, 1) := by decide +kernel
theorem dX1_isCell_5 : decode cX1_isCell 5 = .ok (.sipush 143, 3) := by decide +kernel
theorem dX1_isCell_8 : decode cX1_isCell 8 = .ok (.if_icmp .gt 7, 3) := by decide +kernel
theorem dX1_isCell_11 : decode cX1_isCell 11 = .ok (.iconst 1, 1) := by decide +kernel
theorem dX1_isCell_12 : decode cX1_isCell 12 = .ok (.goto 4, 3) := by decide +kernel
theorem dX1_isCell_15 : decode cX1_isCell 15 = .ok (.iconst 0, 1) := by decide +kernel
theorem dX1_isCell_16 : decode cX1_isCell 16 = .ok (.ireturn, 1) := by decide +kernel
theorem dX1_block_0 : decode cX1_block 0 = .ok (.iload_n 1, 1) := by decide +kernel
theorem dX1_block_1 : decode cX1_block 1 = .ok (.sipush 4096, 3) := by decide +kernel
theorem dX1_block_4 : decode cX1_block 4 = .ok (.idiv, 1) := by decide +kernel
theorem dX1_block_5 : decode cX1_block 5 = .ok (.istore_n 3, 1) := by decide +kernel
theorem dX1_block_6 : decode cX1_block 6 = .ok (.iload_n 1, 1) := by decide +kernel
theorem dX1_block_7 : decode cX1_block 7 = .ok (.sipush 256, 3) := by decide +kernel
theorem dX1_block_10 : decode cX1_block 10 = .ok (.idiv, 1) := by decide +kernel
theorem dX1_block_11 : decode cX1_block 11 = .ok (.bipush 16, 2) := by decide +kernel
theorem dX1_block_13 : decode cX1_block 13 = .ok (.irem, 1) := by decide +kernel
theorem dX1_block_14 : decode cX1_block 14 = .ok (.istore 4, 2) := by decide +kernel
theorem dX1_block_16 : decode cX1_block 16 = .ok (.iload_n 1, 1) := by decide +kernel
theorem dX1_block_17 : decode cX1_block 17 = .ok (.bipush 16, 2) := by decide +kernel
theorem dX1_block_19 : decode cX1_block 19 = .ok (.idiv, 1) := by decide +kernel
theorem dX1_block_20 : decode cX1_block 20 = .ok (.bipush 16, 2) := by decide +kernel
theorem dX1_block_22 : decode cX1_block 22 = .ok (.irem, 1) := by decide +kernel
theorem dX1_block_23 : decode cX1_block 23 = .ok (.istore 5, 2) := by decide +kernel
theorem dX1_block_25 : decode cX1_block 25 = .ok (.iload_n 1, 1) := by decide +kernel
theorem dX1_block_26 : decode cX1_block 26 = .ok (.bipush 16, 2) := by decide +kernel
theorem dX1_block_28 : decode cX1_block 28 = .ok (.irem, 1) := by decide +kernel
theorem dX1_block_29 : decode cX1_block 29 = .ok (.istore 6, 2) := by decide +kernel
theorem dX1_block_31 : decode cX1_block 31 = .ok (.iload_n 1, 1) := by decide +kernel
theorem dX1_block_32 : decode cX1_block 32 = .ok (.ifCond .lt 30, 3) := by decide +kernel
theorem dX1_block_35 : decode cX1_block 35 = .ok (.iload_n 3, 1) := by decide +kernel
theorem dX1_block_36 : decode cX1_block 36 = .ok (.iload 4, 2) := by decide +kernel
theorem dX1_block_38 : decode cX1_block 38 = .ok (.if_icmp .gt 24, 3) := by decide +kernel
theorem dX1_block_41 : decode cX1_block 41 = .ok (.iload 4, 2) := by decide +kernel
theorem dX1_block_43 : decode cX1_block 43 = .ok (.bipush 11, 2) := by decide +kernel
theorem dX1_block_45 : decode cX1_block 45 = .ok (.if_icmp .gt 17, 3) := by decide +kernel
theorem dX1_block_48 : decode cX1_block 48 = .ok (.iload 5, 2) := by decide +kernel
theorem dX1_block_50 : decode cX1_block 50 = .ok (.iload 6, 2) := by decide +kernel
theorem dX1_block_52 : decode cX1_block 52 = .ok (.if_icmp .gt 10, 3) := by decide +kernel
theorem dX1_block_55 : decode cX1_block 55 = .ok (.iload 6, 2) := by decide +kernel
theorem dX1_block_57 : decode cX1_block 57 = .ok (.bipush 11, 2) := by decide +kernel
theorem dX1_block_59 : decode cX1_block 59 = .ok (.if_icmp .le 5, 3) := by decide +kernel
theorem dX1_block_62 : decode cX1_block 62 = .ok (.iconst (-1), 1) := by decide +kernel
theorem dX1_block_63 : decode cX1_block 63 = .ok (.ireturn, 1) := by decide +kernel
theorem dX1_block_64 : decode cX1_block 64 = .ok (.iconst 0, 1) := by decide +kernel
theorem dX1_block_65 : decode cX1_block 65 = .ok (.istore 7, 2) := by decide +kernel
theorem dX1_block_67 : decode cX1_block 67 = .ok (.iload 5, 2) := by decide +kernel
theorem dX1_block_69 : decode cX1_block 69 = .ok (.istore 8, 2) := by decide +kernel
theorem dX1_block_71 : decode cX1_block 71 = .ok (.iload 8, 2) := by decide +kernel
theorem dX1_block_73 : decode cX1_block 73 = .ok (.iload 6, 2) := by decide +kernel
theorem dX1_block_75 : decode cX1_block 75 = .ok (.if_icmp .gt 59, 3) := by decide +kernel
theorem dX1_block_78 : decode cX1_block 78 = .ok (.iload_n 3, 1) := by decide +kernel
theorem dX1_block_79 : decode cX1_block 79 = .ok (.istore 9, 2) := by decide +kernel
theorem dX1_block_81 : decode cX1_block 81 = .ok (.iload 9, 2) := by decide +kernel
theorem dX1_block_83 : decode cX1_block 83 = .ok (.iload 4, 2) := by decide +kernel
theorem dX1_block_85 : decode cX1_block 85 = .ok (.if_icmp .gt 43, 3) := by decide +kernel
theorem dX1_block_88 : decode cX1_block 88 = .ok (.aload_n 0, 1) := by decide +kernel
theorem dX1_block_89 : decode cX1_block 89 = .ok (.getfield 7, 3) := by decide +kernel
theorem dX1_block_92 : decode cX1_block 92 = .ok (.bipush 12, 2) := by decide +kernel
theorem dX1_block_94 : decode cX1_block 94 = .ok (.iload 8, 2) := by decide +kernel
theorem dX1_block_96 : decode cX1_block 96 = .ok (.imul, 1) := by decide +kernel
theorem dX1_block_97 : decode cX1_block 97 = .ok (.iload 9, 2) := by decide +kernel
theorem dX1_block_99 : decode cX1_block 99 = .ok (.iadd, 1) := by decide +kernel
theorem dX1_block_100 : decode cX1_block 100 = .ok (.baload, 1) := by decide +kernel
theorem dX1_block_101 : decode cX1_block 101 = .ok (.iload_n 2, 1) := by decide +kernel
theorem dX1_block_102 : decode cX1_block 102 = .ok (.if_icmp .eq 6, 3) := by decide +kernel
theorem dX1_block_105 : decode cX1_block 105 = .ok (.iinc 7 1, 3) := by decide +kernel
theorem dX1_block_108 : decode cX1_block 108 = .ok (.aload_n 0, 1) := by decide +kernel
theorem dX1_block_109 : decode cX1_block 109 = .ok (.getfield 7, 3) := by decide +kernel
theorem dX1_block_112 : decode cX1_block 112 = .ok (.bipush 12, 2) := by decide +kernel
theorem dX1_block_114 : decode cX1_block 114 = .ok (.iload 8, 2) := by decide +kernel
theorem dX1_block_116 : decode cX1_block 116 = .ok (.imul, 1) := by decide +kernel
theorem dX1_block_117 : decode cX1_block 117 = .ok (.iload 9, 2) := by decide +kernel
theorem dX1_block_119 : decode cX1_block 119 = .ok (.iadd, 1) := by decide +kernel
theorem dX1_block_120 : decode cX1_block 120 = .ok (.iload_n 2, 1) := by decide +kernel
theorem dX1_block_121 : decode cX1_block 121 = .ok (.bastore, 1) := by decide +kernel
theorem dX1_block_122 : decode cX1_block 122 = .ok (.iinc 9 1, 3) := by decide +kernel
theorem dX1_block_125 : decode cX1_block 125 = .ok (.goto (-44), 3) := by decide +kernel
theorem dX1_block_128 : decode cX1_block 128 = .ok (.iinc 8 1, 3) := by decide +kernel
theorem dX1_block_131 : decode cX1_block 131 = .ok (.goto (-60), 3) := by decide +kernel
theorem dX1_block_134 : decode cX1_block 134 = .ok (.iload 7, 2) := by decide +kernel
theorem dX1_block_136 : decode cX1_block 136 = .ok (.ireturn, 1) := by decide +kernel
theorem dX1_isWall_0 : decode cX1_isWall 0 = .ok (.aload_n 0, 1) := by decide +kernel
theorem dX1_isWall_1 : decode cX1_isWall 1 = .ok (.iload_n 1, 1) := by decide +kernel
theorem dX1_isWall_2 : decode cX1_isWall 2 = .ok (.invokevirtual 17, 3) := by decide +kernel
theorem dX1_isWall_5 : decode cX1_isWall 5 = .ok (.ifCond .eq 16, 3) := by decide +kernel
theorem dX1_isWall_8 : decode cX1_isWall 8 = .ok (.aload_n 0, 1) := by decide +kernel
theorem dX1_isWall_9 : decode cX1_isWall 9 = .ok (.getfield 7, 3) := by decide +kernel
theorem dX1_isWall_12 : decode cX1_isWall 12 = .ok (.iload_n 1, 1) := by decide +kernel
theorem dX1_isWall_13 : decode cX1_isWall 13 = .ok (.baload, 1) := by decide +kernel
theorem dX1_isWall_14 : decode cX1_isWall 14 = .ok (.ifCond .eq 7, 3) := by decide +kernel
theorem dX1_isWall_17 : decode cX1_isWall 17 = .ok (.iconst 1, 1) := by decide +kernel
theorem dX1_isWall_18 : decode cX1_isWall 18 = .ok (.goto 4, 3) := by decide +kernel
theorem dX1_isWall_21 : decode cX1_isWall 21 = .ok (.iconst 0, 1) := by decide +kernel
theorem dX1_isWall_22 : decode cX1_isWall 22 = .ok (.ireturn, 1) := by decide +kernel
theorem dX1_distance_0 : decode cX1_distance 0 = .ok (.aload_n 0, 1) := by decide +kernel
theorem dX1_distance_1 : decode cX1_distance 1 = .ok (.iload_n 1, 1) := by decide +kernel
theorem dX1_distance_2 : decode cX1_distance 2 = .ok (.invokevirtual 24, 3) := by decide +kernel
theorem dX1_distance_5 : decode cX1_distance 5 = .ok (.ifCond .eq 11, 3) := by decide +kernel
theorem dX1_distance_8 : decode cX1_distance 8 = .ok (.aload_n 0, 1) := by decide +kernel
theorem dX1_distance_9 : decode cX1_distance 9 = .ok (.iload_n 2, 1) := by decide +kernel
theorem dX1_distance_10 : decode cX1_distance 10 = .ok (.invokevirtual 24, 3) := by decide +kernel
theorem dX1_distance_13 : decode cX1_distance 13 = .ok (.ifCond .ne 5, 3) := by decide +kernel
theorem dX1_distance_16 : decode cX1_distance 16 = .ok (.iconst (-1), 1) := by decide +kernel
theorem dX1_distance_17 : decode cX1_distance 17 = .ok (.ireturn, 1) := by decide +kernel
theorem dX1_distance_18 : decode cX1_distance 18 = .ok (.aload_n 0, 1) := by decide +kernel
theorem dX1_distance_19 : decode cX1_distance 19 = .ok (.iload_n 1, 1) := by decide +kernel
theorem dX1_distance_20 : decode cX1_distance 20 = .ok (.invokevirtual 27, 3) := by decide +kernel
theorem dX1_distance_23 : decode cX1_distance 23 = .ok (.aload_n 0, 1) := by decide +kernel
theorem dX1_distance_24 : decode cX1_distance 24 = .ok (.getfield 13, 3) := by decide +kernel
theorem dX1_distance_27 : decode cX1_distance 27 = .ok (.iload_n 2, 1) := by decide +kernel
theorem dX1_distance_28 : decode cX1_distance 28 = .ok (.iaload, 1) := by decide +kernel
theorem dX1_distance_29 : decode cX1_distance 29 = .ok (.ifCond .ge 8, 3) := by decide +kernel
theorem dX1_distance_32 : decode cX1_distance 32 = .ok (.bipush (-2), 2) := by decide +kernel
theorem dX1_distance_34 : decode cX1_distance 34 = .ok (.goto 9, 3) := by decide +kernel
theorem dX1_distance_37 : decode cX1_distance 37 = .ok (.aload_n 0, 1) := by decide +kernel
theorem dX1_distance_38 : decode cX1_distance 38 = .ok (.getfield 13, 3) := by decide +kernel
theorem dX1_distance_41 : decode cX1_distance 41 = .ok (.iload_n 2, 1) := by decide +kernel
theorem dX1_distance_42 : decode cX1_distance 42 = .ok (.iaload, 1) := by decide +kernel
theorem dX1_distance_43 : decode cX1_distance 43 = .ok (.ireturn, 1) := by decide +kernel
theorem dX1_isFree_0 : decode cX1_isFree 0 = .ok (.aload_n 0, 1) := by decide +kernel
theorem dX1_isFree_1 : decode cX1_isFree 1 = .ok (.iload_n 1, 1) := by decide +kernel
theorem dX1_isFree_2 : decode cX1_isFree 2 = .ok (.invokevirtual 17, 3) := by decide +kernel
theorem dX1_isFree_5 : decode cX1_isFree 5 = .ok (.ifCond .eq 16, 3) := by decide +kernel
theorem dX1_isFree_8 : decode cX1_isFree 8 = .ok (.aload_n 0, 1) := by decide +kernel
theorem dX1_isFree_9 : decode cX1_isFree 9 = .ok (.getfield 7, 3) := by decide +kernel
theorem dX1_isFree_12 : decode cX1_isFree 12 = .ok (.iload_n 1, 1) := by decide +kernel
theorem dX1_isFree_13 : decode cX1_isFree 13 = .ok (.baload, 1) := by decide +kernel
theorem dX1_isFree_14 : decode cX1_isFree 14 = .ok (.ifCond .ne 7, 3) := by decide +kernel
theorem dX1_isFree_17 : decode cX1_isFree 17 = .ok (.iconst 1, 1) := by decide +kernel
theorem dX1_isFree_18 : decode cX1_isFree 18 = .ok (.goto 4, 3) := by decide +kernel
theorem dX1_isFree_21 : decode cX1_isFree 21 = .ok (.iconst 0, 1) := by decide +kernel
theorem dX1_isFree_22 : decode cX1_isFree 22 = .ok (.ireturn, 1) := by decide +kernel
theorem dX1_search_0 : decode cX1_search 0 = .ok (.iconst 0, 1) := by decide +kernel
theorem dX1_search_1 : decode cX1_search 1 = .ok (.istore_n 2, 1) := by decide +kernel
theorem dX1_search_2 : decode cX1_search 2 = .ok (.iload_n 2, 1) := by decide +kernel
theorem dX1_search_3 : decode cX1_search 3 = .ok (.sipush 144, 3) := by decide +kernel
theorem dX1_search_6 : decode cX1_search 6 = .ok (.if_icmp .ge 16, 3) := by decide +kernel
theorem dX1_search_9 : decode cX1_search 9 = .ok (.aload_n 0, 1) := by decide +kernel
theorem dX1_search_10 : decode cX1_search 10 = .ok (.getfield 13, 3) := by decide +kernel
theorem dX1_search_13 : decode cX1_search 13 = .ok (.iload_n 2, 1) := by decide +kernel
theorem dX1_search_14 : decode cX1_search 14 = .ok (.iconst (-1), 1) := by decide +kernel
theorem dX1_search_15 : decode cX1_search 15 = .ok (.iastore, 1) := by decide +kernel
theorem dX1_search_16 : decode cX1_search 16 = .ok (.iinc 2 1, 3) := by decide +kernel
theorem dX1_search_19 : decode cX1_search 19 = .ok (.goto (-17), 3) := by decide +kernel
theorem dX1_search_22 : decode cX1_search 22 = .ok (.aload_n 0, 1) := by decide +kernel
theorem dX1_search_23 : decode cX1_search 23 = .ok (.getfield 13, 3) := by decide +kernel
theorem dX1_search_26 : decode cX1_search 26 = .ok (.iload_n 1, 1) := by decide +kernel
theorem dX1_search_27 : decode cX1_search 27 = .ok (.iconst 0, 1) := by decide +kernel
theorem dX1_search_28 : decode cX1_search 28 = .ok (.iastore, 1) := by decide +kernel
theorem dX1_search_29 : decode cX1_search 29 = .ok (.iconst 1, 1) := by decide +kernel
theorem dX1_search_30 : decode cX1_search 30 = .ok (.istore_n 2, 1) := by decide +kernel
theorem dX1_search_31 : decode cX1_search 31 = .ok (.iconst 0, 1) := by decide +kernel
theorem dX1_search_32 : decode cX1_search 32 = .ok (.istore_n 3, 1) := by decide +kernel
theorem dX1_search_33 : decode cX1_search 33 = .ok (.iload_n 3, 1) := by decide +kernel
theorem dX1_search_34 : decode cX1_search 34 = .ok (.sipush 145, 3) := by decide +kernel
theorem dX1_search_37 : decode cX1_search 37 = .ok (.if_icmp .ge 70, 3) := by decide +kernel
theorem dX1_search_40 : decode cX1_search 40 = .ok (.iload_n 2, 1) := by decide +kernel
theorem dX1_search_41 : decode cX1_search 41 = .ok (.ifCond .eq 66, 3) := by decide +kernel
theorem dX1_search_44 : decode cX1_search 44 = .ok (.iconst 0, 1) := by decide +kernel
theorem dX1_search_45 : decode cX1_search 45 = .ok (.istore_n 2, 1) := by decide +kernel
theorem dX1_search_46 : decode cX1_search 46 = .ok (.iconst 0, 1) := by decide +kernel
theorem dX1_search_47 : decode cX1_search 47 = .ok (.istore 4, 2) := by decide +kernel
theorem dX1_search_49 : decode cX1_search 49 = .ok (.iload 4, 2) := by decide +kernel
theorem dX1_search_51 : decode cX1_search 51 = .ok (.sipush 144, 3) := by decide +kernel
theorem dX1_search_54 : decode cX1_search 54 = .ok (.if_icmp .ge 20, 3) := by decide +kernel
theorem dX1_search_57 : decode cX1_search 57 = .ok (.aload_n 0, 1) := by decide +kernel
theorem dX1_search_58 : decode cX1_search 58 = .ok (.iload 4, 2) := by decide +kernel
theorem dX1_search_60 : decode cX1_search 60 = .ok (.invokevirtual 21, 3) := by decide +kernel
theorem dX1_search_63 : decode cX1_search 63 = .ok (.ifCond .eq 5, 3) := by decide +kernel
theorem dX1_search_66 : decode cX1_search 66 = .ok (.iconst 1, 1) := by decide +kernel
theorem dX1_search_67 : decode cX1_search 67 = .ok (.istore_n 2, 1) := by decide +kernel
theorem dX1_search_68 : decode cX1_search 68 = .ok (.iinc 4 1, 3) := by decide +kernel
theorem dX1_search_71 : decode cX1_search 71 = .ok (.goto (-22), 3) := by decide +kernel
theorem dX1_search_74 : decode cX1_search 74 = .ok (.sipush 143, 3) := by decide +kernel
theorem dX1_search_77 : decode cX1_search 77 = .ok (.istore 4, 2) := by decide +kernel
theorem dX1_search_79 : decode cX1_search 79 = .ok (.iload 4, 2) := by decide +kernel
theorem dX1_search_81 : decode cX1_search 81 = .ok (.ifCond .lt 20, 3) := by decide +kernel
theorem dX1_search_84 : decode cX1_search 84 = .ok (.aload_n 0, 1) := by decide +kernel
theorem dX1_search_85 : decode cX1_search 85 = .ok (.iload 4, 2) := by decide +kernel
theorem dX1_search_87 : decode cX1_search 87 = .ok (.invokevirtual 21, 3) := by decide +kernel
theorem dX1_search_90 : decode cX1_search 90 = .ok (.ifCond .eq 5, 3) := by decide +kernel
theorem dX1_search_93 : decode cX1_search 93 = .ok (.iconst 1, 1) := by decide +kernel
theorem dX1_search_94 : decode cX1_search 94 = .ok (.istore_n 2, 1) := by decide +kernel
theorem dX1_search_95 : decode cX1_search 95 = .ok (.iinc 4 (-1), 3) := by decide +kernel
theorem dX1_search_98 : decode cX1_search 98 = .ok (.goto (-19), 3) := by decide +kernel
theorem dX1_search_101 : decode cX1_search 101 = .ok (.iinc 3 1, 3) := by decide +kernel
theorem dX1_search_104 : decode cX1_search 104 = .ok (.goto (-71), 3) := by decide +kernel
theorem dX1_search_107 : decode cX1_search 107 = .ok (.return_, 1) := by decide +kernel
theorem dX1_lower_0 : decode cX1_lower 0 = .ok (.iconst 0, 1) := by decide +kernel
theorem dX1_lower_1 : decode cX1_lower 1 = .ok (.istore_n 2, 1) := by decide +kernel
theorem dX1_lower_2 : decode cX1_lower 2 = .ok (.aload_n 0, 1) := by decide +kernel
theorem dX1_lower_3 : decode cX1_lower 3 = .ok (.getfield 7, 3) := by decide +kernel
theorem dX1_lower_6 : decode cX1_lower 6 = .ok (.iload_n 1, 1) := by decide +kernel
theorem dX1_lower_7 : decode cX1_lower 7 = .ok (.baload, 1) := by decide +kernel
theorem dX1_lower_8 : decode cX1_lower 8 = .ok (.ifCond .eq 5, 3) := by decide +kernel
theorem dX1_lower_11 : decode cX1_lower 11 = .ok (.iconst 0, 1) := by decide +kernel
theorem dX1_lower_12 : decode cX1_lower 12 = .ok (.ireturn, 1) := by decide +kernel
theorem dX1_lower_13 : decode cX1_lower 13 = .ok (.iconst 0, 1) := by decide +kernel
theorem dX1_lower_14 : decode cX1_lower 14 = .ok (.istore_n 3, 1) := by decide +kernel
theorem dX1_lower_15 : decode cX1_lower 15 = .ok (.iload_n 3, 1) := by decide +kernel
theorem dX1_lower_16 : decode cX1_lower 16 = .ok (.bipush 9, 2) := by decide +kernel
theorem dX1_lower_18 : decode cX1_lower 18 = .ok (.if_icmp .ge 130, 3) := by decide +kernel
theorem dX1_lower_21 : decode cX1_lower 21 = .ok (.iload_n 1, 1) := by decide +kernel
theorem dX1_lower_22 : decode cX1_lower 22 = .ok (.bipush 12, 2) := by decide +kernel
theorem dX1_lower_24 : decode cX1_lower 24 = .ok (.irem, 1) := by decide +kernel
theorem dX1_lower_25 : decode cX1_lower 25 = .ok (.iload_n 3, 1) := by decide +kernel
theorem dX1_lower_26 : decode cX1_lower 26 = .ok (.iconst 3, 1) := by decide +kernel
theorem dX1_lower_27 : decode cX1_lower 27 = .ok (.irem, 1) := by decide +kernel
theorem dX1_lower_28 : decode cX1_lower 28 = .ok (.iadd, 1) := by decide +kernel
theorem dX1_lower_29 : decode cX1_lower 29 = .ok (.iconst 1, 1) := by decide +kernel
theorem dX1_lower_30 : decode cX1_lower 30 = .ok (.isub, 1) := by decide +kernel
theorem dX1_lower_31 : decode cX1_lower 31 = .ok (.istore 4, 2) := by decide +kernel
theorem dX1_lower_33 : decode cX1_lower 33 = .ok (.iload_n 1, 1) := by decide +kernel
theorem dX1_lower_34 : decode cX1_lower 34 = .ok (.bipush 12, 2) := by decide +kernel
theorem dX1_lower_36 : decode cX1_lower 36 = .ok (.idiv, 1) := by decide +kernel
theorem dX1_lower_37 : decode cX1_lower 37 = .ok (.iload_n 3, 1) := by decide +kernel
theorem dX1_lower_38 : decode cX1_lower 38 = .ok (.iconst 3, 1) := by decide +kernel
theorem dX1_lower_39 : decode cX1_lower 39 = .ok (.idiv, 1) := by decide +kernel
theorem dX1_lower_40 : decode cX1_lower 40 = .ok (.iadd, 1) := by decide +kernel
theorem dX1_lower_41 : decode cX1_lower 41 = .ok (.iconst 1, 1) := by decide +kernel
theorem dX1_lower_42 : decode cX1_lower 42 = .ok (.isub, 1) := by decide +kernel
theorem dX1_lower_43 : decode cX1_lower 43 = .ok (.istore 5, 2) := by decide +kernel
theorem dX1_lower_45 : decode cX1_lower 45 = .ok (.iload_n 3, 1) := by decide +kernel
theorem dX1_lower_46 : decode cX1_lower 46 = .ok (.iconst 4, 1) := by decide +kernel
theorem dX1_lower_47 : decode cX1_lower 47 = .ok (.if_icmp .eq 95, 3) := by decide +kernel
theorem dX1_lower_50 : decode cX1_lower 50 = .ok (.iload 4, 2) := by decide +kernel
theorem dX1_lower_52 : decode cX1_lower 52 = .ok (.ifCond .lt 90, 3) := by decide +kernel
theorem dX1_lower_55 : decode cX1_lower 55 = .ok (.iload 4, 2) := by decide +kernel
theorem dX1_lower_57 : decode cX1_lower 57 = .ok (.bipush 11, 2) := by decide +kernel
theorem dX1_lower_59 : decode cX1_lower 59 = .ok (.if_icmp .gt 83, 3) := by decide +kernel
theorem dX1_lower_62 : decode cX1_lower 62 = .ok (.iload 5, 2) := by decide +kernel
theorem dX1_lower_64 : decode cX1_lower 64 = .ok (.ifCond .lt 78, 3) := by decide +kernel
theorem dX1_lower_67 : decode cX1_lower 67 = .ok (.iload 5, 2) := by decide +kernel
theorem dX1_lower_69 : decode cX1_lower 69 = .ok (.bipush 11, 2) := by decide +kernel
theorem dX1_lower_71 : decode cX1_lower 71 = .ok (.if_icmp .gt 71, 3) := by decide +kernel
theorem dX1_lower_74 : decode cX1_lower 74 = .ok (.aload_n 0, 1) := by decide +kernel
theorem dX1_lower_75 : decode cX1_lower 75 = .ok (.getfield 13, 3) := by decide +kernel
theorem dX1_lower_78 : decode cX1_lower 78 = .ok (.bipush 12, 2) := by decide +kernel
theorem dX1_lower_80 : decode cX1_lower 80 = .ok (.iload 5, 2) := by decide +kernel
theorem dX1_lower_82 : decode cX1_lower 82 = .ok (.imul, 1) := by decide +kernel
theorem dX1_lower_83 : decode cX1_lower 83 = .ok (.iload 4, 2) := by decide +kernel
theorem dX1_lower_85 : decode cX1_lower 85 = .ok (.iadd, 1) := by decide +kernel
theorem dX1_lower_86 : decode cX1_lower 86 = .ok (.iaload, 1) := by decide +kernel
theorem dX1_lower_87 : decode cX1_lower 87 = .ok (.istore 6, 2) := by decide +kernel
theorem dX1_lower_89 : decode cX1_lower 89 = .ok (.iload 6, 2) := by decide +kernel
theorem dX1_lower_91 : decode cX1_lower 91 = .ok (.iload_n 3, 1) := by decide +kernel
theorem dX1_lower_92 : decode cX1_lower 92 = .ok (.iconst 2, 1) := by decide +kernel
theorem dX1_lower_93 : decode cX1_lower 93 = .ok (.irem, 1) := by decide +kernel
theorem dX1_lower_94 : decode cX1_lower 94 = .ok (.ifCond .ne 8, 3) := by decide +kernel
theorem dX1_lower_97 : decode cX1_lower 97 = .ok (.bipush 14, 2) := by decide +kernel
theorem dX1_lower_99 : decode cX1_lower 99 = .ok (.goto 5, 3) := by decide +kernel
theorem dX1_lower_102 : decode cX1_lower 102 = .ok (.bipush 10, 2) := by decide +kernel
theorem dX1_lower_104 : decode cX1_lower 104 = .ok (.iadd, 1) := by decide +kernel
theorem dX1_lower_105 : decode cX1_lower 105 = .ok (.istore 7, 2) := by decide +kernel
theorem dX1_lower_107 : decode cX1_lower 107 = .ok (.iload 6, 2) := by decide +kernel
theorem dX1_lower_109 : decode cX1_lower 109 = .ok (.ifCond .lt 33, 3) := by decide +kernel
theorem dX1_lower_112 : decode cX1_lower 112 = .ok (.aload_n 0, 1) := by decide +kernel
theorem dX1_lower_113 : decode cX1_lower 113 = .ok (.getfield 13, 3) := by decide +kernel
theorem dX1_lower_116 : decode cX1_lower 116 = .ok (.iload_n 1, 1) := by decide +kernel
theorem dX1_lower_117 : decode cX1_lower 117 = .ok (.iaload, 1) := by decide +kernel
theorem dX1_lower_118 : decode cX1_lower 118 = .ok (.ifCond .lt 14, 3) := by decide +kernel
theorem dX1_lower_121 : decode cX1_lower 121 = .ok (.iload 7, 2) := by decide +kernel
theorem dX1_lower_123 : decode cX1_lower 123 = .ok (.aload_n 0, 1) := by decide +kernel
theorem dX1_lower_124 : decode cX1_lower 124 = .ok (.getfield 13, 3) := by decide +kernel
theorem dX1_lower_127 : decode cX1_lower 127 = .ok (.iload_n 1, 1) := by decide +kernel
theorem dX1_lower_128 : decode cX1_lower 128 = .ok (.iaload, 1) := by decide +kernel
theorem dX1_lower_129 : decode cX1_lower 129 = .ok (.if_icmp .ge 13, 3) := by decide +kernel
theorem dX1_lower_132 : decode cX1_lower 132 = .ok (.aload_n 0, 1) := by decide +kernel
theorem dX1_lower_133 : decode cX1_lower 133 = .ok (.getfield 13, 3) := by decide +kernel
theorem dX1_lower_136 : decode cX1_lower 136 = .ok (.iload_n 1, 1) := by decide +kernel
theorem dX1_lower_137 : decode cX1_lower 137 = .ok (.iload 7, 2) := by decide +kernel
theorem dX1_lower_139 : decode cX1_lower 139 = .ok (.iastore, 1) := by decide +kernel
theorem dX1_lower_140 : decode cX1_lower 140 = .ok (.iconst 1, 1) := by decide +kernel
theorem dX1_lower_141 : decode cX1_lower 141 = .ok (.istore_n 2, 1) := by decide +kernel
theorem dX1_lower_142 : decode cX1_lower 142 = .ok (.iinc 3 1, 3) := by decide +kernel
theorem dX1_lower_145 : decode cX1_lower 145 = .ok (.goto (-130), 3) := by decide +kernel
theorem dX1_lower_148 : decode cX1_lower 148 = .ok (.iload_n 2, 1) := by decide +kernel
theorem dX1_lower_149 : decode cX1_lower 149 = .ok (.ireturn, 1) := by decide +kernel
theorem dX1_nearer_0 : decode cX1_nearer 0 = .ok (.aload_n 0, 1) := by decide +kernel
theorem dX1_nearer_1 : decode cX1_nearer 1 = .ok (.iload_n 1, 1) := by decide +kernel
theorem dX1_nearer_2 : decode cX1_nearer 2 = .ok (.invokevirtual 24, 3) := by decide +kernel
theorem dX1_nearer_5 : decode cX1_nearer 5 = .ok (.ifCond .eq 19, 3) := by decide +kernel
theorem dX1_nearer_8 : decode cX1_nearer 8 = .ok (.aload_n 0, 1) := by decide +kernel
theorem dX1_nearer_9 : decode cX1_nearer 9 = .ok (.iload_n 2, 1) := by decide +kernel
theorem dX1_nearer_10 : decode cX1_nearer 10 = .ok (.invokevirtual 24, 3) := by decide +kernel
theorem dX1_nearer_13 : decode cX1_nearer 13 = .ok (.ifCond .eq 11, 3) := by decide +kernel
theorem dX1_nearer_16 : decode cX1_nearer 16 = .ok (.aload_n 0, 1) := by decide +kernel
theorem dX1_nearer_17 : decode cX1_nearer 17 = .ok (.iload_n 3, 1) := by decide +kernel
theorem dX1_nearer_18 : decode cX1_nearer 18 = .ok (.invokevirtual 24, 3) := by decide +kernel
theorem dX1_nearer_21 : decode cX1_nearer 21 = .ok (.ifCond .ne 5, 3) := by decide +kernel
theorem dX1_nearer_24 : decode cX1_nearer 24 = .ok (.iconst (-1), 1) := by decide +kernel
theorem dX1_nearer_25 : decode cX1_nearer 25 = .ok (.ireturn, 1) := by decide +kernel
theorem dX1_nearer_26 : decode cX1_nearer 26 = .ok (.aload_n 0, 1) := by decide +kernel
theorem dX1_nearer_27 : decode cX1_nearer 27 = .ok (.iload_n 1, 1) := by decide +kernel
theorem dX1_nearer_28 : decode cX1_nearer 28 = .ok (.invokevirtual 27, 3) := by decide +kernel
theorem dX1_nearer_31 : decode cX1_nearer 31 = .ok (.aload_n 0, 1) := by decide +kernel
theorem dX1_nearer_32 : decode cX1_nearer 32 = .ok (.getfield 13, 3) := by decide +kernel
theorem dX1_nearer_35 : decode cX1_nearer 35 = .ok (.iload_n 3, 1) := by decide +kernel
theorem dX1_nearer_36 : decode cX1_nearer 36 = .ok (.iaload, 1) := by decide +kernel
theorem dX1_nearer_37 : decode cX1_nearer 37 = .ok (.ifCond .lt 31, 3) := by decide +kernel
theorem dX1_nearer_40 : decode cX1_nearer 40 = .ok (.aload_n 0, 1) := by decide +kernel
theorem dX1_nearer_41 : decode cX1_nearer 41 = .ok (.getfield 13, 3) := by decide +kernel
theorem dX1_nearer_44 : decode cX1_nearer 44 = .ok (.iload_n 2, 1) := by decide +kernel
theorem dX1_nearer_45 : decode cX1_nearer 45 = .ok (.iaload, 1) := by decide +kernel
theorem dX1_nearer_46 : decode cX1_nearer 46 = .ok (.ifCond .lt 18, 3) := by decide +kernel
theorem dX1_nearer_49 : decode cX1_nearer 49 = .ok (.aload_n 0, 1) := by decide +kernel
theorem dX1_nearer_50 : decode cX1_nearer 50 = .ok (.getfield 13, 3) := by decide +kernel
theorem dX1_nearer_53 : decode cX1_nearer 53 = .ok (.iload_n 3, 1) := by decide +kernel
theorem dX1_nearer_54 : decode cX1_nearer 54 = .ok (.iaload, 1) := by decide +kernel
theorem dX1_nearer_55 : decode cX1_nearer 55 = .ok (.aload_n 0, 1) := by decide +kernel
theorem dX1_nearer_56 : decode cX1_nearer 56 = .ok (.getfield 13, 3) := by decide +kernel
theorem dX1_nearer_59 : decode cX1_nearer 59 = .ok (.iload_n 2, 1) := by decide +kernel
theorem dX1_nearer_60 : decode cX1_nearer 60 = .ok (.iaload, 1) := by decide +kernel
theorem dX1_nearer_61 : decode cX1_nearer 61 = .ok (.if_icmp .ge 7, 3) := by decide +kernel
theorem dX1_nearer_64 : decode cX1_nearer 64 = .ok (.iconst 1, 1) := by decide +kernel
theorem dX1_nearer_65 : decode cX1_nearer 65 = .ok (.goto 4, 3) := by decide +kernel
theorem dX1_nearer_68 : decode cX1_nearer 68 = .ok (.iconst 0, 1) := by decide +kernel
theorem dX1_nearer_69 : decode cX1_nearer 69 = .ok (.ireturn, 1) := by decide +kernel
theorem dX1_vital_0 : decode cX1_vital 0 = .ok (.aload_n 0, 1) := by decide +kernel
theorem dX1_vital_1 : decode cX1_vital 1 = .ok (.iload_n 1, 1) := by decide +kernel
theorem dX1_vital_2 : decode cX1_vital 2 = .ok (.invokevirtual 24, 3) := by decide +kernel
theorem dX1_vital_5 : decode cX1_vital 5 = .ok (.ifCond .eq 29, 3) := by decide +kernel
theorem dX1_vital_8 : decode cX1_vital 8 = .ok (.aload_n 0, 1) := by decide +kernel
theorem dX1_vital_9 : decode cX1_vital 9 = .ok (.iload_n 2, 1) := by decide +kernel
theorem dX1_vital_10 : decode cX1_vital 10 = .ok (.invokevirtual 24, 3) := by decide +kernel
theorem dX1_vital_13 : decode cX1_vital 13 = .ok (.ifCond .eq 21, 3) := by decide +kernel
theorem dX1_vital_16 : decode cX1_vital 16 = .ok (.aload_n 0, 1) := by decide +kernel
theorem dX1_vital_17 : decode cX1_vital 17 = .ok (.iload_n 3, 1) := by decide +kernel
theorem dX1_vital_18 : decode cX1_vital 18 = .ok (.invokevirtual 24, 3) := by decide +kernel
theorem dX1_vital_21 : decode cX1_vital 21 = .ok (.ifCond .eq 13, 3) := by decide +kernel
theorem dX1_vital_24 : decode cX1_vital 24 = .ok (.iload_n 3, 1) := by decide +kernel
theorem dX1_vital_25 : decode cX1_vital 25 = .ok (.iload_n 1, 1) := by decide +kernel
theorem dX1_vital_26 : decode cX1_vital 26 = .ok (.if_icmp .eq 8, 3) := by decide +kernel
theorem dX1_vital_29 : decode cX1_vital 29 = .ok (.iload_n 3, 1) := by decide +kernel
theorem dX1_vital_30 : decode cX1_vital 30 = .ok (.iload_n 2, 1) := by decide +kernel
theorem dX1_vital_31 : decode cX1_vital 31 = .ok (.if_icmp .ne 5, 3) := by decide +kernel
theorem dX1_vital_34 : decode cX1_vital 34 = .ok (.iconst 0, 1) := by decide +kernel
theorem dX1_vital_35 : decode cX1_vital 35 = .ok (.ireturn, 1) := by decide +kernel
theorem dX1_vital_36 : decode cX1_vital 36 = .ok (.aload_n 0, 1) := by decide +kernel
theorem dX1_vital_37 : decode cX1_vital 37 = .ok (.iload_n 1, 1) := by decide +kernel
theorem dX1_vital_38 : decode cX1_vital 38 = .ok (.iload_n 2, 1) := by decide +kernel
theorem dX1_vital_39 : decode cX1_vital 39 = .ok (.invokevirtual 31, 3) := by decide +kernel
theorem dX1_vital_42 : decode cX1_vital 42 = .ok (.istore 4, 2) := by decide +kernel
theorem dX1_vital_44 : decode cX1_vital 44 = .ok (.iload 4, 2) := by decide +kernel
theorem dX1_vital_46 : decode cX1_vital 46 = .ok (.ifCond .ge 5, 3) := by decide +kernel
theorem dX1_vital_49 : decode cX1_vital 49 = .ok (.iconst 0, 1) := by decide +kernel
theorem dX1_vital_50 : decode cX1_vital 50 = .ok (.ireturn, 1) := by decide +kernel
theorem dX1_vital_51 : decode cX1_vital 51 = .ok (.aload_n 0, 1) := by decide +kernel
theorem dX1_vital_52 : decode cX1_vital 52 = .ok (.getfield 7, 3) := by decide +kernel
theorem dX1_vital_55 : decode cX1_vital 55 = .ok (.iload_n 3, 1) := by decide +kernel
theorem dX1_vital_56 : decode cX1_vital 56 = .ok (.iconst 1, 1) := by decide +kernel
theorem dX1_vital_57 : decode cX1_vital 57 = .ok (.bastore, 1) := by decide +kernel
theorem dX1_vital_58 : decode cX1_vital 58 = .ok (.aload_n 0, 1) := by decide +kernel
theorem dX1_vital_59 : decode cX1_vital 59 = .ok (.iload_n 1, 1) := by decide +kernel
theorem dX1_vital_60 : decode cX1_vital 60 = .ok (.iload_n 2, 1) := by decide +kernel
theorem dX1_vital_61 : decode cX1_vital 61 = .ok (.invokevirtual 31, 3) := by decide +kernel
theorem dX1_vital_64 : decode cX1_vital 64 = .ok (.istore 5, 2) := by decide +kernel
theorem dX1_vital_66 : decode cX1_vital 66 = .ok (.aload_n 0, 1) := by decide +kernel
theorem dX1_vital_67 : decode cX1_vital 67 = .ok (.getfield 7, 3) := by decide +kernel
theorem dX1_vital_70 : decode cX1_vital 70 = .ok (.iload_n 3, 1) := by decide +kernel
theorem dX1_vital_71 : decode cX1_vital 71 = .ok (.iconst 0, 1) := by decide +kernel
theorem dX1_vital_72 : decode cX1_vital 72 = .ok (.bastore, 1) := by decide +kernel
theorem dX1_vital_73 : decode cX1_vital 73 = .ok (.iload 5, 2) := by decide +kernel
theorem dX1_vital_75 : decode cX1_vital 75 = .ok (.ifCond .lt 10, 3) := by decide +kernel
theorem dX1_vital_78 : decode cX1_vital 78 = .ok (.iload 5, 2) := by decide +kernel
theorem dX1_vital_80 : decode cX1_vital 80 = .ok (.iload 4, 2) := by decide +kernel
theorem dX1_vital_82 : decode cX1_vital 82 = .ok (.if_icmp .le 7, 3) := by decide +kernel
theorem dX1_vital_85 : decode cX1_vital 85 = .ok (.iconst 1, 1) := by decide +kernel
theorem dX1_vital_86 : decode cX1_vital 86 = .ok (.goto 4, 3) := by decide +kernel
theorem dX1_vital_89 : decode cX1_vital 89 = .ok (.iconst 0, 1) := by decide +kernel
theorem dX1_vital_90 : decode cX1_vital 90 = .ok (.ireturn, 1) := by decide +kernel
theorem dX1_farthest_0 : decode cX1_farthest 0 = .ok (.aload_n 0, 1) := by decide +kernel
theorem dX1_farthest_1 : decode cX1_farthest 1 = .ok (.iload_n 1, 1) := by decide +kernel
theorem dX1_farthest_2 : decode cX1_farthest 2 = .ok (.invokevirtual 24, 3) := by decide +kernel
theorem dX1_farthest_5 : decode cX1_farthest 5 = .ok (.ifCond .ne 5, 3) := by decide +kernel
theorem dX1_farthest_8 : decode cX1_farthest 8 = .ok (.iconst (-1), 1) := by decide +kernel
theorem dX1_farthest_9 : decode cX1_farthest 9 = .ok (.ireturn, 1) := by decide +kernel
theorem dX1_farthest_10 : decode cX1_farthest 10 = .ok (.aload_n 0, 1) := by decide +kernel
theorem dX1_farthest_11 : decode cX1_farthest 11 = .ok (.iload_n 1, 1) := by decide +kernel
theorem dX1_farthest_12 : decode cX1_farthest 12 = .ok (.invokevirtual 27, 3) := by decide +kernel
theorem dX1_farthest_15 : decode cX1_farthest 15 = .ok (.iconst 0, 1) := by decide +kernel
theorem dX1_farthest_16 : decode cX1_farthest 16 = .ok (.istore_n 2, 1) := by decide +kernel
theorem dX1_farthest_17 : decode cX1_farthest 17 = .ok (.iconst 0, 1) := by decide +kernel
theorem dX1_farthest_18 : decode cX1_farthest 18 = .ok (.istore_n 3, 1) := by decide +kernel
theorem dX1_farthest_19 : decode cX1_farthest 19 = .ok (.iload_n 3, 1) := by decide +kernel
theorem dX1_farthest_20 : decode cX1_farthest 20 = .ok (.sipush 144, 3) := by decide +kernel
theorem dX1_farthest_23 : decode cX1_farthest 23 = .ok (.if_icmp .ge 26, 3) := by decide +kernel
theorem dX1_farthest_26 : decode cX1_farthest 26 = .ok (.aload_n 0, 1) := by decide +kernel
theorem dX1_farthest_27 : decode cX1_farthest 27 = .ok (.getfield 13, 3) := by decide +kernel
theorem dX1_farthest_30 : decode cX1_farthest 30 = .ok (.iload_n 3, 1) := by decide +kernel
theorem dX1_farthest_31 : decode cX1_farthest 31 = .ok (.iaload, 1) := by decide +kernel
theorem dX1_farthest_32 : decode cX1_farthest 32 = .ok (.iload_n 2, 1) := by decide +kernel
theorem dX1_farthest_33 : decode cX1_farthest 33 = .ok (.if_icmp .le 10, 3) := by decide +kernel
theorem dX1_farthest_36 : decode cX1_farthest 36 = .ok (.aload_n 0, 1) := by decide +kernel
theorem dX1_farthest_37 : decode cX1_farthest 37 = .ok (.getfield 13, 3) := by decide +kernel
theorem dX1_farthest_40 : decode cX1_farthest 40 = .ok (.iload_n 3, 1) := by decide +kernel
theorem dX1_farthest_41 : decode cX1_farthest 41 = .ok (.iaload, 1) := by decide +kernel
theorem dX1_farthest_42 : decode cX1_farthest 42 = .ok (.istore_n 2, 1) := by decide +kernel
theorem dX1_farthest_43 : decode cX1_farthest 43 = .ok (.iinc 3 1, 3) := by decide +kernel
theorem dX1_farthest_46 : decode cX1_farthest 46 = .ok (.goto (-27), 3) := by decide +kernel
theorem dX1_farthest_49 : decode cX1_farthest 49 = .ok (.iload_n 2, 1) := by decide +kernel
theorem dX1_farthest_50 : decode cX1_farthest 50 = .ok (.ireturn, 1) := by decide +kernel
theorem dX1_reach_0 : decode cX1_reach 0 = .ok (.aload_n 0, 1) := by decide +kernel
theorem dX1_reach_1 : decode cX1_reach 1 = .ok (.iload_n 1, 1) := by decide +kernel
theorem dX1_reach_2 : decode cX1_reach 2 = .ok (.invokevirtual 24, 3) := by decide +kernel
theorem dX1_reach_5 : decode cX1_reach 5 = .ok (.ifCond .ne 5, 3) := by decide +kernel
theorem dX1_reach_8 : decode cX1_reach 8 = .ok (.iconst (-1), 1) := by decide +kernel
theorem dX1_reach_9 : decode cX1_reach 9 = .ok (.ireturn, 1) := by decide +kernel
theorem dX1_reach_10 : decode cX1_reach 10 = .ok (.aload_n 0, 1) := by decide +kernel
theorem dX1_reach_11 : decode cX1_reach 11 = .ok (.iload_n 1, 1) := by decide +kernel
theorem dX1_reach_12 : decode cX1_reach 12 = .ok (.invokevirtual 27, 3) := by decide +kernel
theorem dX1_reach_15 : decode cX1_reach 15 = .ok (.iconst 0, 1) := by decide +kernel
theorem dX1_reach_16 : decode cX1_reach 16 = .ok (.istore_n 2, 1) := by decide +kernel
theorem dX1_reach_17 : decode cX1_reach 17 = .ok (.iconst 0, 1) := by decide +kernel
theorem dX1_reach_18 : decode cX1_reach 18 = .ok (.istore_n 3, 1) := by decide +kernel
theorem dX1_reach_19 : decode cX1_reach 19 = .ok (.iload_n 3, 1) := by decide +kernel
theorem dX1_reach_20 : decode cX1_reach 20 = .ok (.sipush 144, 3) := by decide +kernel
theorem dX1_reach_23 : decode cX1_reach 23 = .ok (.if_icmp .ge 21, 3) := by decide +kernel
theorem dX1_reach_26 : decode cX1_reach 26 = .ok (.aload_n 0, 1) := by decide +kernel
theorem dX1_reach_27 : decode cX1_reach 27 = .ok (.getfield 13, 3) := by decide +kernel
theorem dX1_reach_30 : decode cX1_reach 30 = .ok (.iload_n 3, 1) := by decide +kernel
theorem dX1_reach_31 : decode cX1_reach 31 = .ok (.iaload, 1) := by decide +kernel
theorem dX1_reach_32 : decode cX1_reach 32 = .ok (.ifCond .lt 6, 3) := by decide +kernel
theorem dX1_reach_35 : decode cX1_reach 35 = .ok (.iinc 2 1, 3) := by decide +kernel
theorem dX1_reach_38 : decode cX1_reach 38 = .ok (.iinc 3 1, 3) := by decide +kernel
theorem dX1_reach_41 : decode cX1_reach 41 = .ok (.goto (-22), 3) := by decide +kernel
theorem dX1_reach_44 : decode cX1_reach 44 = .ok (.iload_n 2, 1) := by decide +kernel
theorem dX1_reach_45 : decode cX1_reach 45 = .ok (.ireturn, 1) := by decide +kernel
theorem dX1_at_0 : decode cX1_at 0 = .ok (.aload_n 0, 1) := by decide +kernel
theorem dX1_at_1 : decode cX1_at 1 = .ok (.iload_n 1, 1) := by decide +kernel
theorem dX1_at_2 : decode cX1_at 2 = .ok (.invokevirtual 24, 3) := by decide +kernel
theorem dX1_at_5 : decode cX1_at 5 = .ok (.ifCond .ne 5, 3) := by decide +kernel
theorem dX1_at_8 : decode cX1_at 8 = .ok (.iconst (-1), 1) := by decide +kernel
theorem dX1_at_9 : decode cX1_at 9 = .ok (.ireturn, 1) := by decide +kernel
theorem dX1_at_10 : decode cX1_at 10 = .ok (.aload_n 0, 1) := by decide +kernel
theorem dX1_at_11 : decode cX1_at 11 = .ok (.iload_n 1, 1) := by decide +kernel
theorem dX1_at_12 : decode cX1_at 12 = .ok (.invokevirtual 27, 3) := by decide +kernel
theorem dX1_at_15 : decode cX1_at 15 = .ok (.iconst 0, 1) := by decide +kernel
theorem dX1_at_16 : decode cX1_at 16 = .ok (.istore_n 3, 1) := by decide +kernel
theorem dX1_at_17 : decode cX1_at 17 = .ok (.iload_n 3, 1) := by decide +kernel
theorem dX1_at_18 : decode cX1_at 18 = .ok (.sipush 144, 3) := by decide +kernel
theorem dX1_at_21 : decode cX1_at 21 = .ok (.if_icmp .ge 30, 3) := by decide +kernel
theorem dX1_at_24 : decode cX1_at 24 = .ok (.aload_n 0, 1) := by decide +kernel
theorem dX1_at_25 : decode cX1_at 25 = .ok (.getfield 13, 3) := by decide +kernel
theorem dX1_at_28 : decode cX1_at 28 = .ok (.iload_n 3, 1) := by decide +kernel
theorem dX1_at_29 : decode cX1_at 29 = .ok (.iaload, 1) := by decide +kernel
theorem dX1_at_30 : decode cX1_at 30 = .ok (.ifCond .lt 15, 3) := by decide +kernel
theorem dX1_at_33 : decode cX1_at 33 = .ok (.aload_n 0, 1) := by decide +kernel
theorem dX1_at_34 : decode cX1_at 34 = .ok (.getfield 13, 3) := by decide +kernel
theorem dX1_at_37 : decode cX1_at 37 = .ok (.iload_n 3, 1) := by decide +kernel
theorem dX1_at_38 : decode cX1_at 38 = .ok (.iaload, 1) := by decide +kernel
theorem dX1_at_39 : decode cX1_at 39 = .ok (.iload_n 2, 1) := by decide +kernel
theorem dX1_at_40 : decode cX1_at 40 = .ok (.if_icmp .ne 5, 3) := by decide +kernel
theorem dX1_at_43 : decode cX1_at 43 = .ok (.iload_n 3, 1) := by decide +kernel
theorem dX1_at_44 : decode cX1_at 44 = .ok (.ireturn, 1) := by decide +kernel
theorem dX1_at_45 : decode cX1_at 45 = .ok (.iinc 3 1, 3) := by decide +kernel
theorem dX1_at_48 : decode cX1_at 48 = .ok (.goto (-31), 3) := by decide +kernel
theorem dX1_at_51 : decode cX1_at 51 = .ok (.bipush (-2), 2) := by decide +kernel
theorem dX1_at_53 : decode cX1_at 53 = .ok (.ireturn, 1) := by decide +kernel
end
section
/-! the law's own entry -/
set_option maxRecDepth 100000
abbrev cL_law : ByteArray := code
theorem dL_law_0 : decode cL_law 0 = .ok (.new 7, 3) := by decide +kernel
theorem dL_law_3 : decode cL_law 3 = .ok (.dup, 1) := by decide +kernel
theorem dL_law_4 : decode cL_law 4 = .ok (.invokespecial 9, 3) := by decide +kernel
theorem dL_law_7 : decode cL_law 7 = .ok (.astore_n 1, 1) := by decide +kernel
theorem dL_law_8 : decode cL_law 8 = .ok (.new 10, 3) := by decide +kernel
theorem dL_law_11 : decode cL_law 11 = .ok (.dup, 1) := by decide +kernel
theorem dL_law_12 : decode cL_law 12 = .ok (.invokespecial 12, 3) := by decide +kernel
theorem dL_law_15 : decode cL_law 15 = .ok (.astore_n 2, 1) := by decide +kernel
theorem dL_law_16 : decode cL_law 16 = .ok (.iconst 0, 1) := by decide +kernel
theorem dL_law_17 : decode cL_law 17 = .ok (.istore_n 3, 1) := by decide +kernel
theorem dL_law_18 : decode cL_law 18 = .ok (.iload_n 3, 1) := by decide +kernel
theorem dL_law_19 : decode cL_law 19 = .ok (.aload_n 0, 1) := by decide +kernel
theorem dL_law_20 : decode cL_law 20 = .ok (.arraylength, 1) := by decide +kernel
theorem dL_law_21 : decode cL_law 21 = .ok (.iconst 4, 1) := by decide +kernel
theorem dL_law_22 : decode cL_law 22 = .ok (.isub, 1) := by decide +kernel
theorem dL_law_23 : decode cL_law 23 = .ok (.if_icmp .gt 386, 3) := by decide +kernel
theorem dL_law_26 : decode cL_law 26 = .ok (.aload_n 0, 1) := by decide +kernel
theorem dL_law_27 : decode cL_law 27 = .ok (.iload_n 3, 1) := by decide +kernel
theorem dL_law_28 : decode cL_law 28 = .ok (.iaload, 1) := by decide +kernel
theorem dL_law_29 : decode cL_law 29 = .ok (.bipush 15, 2) := by decide +kernel
theorem dL_law_31 : decode cL_law 31 = .ok (.iand, 1) := by decide +kernel
theorem dL_law_32 : decode cL_law 32 = .ok (.tableswitch 371 0 8 #[52, 101, 150, 173, 206, 249, 292, 315, 338], 52) := by decide +kernel
theorem dL_law_84 : decode cL_law 84 = .ok (.aload_n 1, 1) := by decide +kernel
theorem dL_law_85 : decode cL_law 85 = .ok (.aload_n 0, 1) := by decide +kernel
theorem dL_law_86 : decode cL_law 86 = .ok (.iload_n 3, 1) := by decide +kernel
theorem dL_law_87 : decode cL_law 87 = .ok (.iconst 1, 1) := by decide +kernel
theorem dL_law_88 : decode cL_law 88 = .ok (.iadd, 1) := by decide +kernel
theorem dL_law_89 : decode cL_law 89 = .ok (.iaload, 1) := by decide +kernel
theorem dL_law_90 : decode cL_law 90 = .ok (.aload_n 0, 1) := by decide +kernel
theorem dL_law_91 : decode cL_law 91 = .ok (.iload_n 3, 1) := by decide +kernel
theorem dL_law_92 : decode cL_law 92 = .ok (.iconst 2, 1) := by decide +kernel
theorem dL_law_93 : decode cL_law 93 = .ok (.iadd, 1) := by decide +kernel
theorem dL_law_94 : decode cL_law 94 = .ok (.iaload, 1) := by decide +kernel
theorem dL_law_95 : decode cL_law 95 = .ok (.ifCond .eq 7, 3) := by decide +kernel
theorem dL_law_98 : decode cL_law 98 = .ok (.iconst 1, 1) := by decide +kernel
theorem dL_law_99 : decode cL_law 99 = .ok (.goto 4, 3) := by decide +kernel
theorem dL_law_102 : decode cL_law 102 = .ok (.iconst 0, 1) := by decide +kernel
theorem dL_law_103 : decode cL_law 103 = .ok (.invokevirtual 13, 3) := by decide +kernel
theorem dL_law_106 : decode cL_law 106 = .ok (.aload_n 2, 1) := by decide +kernel
theorem dL_law_107 : decode cL_law 107 = .ok (.aload_n 0, 1) := by decide +kernel
theorem dL_law_108 : decode cL_law 108 = .ok (.iload_n 3, 1) := by decide +kernel
theorem dL_law_109 : decode cL_law 109 = .ok (.iconst 1, 1) := by decide +kernel
theorem dL_law_110 : decode cL_law 110 = .ok (.iadd, 1) := by decide +kernel
theorem dL_law_111 : decode cL_law 111 = .ok (.iaload, 1) := by decide +kernel
theorem dL_law_112 : decode cL_law 112 = .ok (.aload_n 0, 1) := by decide +kernel
theorem dL_law_113 : decode cL_law 113 = .ok (.iload_n 3, 1) := by decide +kernel
theorem dL_law_114 : decode cL_law 114 = .ok (.iconst 2, 1) := by decide +kernel
theorem dL_law_115 : decode cL_law 115 = .ok (.iadd, 1) := by decide +kernel
theorem dL_law_116 : decode cL_law 116 = .ok (.iaload, 1) := by decide +kernel
theorem dL_law_117 : decode cL_law 117 = .ok (.ifCond .eq 7, 3) := by decide +kernel
theorem dL_law_120 : decode cL_law 120 = .ok (.iconst 1, 1) := by decide +kernel
theorem dL_law_121 : decode cL_law 121 = .ok (.goto 4, 3) := by decide +kernel
theorem dL_law_124 : decode cL_law 124 = .ok (.iconst 0, 1) := by decide +kernel
theorem dL_law_125 : decode cL_law 125 = .ok (.invokevirtual 17, 3) := by decide +kernel
theorem dL_law_128 : decode cL_law 128 = .ok (.if_icmp .eq 275, 3) := by decide +kernel
theorem dL_law_131 : decode cL_law 131 = .ok (.iconst 0, 1) := by decide +kernel
theorem dL_law_132 : decode cL_law 132 = .ok (.ireturn, 1) := by decide +kernel
theorem dL_law_133 : decode cL_law 133 = .ok (.aload_n 1, 1) := by decide +kernel
theorem dL_law_134 : decode cL_law 134 = .ok (.aload_n 0, 1) := by decide +kernel
theorem dL_law_135 : decode cL_law 135 = .ok (.iload_n 3, 1) := by decide +kernel
theorem dL_law_136 : decode cL_law 136 = .ok (.iconst 1, 1) := by decide +kernel
theorem dL_law_137 : decode cL_law 137 = .ok (.iadd, 1) := by decide +kernel
theorem dL_law_138 : decode cL_law 138 = .ok (.iaload, 1) := by decide +kernel
theorem dL_law_139 : decode cL_law 139 = .ok (.aload_n 0, 1) := by decide +kernel
theorem dL_law_140 : decode cL_law 140 = .ok (.iload_n 3, 1) := by decide +kernel
theorem dL_law_141 : decode cL_law 141 = .ok (.iconst 2, 1) := by decide +kernel
theorem dL_law_142 : decode cL_law 142 = .ok (.iadd, 1) := by decide +kernel
theorem dL_law_143 : decode cL_law 143 = .ok (.iaload, 1) := by decide +kernel
theorem dL_law_144 : decode cL_law 144 = .ok (.ifCond .eq 7, 3) := by decide +kernel
theorem dL_law_147 : decode cL_law 147 = .ok (.iconst 1, 1) := by decide +kernel
theorem dL_law_148 : decode cL_law 148 = .ok (.goto 4, 3) := by decide +kernel
theorem dL_law_151 : decode cL_law 151 = .ok (.iconst 0, 1) := by decide +kernel
theorem dL_law_152 : decode cL_law 152 = .ok (.invokevirtual 18, 3) := by decide +kernel
theorem dL_law_155 : decode cL_law 155 = .ok (.aload_n 2, 1) := by decide +kernel
theorem dL_law_156 : decode cL_law 156 = .ok (.aload_n 0, 1) := by decide +kernel
theorem dL_law_157 : decode cL_law 157 = .ok (.iload_n 3, 1) := by decide +kernel
theorem dL_law_158 : decode cL_law 158 = .ok (.iconst 1, 1) := by decide +kernel
theorem dL_law_159 : decode cL_law 159 = .ok (.iadd, 1) := by decide +kernel
theorem dL_law_160 : decode cL_law 160 = .ok (.iaload, 1) := by decide +kernel
theorem dL_law_161 : decode cL_law 161 = .ok (.aload_n 0, 1) := by decide +kernel
theorem dL_law_162 : decode cL_law 162 = .ok (.iload_n 3, 1) := by decide +kernel
theorem dL_law_163 : decode cL_law 163 = .ok (.iconst 2, 1) := by decide +kernel
theorem dL_law_164 : decode cL_law 164 = .ok (.iadd, 1) := by decide +kernel
theorem dL_law_165 : decode cL_law 165 = .ok (.iaload, 1) := by decide +kernel
theorem dL_law_166 : decode cL_law 166 = .ok (.ifCond .eq 7, 3) := by decide +kernel
theorem dL_law_169 : decode cL_law 169 = .ok (.iconst 1, 1) := by decide +kernel
theorem dL_law_170 : decode cL_law 170 = .ok (.goto 4, 3) := by decide +kernel
theorem dL_law_173 : decode cL_law 173 = .ok (.iconst 0, 1) := by decide +kernel
theorem dL_law_174 : decode cL_law 174 = .ok (.invokevirtual 22, 3) := by decide +kernel
theorem dL_law_177 : decode cL_law 177 = .ok (.if_icmp .eq 226, 3) := by decide +kernel
theorem dL_law_180 : decode cL_law 180 = .ok (.iconst 0, 1) := by decide +kernel
theorem dL_law_181 : decode cL_law 181 = .ok (.ireturn, 1) := by decide +kernel
theorem dL_law_182 : decode cL_law 182 = .ok (.aload_n 1, 1) := by decide +kernel
theorem dL_law_183 : decode cL_law 183 = .ok (.aload_n 0, 1) := by decide +kernel
theorem dL_law_184 : decode cL_law 184 = .ok (.iload_n 3, 1) := by decide +kernel
theorem dL_law_185 : decode cL_law 185 = .ok (.iconst 1, 1) := by decide +kernel
theorem dL_law_186 : decode cL_law 186 = .ok (.iadd, 1) := by decide +kernel
theorem dL_law_187 : decode cL_law 187 = .ok (.iaload, 1) := by decide +kernel
theorem dL_law_188 : decode cL_law 188 = .ok (.invokevirtual 23, 3) := by decide +kernel
theorem dL_law_191 : decode cL_law 191 = .ok (.aload_n 2, 1) := by decide +kernel
theorem dL_law_192 : decode cL_law 192 = .ok (.aload_n 0, 1) := by decide +kernel
theorem dL_law_193 : decode cL_law 193 = .ok (.iload_n 3, 1) := by decide +kernel
theorem dL_law_194 : decode cL_law 194 = .ok (.iconst 1, 1) := by decide +kernel
theorem dL_law_195 : decode cL_law 195 = .ok (.iadd, 1) := by decide +kernel
theorem dL_law_196 : decode cL_law 196 = .ok (.iaload, 1) := by decide +kernel
theorem dL_law_197 : decode cL_law 197 = .ok (.invokevirtual 27, 3) := by decide +kernel
theorem dL_law_200 : decode cL_law 200 = .ok (.if_icmp .eq 203, 3) := by decide +kernel
theorem dL_law_203 : decode cL_law 203 = .ok (.iconst 0, 1) := by decide +kernel
theorem dL_law_204 : decode cL_law 204 = .ok (.ireturn, 1) := by decide +kernel
theorem dL_law_205 : decode cL_law 205 = .ok (.aload_n 1, 1) := by decide +kernel
theorem dL_law_206 : decode cL_law 206 = .ok (.aload_n 0, 1) := by decide +kernel
theorem dL_law_207 : decode cL_law 207 = .ok (.iload_n 3, 1) := by decide +kernel
theorem dL_law_208 : decode cL_law 208 = .ok (.iconst 1, 1) := by decide +kernel
theorem dL_law_209 : decode cL_law 209 = .ok (.iadd, 1) := by decide +kernel
theorem dL_law_210 : decode cL_law 210 = .ok (.iaload, 1) := by decide +kernel
theorem dL_law_211 : decode cL_law 211 = .ok (.aload_n 0, 1) := by decide +kernel
theorem dL_law_212 : decode cL_law 212 = .ok (.iload_n 3, 1) := by decide +kernel
theorem dL_law_213 : decode cL_law 213 = .ok (.iconst 2, 1) := by decide +kernel
theorem dL_law_214 : decode cL_law 214 = .ok (.iadd, 1) := by decide +kernel
theorem dL_law_215 : decode cL_law 215 = .ok (.iaload, 1) := by decide +kernel
theorem dL_law_216 : decode cL_law 216 = .ok (.invokevirtual 28, 3) := by decide +kernel
theorem dL_law_219 : decode cL_law 219 = .ok (.aload_n 2, 1) := by decide +kernel
theorem dL_law_220 : decode cL_law 220 = .ok (.aload_n 0, 1) := by decide +kernel
theorem dL_law_221 : decode cL_law 221 = .ok (.iload_n 3, 1) := by decide +kernel
theorem dL_law_222 : decode cL_law 222 = .ok (.iconst 1, 1) := by decide +kernel
theorem dL_law_223 : decode cL_law 223 = .ok (.iadd, 1) := by decide +kernel
theorem dL_law_224 : decode cL_law 224 = .ok (.iaload, 1) := by decide +kernel
theorem dL_law_225 : decode cL_law 225 = .ok (.aload_n 0, 1) := by decide +kernel
theorem dL_law_226 : decode cL_law 226 = .ok (.iload_n 3, 1) := by decide +kernel
theorem dL_law_227 : decode cL_law 227 = .ok (.iconst 2, 1) := by decide +kernel
theorem dL_law_228 : decode cL_law 228 = .ok (.iadd, 1) := by decide +kernel
theorem dL_law_229 : decode cL_law 229 = .ok (.iaload, 1) := by decide +kernel
theorem dL_law_230 : decode cL_law 230 = .ok (.invokevirtual 32, 3) := by decide +kernel
theorem dL_law_233 : decode cL_law 233 = .ok (.if_icmp .eq 170, 3) := by decide +kernel
theorem dL_law_236 : decode cL_law 236 = .ok (.iconst 0, 1) := by decide +kernel
theorem dL_law_237 : decode cL_law 237 = .ok (.ireturn, 1) := by decide +kernel
theorem dL_law_238 : decode cL_law 238 = .ok (.aload_n 1, 1) := by decide +kernel
theorem dL_law_239 : decode cL_law 239 = .ok (.aload_n 0, 1) := by decide +kernel
theorem dL_law_240 : decode cL_law 240 = .ok (.iload_n 3, 1) := by decide +kernel
theorem dL_law_241 : decode cL_law 241 = .ok (.iconst 1, 1) := by decide +kernel
theorem dL_law_242 : decode cL_law 242 = .ok (.iadd, 1) := by decide +kernel
theorem dL_law_243 : decode cL_law 243 = .ok (.iaload, 1) := by decide +kernel
theorem dL_law_244 : decode cL_law 244 = .ok (.aload_n 0, 1) := by decide +kernel
theorem dL_law_245 : decode cL_law 245 = .ok (.iload_n 3, 1) := by decide +kernel
theorem dL_law_246 : decode cL_law 246 = .ok (.iconst 2, 1) := by decide +kernel
theorem dL_law_247 : decode cL_law 247 = .ok (.iadd, 1) := by decide +kernel
theorem dL_law_248 : decode cL_law 248 = .ok (.iaload, 1) := by decide +kernel
theorem dL_law_249 : decode cL_law 249 = .ok (.aload_n 0, 1) := by decide +kernel
theorem dL_law_250 : decode cL_law 250 = .ok (.iload_n 3, 1) := by decide +kernel
theorem dL_law_251 : decode cL_law 251 = .ok (.iconst 3, 1) := by decide +kernel
theorem dL_law_252 : decode cL_law 252 = .ok (.iadd, 1) := by decide +kernel
theorem dL_law_253 : decode cL_law 253 = .ok (.iaload, 1) := by decide +kernel
theorem dL_law_254 : decode cL_law 254 = .ok (.invokevirtual 33, 3) := by decide +kernel
theorem dL_law_257 : decode cL_law 257 = .ok (.aload_n 2, 1) := by decide +kernel
theorem dL_law_258 : decode cL_law 258 = .ok (.aload_n 0, 1) := by decide +kernel
theorem dL_law_259 : decode cL_law 259 = .ok (.iload_n 3, 1) := by decide +kernel
theorem dL_law_260 : decode cL_law 260 = .ok (.iconst 1, 1) := by decide +kernel
theorem dL_law_261 : decode cL_law 261 = .ok (.iadd, 1) := by decide +kernel
theorem dL_law_262 : decode cL_law 262 = .ok (.iaload, 1) := by decide +kernel
theorem dL_law_263 : decode cL_law 263 = .ok (.aload_n 0, 1) := by decide +kernel
theorem dL_law_264 : decode cL_law 264 = .ok (.iload_n 3, 1) := by decide +kernel
theorem dL_law_265 : decode cL_law 265 = .ok (.iconst 2, 1) := by decide +kernel
theorem dL_law_266 : decode cL_law 266 = .ok (.iadd, 1) := by decide +kernel
theorem dL_law_267 : decode cL_law 267 = .ok (.iaload, 1) := by decide +kernel
theorem dL_law_268 : decode cL_law 268 = .ok (.aload_n 0, 1) := by decide +kernel
theorem dL_law_269 : decode cL_law 269 = .ok (.iload_n 3, 1) := by decide +kernel
theorem dL_law_270 : decode cL_law 270 = .ok (.iconst 3, 1) := by decide +kernel
theorem dL_law_271 : decode cL_law 271 = .ok (.iadd, 1) := by decide +kernel
theorem dL_law_272 : decode cL_law 272 = .ok (.iaload, 1) := by decide +kernel
theorem dL_law_273 : decode cL_law 273 = .ok (.invokevirtual 37, 3) := by decide +kernel
theorem dL_law_276 : decode cL_law 276 = .ok (.if_icmp .eq 127, 3) := by decide +kernel
theorem dL_law_279 : decode cL_law 279 = .ok (.iconst 0, 1) := by decide +kernel
theorem dL_law_280 : decode cL_law 280 = .ok (.ireturn, 1) := by decide +kernel
theorem dL_law_281 : decode cL_law 281 = .ok (.aload_n 1, 1) := by decide +kernel
theorem dL_law_282 : decode cL_law 282 = .ok (.aload_n 0, 1) := by decide +kernel
theorem dL_law_283 : decode cL_law 283 = .ok (.iload_n 3, 1) := by decide +kernel
theorem dL_law_284 : decode cL_law 284 = .ok (.iconst 1, 1) := by decide +kernel
theorem dL_law_285 : decode cL_law 285 = .ok (.iadd, 1) := by decide +kernel
theorem dL_law_286 : decode cL_law 286 = .ok (.iaload, 1) := by decide +kernel
theorem dL_law_287 : decode cL_law 287 = .ok (.aload_n 0, 1) := by decide +kernel
theorem dL_law_288 : decode cL_law 288 = .ok (.iload_n 3, 1) := by decide +kernel
theorem dL_law_289 : decode cL_law 289 = .ok (.iconst 2, 1) := by decide +kernel
theorem dL_law_290 : decode cL_law 290 = .ok (.iadd, 1) := by decide +kernel
theorem dL_law_291 : decode cL_law 291 = .ok (.iaload, 1) := by decide +kernel
theorem dL_law_292 : decode cL_law 292 = .ok (.aload_n 0, 1) := by decide +kernel
theorem dL_law_293 : decode cL_law 293 = .ok (.iload_n 3, 1) := by decide +kernel
theorem dL_law_294 : decode cL_law 294 = .ok (.iconst 3, 1) := by decide +kernel
theorem dL_law_295 : decode cL_law 295 = .ok (.iadd, 1) := by decide +kernel
theorem dL_law_296 : decode cL_law 296 = .ok (.iaload, 1) := by decide +kernel
theorem dL_law_297 : decode cL_law 297 = .ok (.invokevirtual 38, 3) := by decide +kernel
theorem dL_law_300 : decode cL_law 300 = .ok (.aload_n 2, 1) := by decide +kernel
theorem dL_law_301 : decode cL_law 301 = .ok (.aload_n 0, 1) := by decide +kernel
theorem dL_law_302 : decode cL_law 302 = .ok (.iload_n 3, 1) := by decide +kernel
theorem dL_law_303 : decode cL_law 303 = .ok (.iconst 1, 1) := by decide +kernel
theorem dL_law_304 : decode cL_law 304 = .ok (.iadd, 1) := by decide +kernel
theorem dL_law_305 : decode cL_law 305 = .ok (.iaload, 1) := by decide +kernel
theorem dL_law_306 : decode cL_law 306 = .ok (.aload_n 0, 1) := by decide +kernel
theorem dL_law_307 : decode cL_law 307 = .ok (.iload_n 3, 1) := by decide +kernel
theorem dL_law_308 : decode cL_law 308 = .ok (.iconst 2, 1) := by decide +kernel
theorem dL_law_309 : decode cL_law 309 = .ok (.iadd, 1) := by decide +kernel
theorem dL_law_310 : decode cL_law 310 = .ok (.iaload, 1) := by decide +kernel
theorem dL_law_311 : decode cL_law 311 = .ok (.aload_n 0, 1) := by decide +kernel
theorem dL_law_312 : decode cL_law 312 = .ok (.iload_n 3, 1) := by decide +kernel
theorem dL_law_313 : decode cL_law 313 = .ok (.iconst 3, 1) := by decide +kernel
theorem dL_law_314 : decode cL_law 314 = .ok (.iadd, 1) := by decide +kernel
theorem dL_law_315 : decode cL_law 315 = .ok (.iaload, 1) := by decide +kernel
theorem dL_law_316 : decode cL_law 316 = .ok (.invokevirtual 42, 3) := by decide +kernel
theorem dL_law_319 : decode cL_law 319 = .ok (.if_icmp .eq 84, 3) := by decide +kernel
theorem dL_law_322 : decode cL_law 322 = .ok (.iconst 0, 1) := by decide +kernel
theorem dL_law_323 : decode cL_law 323 = .ok (.ireturn, 1) := by decide +kernel
theorem dL_law_324 : decode cL_law 324 = .ok (.aload_n 1, 1) := by decide +kernel
theorem dL_law_325 : decode cL_law 325 = .ok (.aload_n 0, 1) := by decide +kernel
theorem dL_law_326 : decode cL_law 326 = .ok (.iload_n 3, 1) := by decide +kernel
theorem dL_law_327 : decode cL_law 327 = .ok (.iconst 1, 1) := by decide +kernel
theorem dL_law_328 : decode cL_law 328 = .ok (.iadd, 1) := by decide +kernel
theorem dL_law_329 : decode cL_law 329 = .ok (.iaload, 1) := by decide +kernel
theorem dL_law_330 : decode cL_law 330 = .ok (.invokevirtual 43, 3) := by decide +kernel
theorem dL_law_333 : decode cL_law 333 = .ok (.aload_n 2, 1) := by decide +kernel
theorem dL_law_334 : decode cL_law 334 = .ok (.aload_n 0, 1) := by decide +kernel
theorem dL_law_335 : decode cL_law 335 = .ok (.iload_n 3, 1) := by decide +kernel
theorem dL_law_336 : decode cL_law 336 = .ok (.iconst 1, 1) := by decide +kernel
theorem dL_law_337 : decode cL_law 337 = .ok (.iadd, 1) := by decide +kernel
theorem dL_law_338 : decode cL_law 338 = .ok (.iaload, 1) := by decide +kernel
theorem dL_law_339 : decode cL_law 339 = .ok (.invokevirtual 47, 3) := by decide +kernel
theorem dL_law_342 : decode cL_law 342 = .ok (.if_icmp .eq 61, 3) := by decide +kernel
theorem dL_law_345 : decode cL_law 345 = .ok (.iconst 0, 1) := by decide +kernel
theorem dL_law_346 : decode cL_law 346 = .ok (.ireturn, 1) := by decide +kernel
theorem dL_law_347 : decode cL_law 347 = .ok (.aload_n 1, 1) := by decide +kernel
theorem dL_law_348 : decode cL_law 348 = .ok (.aload_n 0, 1) := by decide +kernel
theorem dL_law_349 : decode cL_law 349 = .ok (.iload_n 3, 1) := by decide +kernel
theorem dL_law_350 : decode cL_law 350 = .ok (.iconst 1, 1) := by decide +kernel
theorem dL_law_351 : decode cL_law 351 = .ok (.iadd, 1) := by decide +kernel
theorem dL_law_352 : decode cL_law 352 = .ok (.iaload, 1) := by decide +kernel
theorem dL_law_353 : decode cL_law 353 = .ok (.invokevirtual 48, 3) := by decide +kernel
theorem dL_law_356 : decode cL_law 356 = .ok (.aload_n 2, 1) := by decide +kernel
theorem dL_law_357 : decode cL_law 357 = .ok (.aload_n 0, 1) := by decide +kernel
theorem dL_law_358 : decode cL_law 358 = .ok (.iload_n 3, 1) := by decide +kernel
theorem dL_law_359 : decode cL_law 359 = .ok (.iconst 1, 1) := by decide +kernel
theorem dL_law_360 : decode cL_law 360 = .ok (.iadd, 1) := by decide +kernel
theorem dL_law_361 : decode cL_law 361 = .ok (.iaload, 1) := by decide +kernel
theorem dL_law_362 : decode cL_law 362 = .ok (.invokevirtual 51, 3) := by decide +kernel
theorem dL_law_365 : decode cL_law 365 = .ok (.if_icmp .eq 38, 3) := by decide +kernel
theorem dL_law_368 : decode cL_law 368 = .ok (.iconst 0, 1) := by decide +kernel
theorem dL_law_369 : decode cL_law 369 = .ok (.ireturn, 1) := by decide +kernel
theorem dL_law_370 : decode cL_law 370 = .ok (.aload_n 1, 1) := by decide +kernel
theorem dL_law_371 : decode cL_law 371 = .ok (.aload_n 0, 1) := by decide +kernel
theorem dL_law_372 : decode cL_law 372 = .ok (.iload_n 3, 1) := by decide +kernel
theorem dL_law_373 : decode cL_law 373 = .ok (.iconst 1, 1) := by decide +kernel
theorem dL_law_374 : decode cL_law 374 = .ok (.iadd, 1) := by decide +kernel
theorem dL_law_375 : decode cL_law 375 = .ok (.iaload, 1) := by decide +kernel
theorem dL_law_376 : decode cL_law 376 = .ok (.aload_n 0, 1) := by decide +kernel
theorem dL_law_377 : decode cL_law 377 = .ok (.iload_n 3, 1) := by decide +kernel
theorem dL_law_378 : decode cL_law 378 = .ok (.iconst 2, 1) := by decide +kernel
theorem dL_law_379 : decode cL_law 379 = .ok (.iadd, 1) := by decide +kernel
theorem dL_law_380 : decode cL_law 380 = .ok (.iaload, 1) := by decide +kernel
theorem dL_law_381 : decode cL_law 381 = .ok (.invokevirtual 52, 3) := by decide +kernel
theorem dL_law_384 : decode cL_law 384 = .ok (.aload_n 2, 1) := by decide +kernel
theorem dL_law_385 : decode cL_law 385 = .ok (.aload_n 0, 1) := by decide +kernel
theorem dL_law_386 : decode cL_law 386 = .ok (.iload_n 3, 1) := by decide +kernel
theorem dL_law_387 : decode cL_law 387 = .ok (.iconst 1, 1) := by decide +kernel
theorem dL_law_388 : decode cL_law 388 = .ok (.iadd, 1) := by decide +kernel
theorem dL_law_389 : decode cL_law 389 = .ok (.iaload, 1) := by decide +kernel
theorem dL_law_390 : decode cL_law 390 = .ok (.aload_n 0, 1) := by decide +kernel
theorem dL_law_391 : decode cL_law 391 = .ok (.iload_n 3, 1) := by decide +kernel
theorem dL_law_392 : decode cL_law 392 = .ok (.iconst 2, 1) := by decide +kernel
theorem dL_law_393 : decode cL_law 393 = .ok (.iadd, 1) := by decide +kernel
theorem dL_law_394 : decode cL_law 394 = .ok (.iaload, 1) := by decide +kernel
theorem dL_law_395 : decode cL_law 395 = .ok (.invokevirtual 55, 3) := by decide +kernel
theorem dL_law_398 : decode cL_law 398 = .ok (.if_icmp .eq 5, 3) := by decide +kernel
theorem dL_law_401 : decode cL_law 401 = .ok (.iconst 0, 1) := by decide +kernel
theorem dL_law_402 : decode cL_law 402 = .ok (.ireturn, 1) := by decide +kernel
theorem dL_law_403 : decode cL_law 403 = .ok (.iinc 3 4, 3) := by decide +kernel
theorem dL_law_406 : decode cL_law 406 = .ok (.goto (-388), 3) := by decide +kernel
theorem dL_law_409 : decode cL_law 409 = .ok (.iconst 1, 1) := by decide +kernel
theorem dL_law_410 : decode cL_law 410 = .ok (.ireturn, 1) := by decide +kernel
end
section
/-! numbers: an Int32 by its Int; worlds of one object; rows of the walk in these words -/
def iI (z : Int) : Int32 := Int32.ofInt z
def bz (b : Bool) : Int := if b = true then 1 else 0
def aI (f : Nat → Int) : Nat → Int32 := fun j => iI (f j)
def aN (f : Nat → Nat) : Nat → Int32 := fun j => iI (f j : Int)
def aB (w : Nat → Bool) : Nat → Int32 := fun j => iI (bz (w j))
theorem iI_nat (n : Nat) : iI (n : Int) = nI n := Int32.ofInt_eq_ofNat
theorem iI_add (a b : Int) : iI a + iI b = iI (a + b) := (Int32.ofInt_add a b).symm
theorem iI_sub (a b : Int) : iI a - iI b = iI (a - b) := (Int32.ofInt_sub a b).symm
theorem iI_mul (a b : Int) : iI a * iI b = iI (a * b) := (Int32.ofInt_mul a b).symm
theorem iI_neg (a : Int) : -iI a = iI (-a) := (Int32.ofInt_neg a).symm
theorem iI_toInt {z : Int} (h : -2147483648 ≤ z) (h2 : z < 2147483648) : (iI z).toInt = z := Int32.toInt_ofInt_of_le (by omega) (by omega)
theorem iI_lt {a b : Int} (h : -2147483648 ≤ a ∧ a < 2147483648 ∧ -2147483648 ≤ b ∧ b < 2147483648) : iI a < iI b ↔ a < b := by
  rw [Int32.lt_iff_toInt_lt, iI_toInt h.1 h.2.1, iI_toInt h.2.2.1 h.2.2.2]
theorem iI_le {a b : Int} (h : -2147483648 ≤ a ∧ a < 2147483648 ∧ -2147483648 ≤ b ∧ b < 2147483648) : iI a ≤ iI b ↔ a ≤ b := by
  rw [Int32.le_iff_toInt_le, iI_toInt h.1 h.2.1, iI_toInt h.2.2.1 h.2.2.2]
theorem iI_eq {a b : Int} (h : -2147483648 ≤ a ∧ a < 2147483648 ∧ -2147483648 ≤ b ∧ b < 2147483648) : iI a = iI b ↔ a = b := by
  rw [← Int32.toInt_inj, iI_toInt h.1 h.2.1, iI_toInt h.2.2.1 h.2.2.2]
theorem iI_of (x : Int32) : ∃ z : Int, x = iI z ∧ -2147483648 ≤ z ∧ z < 2147483648 := by
  refine ⟨x.toInt, (Int32.ofInt_toInt x).symm, ?_, ?_⟩
  · have := x.le_toInt; omega
  · have := x.toInt_lt; omega
theorem iI_clamp {z : Int} {i : Nat} (h : z = (i : Int)) (hi : i < 2147483648) : (iI z).toNatClampNeg = i := by
  subst h; rw [iI_nat]; exact nI_clamp (by omega)
theorem iI_in {z : Int} {i n : Nat} (h : z = (i : Int)) (hi : i < n) (hn : n < 2147483648) : vp_in (iI z) n := by
  subst h; rw [iI_nat]; exact vp_in_nI hi (by omega)
theorem iI_0 : (0 : Int32) = iI 0 := rfl
theorem iI_div {a d : Int} (h : 0 ≤ a ∧ a < 2147483648 ∧ 0 < d ∧ d < 2147483648) : iI a / iI d = iI (a / d) := by
  obtain ⟨n, rfl⟩ : ∃ n : Nat, a = n := ⟨a.toNat, by omega⟩
  obtain ⟨k, rfl⟩ : ∃ n : Nat, d = n := ⟨d.toNat, by omega⟩
  rw [iI_nat, iI_nat, pk_div (by omega) (by omega) (by omega), ← iI_nat]
  rfl
theorem iI_rem {a d : Int} (h : 0 ≤ a ∧ a < 2147483648 ∧ 0 < d ∧ d < 2147483648) : iI a - iI a / iI d * iI d = iI (a % d) := by
  obtain ⟨n, rfl⟩ : ∃ n : Nat, a = n := ⟨a.toNat, by omega⟩
  obtain ⟨k, rfl⟩ : ∃ n : Nat, d = n := ⟨d.toNat, by omega⟩
  rw [iI_nat, iI_nat, pk_rem (by omega) (by omega) (by omega), ← iI_nat]
  rfl
theorem iI_short {v : Nat} (h : v < 32768) : (iI (v : Int)).toInt16.toInt32 = iI (v : Int) := by
  rw [← Int32.toInt_inj, Int16.toInt_toInt32, Int32.toInt_toInt16, iI_toInt (by omega) (by omega)]
  rw [Int.bmod_def]
  omega
theorem iI_byte {v : Nat} (h : v < 128) : (iI (v : Int)).toInt8.toInt32 = iI (v : Int) := by
  rw [← Int32.toInt_inj, Int8.toInt_toInt32, Int32.toInt_toInt8, iI_toInt (by omega) (by omega)]
  rw [Int.bmod_def]
  omega
theorem iI_bool (b : Bool) : vp_nar .boolean (iI (bz b)) = iI (bz b) := by
  cases b <;> decide +kernel
theorem iI_zn (b : Bool) : narrow .boolean (.int (iI (bz b))) = .int (iI (bz b)) := by
  cases b <;> rfl
theorem aN_upd (f : Nat → Nat) (k v : Nat) : upd (aN f) k (iI (v : Int)) = aN (va_up f k v) := by
  funext j; simp only [upd, aN, va_up]; split <;> rfl
theorem aI_upd (f : Nat → Int) (k : Nat) (v : Int) : upd (aI f) k (iI v) = aI (va_up f k v) := by
  funext j; simp only [upd, aI, va_up]; split <;> rfl
theorem aB_upd (f : Nat → Bool) (k : Nat) (v : Bool) : upd (aB f) k (iI (bz v)) = aB (va_up f k v) := by
  funext j; simp only [upd, aB, va_up]; split <;> rfl
section JR
variable {p : Program} {l : Launch} {e : Env} {R : Room} {s : State} {m : MethodId} {args : Array Value} {below : List Frame} {meth : Method} {c : Code} {H : Heap} {locs : List Loc} {cells slots : Nat} {Q : State → Prop}
variable {cc : ByteArray} {pc : Nat} {ls : Array Slot} {rest : List Value} {nL : Nat} {own : String}
theorem j_eq {z : Int} (z' : Int) (h : z = z') (k : W p l e R s m args below meth c H locs cells slots Q (F0 m pc ls (.int (iI z') :: rest))) : W p l e R s m args below meth c H locs cells slots Q (F0 m pc ls (.int (iI z) :: rest)) := by
  subst h; exact k
theorem j_top {z : Int} (k : ∀ z' : Int, z' = z → W p l e R s m args below meth c H locs cells slots Q (F0 m pc ls (.int (iI z') :: rest))) : W p l e R s m args below meth c H locs cells slots Q (F0 m pc ls (.int (iI z) :: rest)) := k z rfl
theorem j_iconst (F : CallFix p m c cc nL s args lw_all own) {n : Int} (hdg : decode cc pc = .ok (.iconst n, 1)) (k : W p l e R s m args below meth c H locs cells slots Q (F0 m (pc + 1) ls (.int (iI n) :: rest))) : W p l e R s m args below meth c H locs cells slots Q (F0 m pc ls rest) := lv_iconst (v := iI n) F.1 F.2.1 hdg rfl k
theorem j_bipush (F : CallFix p m c cc nL s args lw_all own) {n : Int} (hdg : decode cc pc = .ok (.bipush n, 2)) (hv : (Int8.ofInt n).toInt32 = iI n) (k : W p l e R s m args below meth c H locs cells slots Q (F0 m (pc + 2) ls (.int (iI n) :: rest))) : W p l e R s m args below meth c H locs cells slots Q (F0 m pc ls rest) := lv_bipush (v := iI n) F.1 F.2.1 hdg hv k
theorem j_sipush (F : CallFix p m c cc nL s args lw_all own) {n : Int} (hdg : decode cc pc = .ok (.sipush n, 3)) (hv : (Int16.ofInt n).toInt32 = iI n) (k : W p l e R s m args below meth c H locs cells slots Q (F0 m (pc + 3) ls (.int (iI n) :: rest))) : W p l e R s m args below meth c H locs cells slots Q (F0 m pc ls rest) := lv_sipush (v := iI n) F.1 F.2.1 hdg hv k
theorem j_iload_n (F : CallFix p m c cc nL s args lw_all own) {k : Fin 4} {i : Nat} {x : Int32} (hdg : decode cc pc = .ok (.iload_n k, 1)) (hi : (k : Nat) = i) (hl : ls[i]? = some (.val (.int x))) (kk : W p l e R s m args below meth c H locs cells slots Q (F0 m (pc + 1) ls (.int x :: rest))) : W p l e R s m args below meth c H locs cells slots Q (F0 m pc ls rest) := lv_iload_n F.1 F.2.1 hdg hi hl kk
theorem j_iload (F : CallFix p m c cc nL s args lw_all own) {i : Nat} {x : Int32} (hdg : decode cc pc = .ok (.iload i, 2)) (hl : ls[i]? = some (.val (.int x))) (kk : W p l e R s m args below meth c H locs cells slots Q (F0 m (pc + 2) ls (.int x :: rest))) : W p l e R s m args below meth c H locs cells slots Q (F0 m pc ls rest) := lv_iload F.1 F.2.1 hdg hl kk
theorem j_aload_n (F : CallFix p m c cc nL s args lw_all own) {k : Fin 4} {i : Nat} {x : Nat} (hdg : decode cc pc = .ok (.aload_n k, 1)) (hi : (k : Nat) = i) (hl : ls[i]? = some (.val (.ref x))) (kk : W p l e R s m args below meth c H locs cells slots Q (F0 m (pc + 1) ls (.ref x :: rest))) : W p l e R s m args below meth c H locs cells slots Q (F0 m pc ls rest) := lv_aload_n F.1 F.2.1 hdg hi hl kk
theorem j_istore_n (F : CallFix p m c cc nL s args lw_all own) {k : Fin 4} {i : Nat} {x : Int32} {lv : List (Nat × Value)} (lv' : List (Nat × Value)) (hdg : decode cc pc = .ok (.istore_n k, 1)) (hi : (k : Nat) = i) (h : lv_has ls nL lv) (hn : i < nL) (hl : (i, Value.int x) :: lv.filter (fun q => !(q.1 == i) && !(q.1 + 1 == i && q.2.category == 2)) = lv') (kk : ∀ ls : Array Slot, lv_has ls nL lv' → W p l e R s m args below meth c H locs cells slots Q (F0 m (pc + 1) ls rest)) : W p l e R s m args below meth c H locs cells slots Q (F0 m pc ls (.int x :: rest)) := lv_istore_n F.1 F.2.1 hdg hi h hn hl kk
theorem j_istore (F : CallFix p m c cc nL s args lw_all own) {i : Nat} {x : Int32} {lv : List (Nat × Value)} (lv' : List (Nat × Value)) (hdg : decode cc pc = .ok (.istore i, 2)) (h : lv_has ls nL lv) (hn : i < nL) (hl : (i, Value.int x) :: lv.filter (fun q => !(q.1 == i) && !(q.1 + 1 == i && q.2.category == 2)) = lv') (kk : ∀ ls : Array Slot, lv_has ls nL lv' → W p l e R s m args below meth c H locs cells slots Q (F0 m (pc + 2) ls rest)) : W p l e R s m args below meth c H locs cells slots Q (F0 m pc ls (.int x :: rest)) := lv_istore F.1 F.2.1 hdg h hn hl kk
theorem j_iinc (F : CallFix p m c cc nL s args lw_all own) {i k : Nat} {n : Int} {x : Int} (v : Int) {lv : List (Nat × Value)} (lv' : List (Nat × Value)) (hdg : decode cc pc = .ok (.iinc i n, 3)) (h : lv_has ls nL lv) (hk : lv[k]? = some (i, .int (iI x))) (hv : x + n = v) (hn : i < nL) (hl : (i, Value.int (iI v)) :: lv.filter (fun q => !(q.1 == i) && !(q.1 + 1 == i && q.2.category == 2)) = lv') (kk : ∀ ls : Array Slot, lv_has ls nL lv' → W p l e R s m args below meth c H locs cells slots Q (F0 m (pc + 3) ls rest)) : W p l e R s m args below meth c H locs cells slots Q (F0 m pc ls rest) := lv_iinc F.1 F.2.1 hdg h hk (by rw [← hv]; exact iI_add x n) hn hl kk
theorem j_iadd (F : CallFix p m c cc nL s args lw_all own) {a b : Int} (hdg : decode cc pc = .ok (.iadd, 1)) (k : W p l e R s m args below meth c H locs cells slots Q (F0 m (pc + 1) ls (.int (iI (a + b)) :: rest))) : W p l e R s m args below meth c H locs cells slots Q (F0 m pc ls (.int (iI b) :: .int (iI a) :: rest)) := lv_iadd F.1 F.2.1 hdg (by rw [iI_add]; exact k)
theorem j_isub (F : CallFix p m c cc nL s args lw_all own) {a b : Int} (hdg : decode cc pc = .ok (.isub, 1)) (k : W p l e R s m args below meth c H locs cells slots Q (F0 m (pc + 1) ls (.int (iI (a - b)) :: rest))) : W p l e R s m args below meth c H locs cells slots Q (F0 m pc ls (.int (iI b) :: .int (iI a) :: rest)) := lv_isub F.1 F.2.1 hdg (by rw [iI_sub]; exact k)
theorem j_imul (F : CallFix p m c cc nL s args lw_all own) {a b : Int} (hdg : decode cc pc = .ok (.imul, 1)) (k : W p l e R s m args below meth c H locs cells slots Q (F0 m (pc + 1) ls (.int (iI (a * b)) :: rest))) : W p l e R s m args below meth c H locs cells slots Q (F0 m pc ls (.int (iI b) :: .int (iI a) :: rest)) := lv_imul F.1 F.2.1 hdg (by rw [iI_mul]; exact k)
theorem j_ineg (F : CallFix p m c cc nL s args lw_all own) {a : Int} (hdg : decode cc pc = .ok (.ineg, 1)) (k : W p l e R s m args below meth c H locs cells slots Q (F0 m (pc + 1) ls (.int (iI (-a)) :: rest))) : W p l e R s m args below meth c H locs cells slots Q (F0 m pc ls (.int (iI a) :: rest)) := lv_ineg F.1 F.2.1 hdg (by rw [iI_neg]; exact k)
theorem iI_ne0 {d : Int} (h : 0 < d ∧ d < 2147483648) : ¬ iI d = 0 := by
  rw [iI_0, iI_eq (by omega)]; omega
theorem j_idiv (F : CallFix p m c cc nL s args lw_all own) {a b : Int} (z : Int) (h : 0 ≤ a ∧ a < 2147483648 ∧ 0 < b ∧ b < 2147483648) (hz : a / b = z) (hdg : decode cc pc = .ok (.idiv, 1)) (k : W p l e R s m args below meth c H locs cells slots Q (F0 m (pc + 1) ls (.int (iI z) :: rest))) : W p l e R s m args below meth c H locs cells slots Q (F0 m pc ls (.int (iI b) :: .int (iI a) :: rest)) := lv_idiv F.1 F.2.1 hdg (iI_ne0 h.2.2) (by rw [iI_div h, hz]; exact k)
theorem j_irem (F : CallFix p m c cc nL s args lw_all own) {a b : Int} (z : Int) (h : 0 ≤ a ∧ a < 2147483648 ∧ 0 < b ∧ b < 2147483648) (hz : a % b = z) (hdg : decode cc pc = .ok (.irem, 1)) (k : W p l e R s m args below meth c H locs cells slots Q (F0 m (pc + 1) ls (.int (iI z) :: rest))) : W p l e R s m args below meth c H locs cells slots Q (F0 m pc ls (.int (iI b) :: .int (iI a) :: rest)) := lv_irem F.1 F.2.1 hdg (iI_ne0 h.2.2) (by rw [iI_rem h, hz]; exact k)
theorem j_if_eq (F : CallFix p m c cc nL s args lw_all own) {x off : Int} (tgt : Nat) (hdg : decode cc pc = .ok (.ifCond .eq off, 3)) (ht : (pc : Int) + off = (tgt : Int)) (hr : -2147483648 ≤ x ∧ x < 2147483648) (kt : x = 0 → W p l e R s m args below meth c H locs cells slots Q (F0 m tgt ls rest)) (kf : ¬ x = 0 → W p l e R s m args below meth c H locs cells slots Q (F0 m (pc + 3) ls rest)) : W p l e R s m args below meth c H locs cells slots Q (F0 m pc ls (.int (iI x) :: rest)) :=
  lv_if_eq F.1 F.2.1 hdg ht (fun h => kt ((iI_eq (b := 0) (by omega)).mp h)) (fun h => kf (fun q => h ((iI_eq (b := 0) (by omega)).mpr q)))
theorem j_if_ne (F : CallFix p m c cc nL s args lw_all own) {x off : Int} (tgt : Nat) (hdg : decode cc pc = .ok (.ifCond .ne off, 3)) (ht : (pc : Int) + off = (tgt : Int)) (hr : -2147483648 ≤ x ∧ x < 2147483648) (kt : ¬ x = 0 → W p l e R s m args below meth c H locs cells slots Q (F0 m tgt ls rest)) (kf : x = 0 → W p l e R s m args below meth c H locs cells slots Q (F0 m (pc + 3) ls rest)) : W p l e R s m args below meth c H locs cells slots Q (F0 m pc ls (.int (iI x) :: rest)) :=
  lv_if_ne F.1 F.2.1 hdg ht (fun h => kt (fun q => h ((iI_eq (b := 0) (by omega)).mpr q))) (fun h => kf ((iI_eq (b := 0) (by omega)).mp h))
theorem j_if_lt (F : CallFix p m c cc nL s args lw_all own) {x off : Int} (tgt : Nat) (hdg : decode cc pc = .ok (.ifCond .lt off, 3)) (ht : (pc : Int) + off = (tgt : Int)) (hr : -2147483648 ≤ x ∧ x < 2147483648) (kt : x < 0 → W p l e R s m args below meth c H locs cells slots Q (F0 m tgt ls rest)) (kf : ¬ x < 0 → W p l e R s m args below meth c H locs cells slots Q (F0 m (pc + 3) ls rest)) : W p l e R s m args below meth c H locs cells slots Q (F0 m pc ls (.int (iI x) :: rest)) :=
  lv_if_lt F.1 F.2.1 hdg ht (fun h => kt ((iI_lt (b := 0) (by omega)).mp h)) (fun h => kf (fun q => h ((iI_lt (b := 0) (by omega)).mpr q)))
theorem j_if_ge (F : CallFix p m c cc nL s args lw_all own) {x off : Int} (tgt : Nat) (hdg : decode cc pc = .ok (.ifCond .ge off, 3)) (ht : (pc : Int) + off = (tgt : Int)) (hr : -2147483648 ≤ x ∧ x < 2147483648) (kt : 0 ≤ x → W p l e R s m args below meth c H locs cells slots Q (F0 m tgt ls rest)) (kf : ¬ 0 ≤ x → W p l e R s m args below meth c H locs cells slots Q (F0 m (pc + 3) ls rest)) : W p l e R s m args below meth c H locs cells slots Q (F0 m pc ls (.int (iI x) :: rest)) :=
  lv_if_ge F.1 F.2.1 hdg ht (fun h => kt ((iI_le (a := 0) (by omega)).mp h)) (fun h => kf (fun q => h ((iI_le (a := 0) (by omega)).mpr q)))
theorem j_if_gt (F : CallFix p m c cc nL s args lw_all own) {x off : Int} (tgt : Nat) (hdg : decode cc pc = .ok (.ifCond .gt off, 3)) (ht : (pc : Int) + off = (tgt : Int)) (hr : -2147483648 ≤ x ∧ x < 2147483648) (kt : 0 < x → W p l e R s m args below meth c H locs cells slots Q (F0 m tgt ls rest)) (kf : ¬ 0 < x → W p l e R s m args below meth c H locs cells slots Q (F0 m (pc + 3) ls rest)) : W p l e R s m args below meth c H locs cells slots Q (F0 m pc ls (.int (iI x) :: rest)) :=
  lv_if_gt F.1 F.2.1 hdg ht (fun h => kt ((iI_lt (a := 0) (by omega)).mp h)) (fun h => kf (fun q => h ((iI_lt (a := 0) (by omega)).mpr q)))
theorem j_if_le (F : CallFix p m c cc nL s args lw_all own) {x off : Int} (tgt : Nat) (hdg : decode cc pc = .ok (.ifCond .le off, 3)) (ht : (pc : Int) + off = (tgt : Int)) (hr : -2147483648 ≤ x ∧ x < 2147483648) (kt : x ≤ 0 → W p l e R s m args below meth c H locs cells slots Q (F0 m tgt ls rest)) (kf : ¬ x ≤ 0 → W p l e R s m args below meth c H locs cells slots Q (F0 m (pc + 3) ls rest)) : W p l e R s m args below meth c H locs cells slots Q (F0 m pc ls (.int (iI x) :: rest)) :=
  lv_if_le F.1 F.2.1 hdg ht (fun h => kt ((iI_le (b := 0) (by omega)).mp h)) (fun h => kf (fun q => h ((iI_le (b := 0) (by omega)).mpr q)))
theorem j_icmp_eq (F : CallFix p m c cc nL s args lw_all own) {x y off : Int} (tgt : Nat) (hdg : decode cc pc = .ok (.if_icmp .eq off, 3)) (ht : (pc : Int) + off = (tgt : Int)) (hr : -2147483648 ≤ x ∧ x < 2147483648 ∧ -2147483648 ≤ y ∧ y < 2147483648) (kt : x = y → W p l e R s m args below meth c H locs cells slots Q (F0 m tgt ls rest)) (kf : ¬ x = y → W p l e R s m args below meth c H locs cells slots Q (F0 m (pc + 3) ls rest)) : W p l e R s m args below meth c H locs cells slots Q (F0 m pc ls (.int (iI y) :: .int (iI x) :: rest)) :=
  lv_icmp_eq F.1 F.2.1 hdg ht (fun h => kt ((iI_eq hr).mp h)) (fun h => kf (fun q => h ((iI_eq hr).mpr q)))
theorem j_icmp_ne (F : CallFix p m c cc nL s args lw_all own) {x y off : Int} (tgt : Nat) (hdg : decode cc pc = .ok (.if_icmp .ne off, 3)) (ht : (pc : Int) + off = (tgt : Int)) (hr : -2147483648 ≤ x ∧ x < 2147483648 ∧ -2147483648 ≤ y ∧ y < 2147483648) (kt : ¬ x = y → W p l e R s m args below meth c H locs cells slots Q (F0 m tgt ls rest)) (kf : x = y → W p l e R s m args below meth c H locs cells slots Q (F0 m (pc + 3) ls rest)) : W p l e R s m args below meth c H locs cells slots Q (F0 m pc ls (.int (iI y) :: .int (iI x) :: rest)) :=
  lv_icmp_ne F.1 F.2.1 hdg ht (fun h => kt (fun q => h ((iI_eq hr).mpr q))) (fun h => kf ((iI_eq hr).mp h))
theorem j_icmp_lt (F : CallFix p m c cc nL s args lw_all own) {x y off : Int} (tgt : Nat) (hdg : decode cc pc = .ok (.if_icmp .lt off, 3)) (ht : (pc : Int) + off = (tgt : Int)) (hr : -2147483648 ≤ x ∧ x < 2147483648 ∧ -2147483648 ≤ y ∧ y < 2147483648) (kt : x < y → W p l e R s m args below meth c H locs cells slots Q (F0 m tgt ls rest)) (kf : ¬ x < y → W p l e R s m args below meth c H locs cells slots Q (F0 m (pc + 3) ls rest)) : W p l e R s m args below meth c H locs cells slots Q (F0 m pc ls (.int (iI y) :: .int (iI x) :: rest)) :=
  lv_icmp_lt F.1 F.2.1 hdg ht (fun h => kt ((iI_lt hr).mp h)) (fun h => kf (fun q => h ((iI_lt hr).mpr q)))
theorem j_icmp_ge (F : CallFix p m c cc nL s args lw_all own) {x y off : Int} (tgt : Nat) (hdg : decode cc pc = .ok (.if_icmp .ge off, 3)) (ht : (pc : Int) + off = (tgt : Int)) (hr : -2147483648 ≤ x ∧ x < 2147483648 ∧ -2147483648 ≤ y ∧ y < 2147483648) (kt : y ≤ x → W p l e R s m args below meth c H locs cells slots Q (F0 m tgt ls rest)) (kf : ¬ y ≤ x → W p l e R s m args below meth c H locs cells slots Q (F0 m (pc + 3) ls rest)) : W p l e R s m args below meth c H locs cells slots Q (F0 m pc ls (.int (iI y) :: .int (iI x) :: rest)) :=
  lv_icmp_ge F.1 F.2.1 hdg ht (fun h => kt ((iI_le (by omega)).mp h)) (fun h => kf (fun q => h ((iI_le (by omega)).mpr q)))
theorem j_icmp_gt (F : CallFix p m c cc nL s args lw_all own) {x y off : Int} (tgt : Nat) (hdg : decode cc pc = .ok (.if_icmp .gt off, 3)) (ht : (pc : Int) + off = (tgt : Int)) (hr : -2147483648 ≤ x ∧ x < 2147483648 ∧ -2147483648 ≤ y ∧ y < 2147483648) (kt : y < x → W p l e R s m args below meth c H locs cells slots Q (F0 m tgt ls rest)) (kf : ¬ y < x → W p l e R s m args below meth c H locs cells slots Q (F0 m (pc + 3) ls rest)) : W p l e R s m args below meth c H locs cells slots Q (F0 m pc ls (.int (iI y) :: .int (iI x) :: rest)) :=
  lv_icmp_gt F.1 F.2.1 hdg ht (fun h => kt ((iI_lt (by omega)).mp h)) (fun h => kf (fun q => h ((iI_lt (by omega)).mpr q)))
theorem j_icmp_le (F : CallFix p m c cc nL s args lw_all own) {x y off : Int} (tgt : Nat) (hdg : decode cc pc = .ok (.if_icmp .le off, 3)) (ht : (pc : Int) + off = (tgt : Int)) (hr : -2147483648 ≤ x ∧ x < 2147483648 ∧ -2147483648 ≤ y ∧ y < 2147483648) (kt : x ≤ y → W p l e R s m args below meth c H locs cells slots Q (F0 m tgt ls rest)) (kf : ¬ x ≤ y → W p l e R s m args below meth c H locs cells slots Q (F0 m (pc + 3) ls rest)) : W p l e R s m args below meth c H locs cells slots Q (F0 m pc ls (.int (iI y) :: .int (iI x) :: rest)) :=
  lv_icmp_le F.1 F.2.1 hdg ht (fun h => kt ((iI_le hr).mp h)) (fun h => kf (fun q => h ((iI_le hr).mpr q)))
theorem j_goto (F : CallFix p m c cc nL s args lw_all own) {off : Int} (tgt : Nat) (hdg : decode cc pc = .ok (.goto off, 3)) (ht : (pc : Int) + off = (tgt : Int)) (k : W p l e R s m args below meth c H locs cells slots Q (F0 m tgt ls rest)) : W p l e R s m args below meth c H locs cells slots Q (F0 m pc ls rest) := lv_goto F.1 F.2.1 hdg ht k
theorem j_dup (F : CallFix p m c cc nL s args lw_all own) {va : Value} (hdg : decode cc pc = .ok (.dup, 1)) (hva : va.category = 1) (k : W p l e R s m args below meth c H locs cells slots Q (F0 m (pc + 1) ls (va :: va :: rest))) : W p l e R s m args below meth c H locs cells slots Q (F0 m pc ls (va :: rest)) := lv_dup F.1 F.2.1 hdg hva k
theorem j_i2s (F : CallFix p m c cc nL s args lw_all own) {z : Int} (v : Nat) (hz : z = (v : Int)) (hv : v < 32768) (hdg : decode cc pc = .ok (.i2s, 1)) (k : W p l e R s m args below meth c H locs cells slots Q (F0 m (pc + 1) ls (.int (iI (v : Int)) :: rest))) : W p l e R s m args below meth c H locs cells slots Q (F0 m pc ls (.int (iI z) :: rest)) := by
  subst hz
  exact lv_i2s F.1 F.2.1 hdg (iI_short hv) k
end JR
end
section
/-! worlds: the class's object with its five arrays, the reference's with its two; contracts, calls, ends -/
abbrev vwCl : List vw_C := [(RX0, TX0, 8), (RX1, TX1, 2)]
/-- walls, length, directions, mark, the list, its count, goal, landed -/
abbrev JX : Type := (Nat → Bool) × (Nat → Nat) × (Nat → Nat) × (Nat → Nat) × (Nat → Nat) × Nat × Nat × Int
def JW (a : Nat → Nat) (k : Nat → ClassId) (X : JX) : va_W := match X with
  | (w, le, dr, ma, op, oc, gl, la) => [(a 0, .inr (0, [.ref (a 1), .ref (a 2), .ref (a 3), .ref (a 4), .ref (a 5), .int (iI (oc : Int)), .int (iI (gl : Int)), .int (iI la)])), (a 1, .inl (k 1, 144, .inl (aB w))), (a 2, .inl (k 2, 144, .inl (aN le))), (a 3, .inl (k 3, 144, .inl (aN dr))), (a 4, .inl (k 4, 144, .inl (aN ma))), (a 5, .inl (k 5, 144, .inl (aN op)))]
def JT (k : Nat → ClassId) : List (ClassId × FieldType) := [(k 1, .boolean), (k 2, .short), (k 3, .short), (k 4, .byte), (k 5, .short)]
abbrev MX : Type := (Nat → Bool) × (Nat → Int)
def MW (a : Nat → Nat) (k : Nat → ClassId) (X : MX) : va_W := match X with
  | (w, fa) => [(a 0, .inr (1, [.ref (a 1), .ref (a 2)])), (a 1, .inl (k 1, 144, .inl (aB w))), (a 2, .inl (k 2, 144, .inl (aI fa)))]
def MT (k : Nat → ClassId) : List (ClassId × FieldType) := [(k 1, .boolean), (k 2, .int)]
def gSame {σ : Type} (V : σ → va_W) : Prop := ∀ (x x' : σ) (i : Nat) (q : Nat × va_E), (V x')[i]? = some q → ∃ q', (V x)[i]? = some q' ∧ q'.1 = q.1
theorem JW_same (a : Nat → Nat) (k : Nat → ClassId) : gSame (JW a k) := by
  rintro ⟨w, le, dr, ma, op, oc, gl, la⟩ ⟨w', le', dr', ma', op', oc', gl', la'⟩ i q h
  match i, h with
  | 0, h => cases h; exact ⟨_, rfl, rfl⟩
  | 1, h => cases h; exact ⟨_, rfl, rfl⟩
  | 2, h => cases h; exact ⟨_, rfl, rfl⟩
  | 3, h => cases h; exact ⟨_, rfl, rfl⟩
  | 4, h => cases h; exact ⟨_, rfl, rfl⟩
  | 5, h => cases h; exact ⟨_, rfl, rfl⟩
  | i + 6, h => simp [JW] at h
theorem MW_same (a : Nat → Nat) (k : Nat → ClassId) : gSame (MW a k) := by
  rintro ⟨w, fa⟩ ⟨w', fa'⟩ i q h
  match i, h with
  | 0, h => cases h; exact ⟨_, rfl, rfl⟩
  | 1, h => cases h; exact ⟨_, rfl, rfl⟩
  | 2, h => cases h; exact ⟨_, rfl, rfl⟩
  | i + 3, h => simp [MW] at h
section GW
variable {σ : Type}
def gPre (D : va_G) (tys : List (ClassId × FieldType)) (V : σ → va_W) (sz : Nat) (x : σ) (U : State) : Prop := U.heap.size = sz ∧ va_P D vwCl (V x) U.heap ∧ va_K D vwCl tys U ∧ va_D (fun _ => True) (V x)
def gA (V : σ → va_W) (sz : Nat) : Nat → Prop := fun q => (∃ (x : σ) (i : Nat) (e : va_E), (V x)[i]? = some (q, e)) ∨ sz ≤ q
def gB (D : va_G) (tys : List (ClassId × FieldType)) (V : σ → va_W) (A : Nat → Prop) (x : σ) (t : State) : Prop := va_P D vwCl (V x) t.heap ∧ va_K D vwCl tys t ∧ va_D A (V x)
/-- the world in the middle of a method -/
def gG (D : va_G) (tys : List (ClassId × FieldType)) (V : σ → va_W) (A : Nat → Prop) (s : State) (x : σ) (H : Heap) (locs : List Loc) : Prop := va_K D vwCl tys s ∧ va_P D vwCl (V x) H ∧ va_D A (V x) ∧ va_S A s.heap H locs
/-- a contract with an answer that is an int or a boolean -/
def gMi (l : Launch) (y : MethodName) (cc : ByteArray) (n : Nat) (ret : FieldType) (rm : Room) (D : va_G) (tys : List (ClassId × FieldType)) (V : σ → va_W) (av : List Value) (x : σ) (post : Int32 → σ → Prop) : Prop :=
  ∀ sz : Nat, Met l y (ws_ y cc n (some ret)) rm (va_Pc av (gPre D tys V sz x)) (va_Qi post (gB D tys V (gA V sz)) (gA V sz)) 0 0 (gA V sz)
/-- a contract without an answer -/
def gMv (l : Launch) (y : MethodName) (cc : ByteArray) (n : Nat) (rm : Room) (D : va_G) (tys : List (ClassId × FieldType)) (V : σ → va_W) (av : List Value) (x : σ) (post : σ → Prop) : Prop :=
  ∀ sz : Nat, Met l y (ws_ y cc n none) rm (va_Pc av (gPre D tys V sz x)) (va_Qv post (gB D tys V (gA V sz)) (gA V sz)) 0 0 (gA V sz)
abbrev gQi (below : List Frame) (post : Int32 → σ → Prop) (D : va_G) (tys : List (ClassId × FieldType)) (V : σ → va_W) (A : Nat → Prop) (args : Array Value) (s : State) : State → Prop := MQ below (va_Qi post (gB D tys V A) A) args s 0 0 A
abbrev gQv (below : List Frame) (post : σ → Prop) (D : va_G) (tys : List (ClassId × FieldType)) (V : σ → va_W) (A : Nat → Prop) (args : Array Value) (s : State) : State → Prop := MQ below (va_Qv post (gB D tys V A) A) args s 0 0 A
theorem gMi_of {l : Launch} {y : MethodName} {cc : ByteArray} {n : Nat} {ret : FieldType} {rm : Room} {D : va_G} {tys : List (ClassId × FieldType)} {V : σ → va_W} {av : List Value} {x : σ} {post : Int32 → σ → Prop} (hy : plainName y.cls = true) (hlen : (lg_sl av).length ≤ n)
    (body : ∀ (p : Program) (e : Env) (s : State) (m : MethodId) (below : List Frame) (meth : Method) (c : Code) (A : Nat → Prop) (ls : Array Slot), CallFix p m c cc n s av.toArray lw_all y.cls → meth.sig.returnType = some ret → meth.locks = false → (∀ q, s.heap.size ≤ q → A q) → gG D tys V A s x s.heap [] → lv_has ls n (lv_args 0 av) → W p l e rm s m av.toArray below meth c s.heap [] 0 0 (gQi below post D tys V A av.toArray s) (F0 m 0 ls [])) : gMi l y cc n ret rm D tys V av x post := by
  intro sz
  refine Met.ofW (cc := cc) (maxL := n) (ret := some ret) hy rfl ?_
  intro p e s m args below meth c s₁ B hml hv
  obtain ⟨rfl, hsz, hP, hK, hD0⟩ := hv
  subst hsz
  have hts := atoms_spec (ws := ws_ y cc n (some ret)) B.pre
  have hts : ∀ w ∈ lw_all, w.before _ s = true := fun w h => hts w (List.mem_cons_of_mem _ h)
  have hown : s.vm.findClass y.cls = some m.cls := findClass_of_methodNamed B.named
  have hl := lv_entry av (n := n) hlen
  rw [lg_entry_eq]
  exact body p e s m below meth c (gA V s.heap.size) _ ⟨B.exec, B.bytes, hml, hown, hts⟩ B.returns B.notSynchronized (fun q h => Or.inr h) ⟨hK, hP, ⟨hD0.1, fun i q h => Or.inl ⟨x, i, q.2, h⟩⟩, va_S.rf⟩ hl
theorem gMv_of {l : Launch} {y : MethodName} {cc : ByteArray} {n : Nat} {rm : Room} {D : va_G} {tys : List (ClassId × FieldType)} {V : σ → va_W} {av : List Value} {x : σ} {post : σ → Prop} (hy : plainName y.cls = true) (hlen : (lg_sl av).length ≤ n)
    (body : ∀ (p : Program) (e : Env) (s : State) (m : MethodId) (below : List Frame) (meth : Method) (c : Code) (A : Nat → Prop) (ls : Array Slot), CallFix p m c cc n s av.toArray lw_all y.cls → meth.sig.returnType = none → meth.locks = false → (∀ q, s.heap.size ≤ q → A q) → gG D tys V A s x s.heap [] → lv_has ls n (lv_args 0 av) → W p l e rm s m av.toArray below meth c s.heap [] 0 0 (gQv below post D tys V A av.toArray s) (F0 m 0 ls [])) : gMv l y cc n rm D tys V av x post := by
  intro sz
  refine Met.ofW (cc := cc) (maxL := n) (ret := none) hy rfl ?_
  intro p e s m args below meth c s₁ B hml hv
  obtain ⟨rfl, hsz, hP, hK, hD0⟩ := hv
  subst hsz
  have hts := atoms_spec (ws := ws_ y cc n none) B.pre
  have hts : ∀ w ∈ lw_all, w.before _ s = true := fun w h => hts w (List.mem_cons_of_mem _ h)
  have hown : s.vm.findClass y.cls = some m.cls := findClass_of_methodNamed B.named
  have hl := lv_entry av (n := n) hlen
  rw [lg_entry_eq]
  exact body p e s m below meth c (gA V s.heap.size) _ ⟨B.exec, B.bytes, hml, hown, hts⟩ B.returns B.notSynchronized (fun q h => Or.inr h) ⟨hK, hP, ⟨hD0.1, fun i q h => Or.inl ⟨x, i, q.2, h⟩⟩, va_S.rf⟩ hl
end GW
section GC
variable {σ : Type} {p : Program} {l : Launch} {e : Env} {R : Room} {s : State} {m : MethodId} {args : Array Value} {below : List Frame} {meth : Method} {c : Code} {H : Heap} {locs : List Loc} {Q : State → Prop}
variable {cc : ByteArray} {pc : Nat} {ls : Array Slot} {rest st0 : List Value} {nL : Nat} {own : String}
variable {D : va_G} {tys : List (ClassId × FieldType)} {V : σ → va_W} {A : Nat → Prop} {x : σ}
theorem gFree (hA : ∀ q, s.heap.size ≤ q → A q) (hV : gSame V) (G : gG D tys V A s x H locs) : ∀ q, gA V H.size q → A q := by
  obtain ⟨hK, hP, hD, hS⟩ := G
  rintro q (⟨x', i, e', h⟩ | h)
  · obtain ⟨q', h1, h2⟩ := hV x x' i _ h
    have h3 := hD.2 i q' h1
    rw [h2] at h3; exact h3
  · exact hA q (Nat.le_trans hS.1 h)
theorem g_iret {ret : FieldType} {post : Int32 → σ → Prop} {v : Int32} (F : CallFix p m c cc nL s args lw_all own) (hr : meth.sig.returnType = some ret) (hlk : meth.locks = false) (hn : narrow ret (.int v) = .int v) (G : gG D tys V A s x H locs) (hp : post v x) (hdg : decode cc pc = .ok (.ireturn, 1)) : W p l e R s m args below meth c H locs 0 0 (gQi below post D tys V A args s) (F0 m pc ls [.int v]) :=
  W.zret F.1 F.2.1 hr hn (fun t ht hW => ⟨⟨v, x, rfl, hp, by rw [ht]; exact G.2.1, va_K.moved hW.alike G.1, G.2.2.1⟩, G.2.2.2.F ht⟩) G.2.2.2.2.2 hdg hlk
theorem g_vret {post : σ → Prop} (F : CallFix p m c cc nL s args lw_all own) (hr : meth.sig.returnType = none) (hlk : meth.locks = false) (G : gG D tys V A s x H locs) (hp : post x) (hdg : decode cc pc = .ok (.return_, 1)) : W p l e R s m args below meth c H locs 0 0 (gQv below post D tys V A args s) (F0 m pc ls []) :=
  W.vret F.1 F.2.1 hr (fun t ht hW => ⟨⟨x, rfl, hp, by rw [ht]; exact G.2.1, va_K.moved hW.alike G.1, G.2.2.1⟩, G.2.2.2.F ht⟩) G.2.2.2.2.2 hdg hlk
theorem g_calli {C : String} {y : MethodName} {bytes : ByteArray} {maxL idx b : Nat} {ret : FieldType} {rm : Room} {post : Int32 → σ → Prop} {As : List Value} (F : CallFix p m c cc nL s args lw_all own) (hA : ∀ q, s.heap.size ≤ q → A q) (hV : gSame V) (G : gG D tys V A s x H locs)
    (hM : gMi l y bytes maxL ret rm D tys V (.ref b :: As) x post) (cw : CallW R s args own C idx y bytes maxL (some ret) (ws_ y bytes maxL (some ret)) rm 0 0 As.length) (hrec : ∃ cell : Cell, H[b]? = some cell ∧ cell.vm.isStatics = false ∧ s.vm.findClass C = some cell.cls)
    (hsz : ls.size = nL) (hst : st0 = As.reverse ++ .ref b :: rest) (hroom : (rest.map fun v => v.category).sum ≤ 8) (hdg : decode cc pc = .ok (.invokevirtual idx, 3))
    (kk : ∀ (r : Int32) (x' : σ) (H1 : Heap) (locs1 : List Loc), post r x' → gG D tys V A s x' H1 locs1 → W p l e R s m args below meth c H1 locs1 0 0 Q (F0 m (pc + 3) ls (.int r :: rest))) : W p l e R s m args below meth c H locs 0 0 Q (F0 m pc ls st0) := by
  have hfree := gFree hA hV G
  obtain ⟨hK, hP, hD, hS⟩ := G
  refine va_calli (va_runV (As := As) (rest := rest) F (hM H.size) cw ⟨?_, hrec, fun U hU hW => ⟨rfl, by rw [hU], by rw [hU]; exact hP, va_K.moved hW.alike hK, hD.weaken (fun _ _ _ _ => trivial)⟩⟩ rfl rfl hsz hst (lv_room hroom) hdg ⟨Nat.zero_le _, Nat.zero_le _⟩) hS (fun q _ h => hfree q h) hfree (fun r x' t H1 locs1 ht hvm hp hB hz hk hS1 => ?_)
  · exact fun a U g ma q => by
      obtain ⟨q0, q1, qP, qK, qD⟩ := q
      exact ⟨q0, q1, qP, va_K.moved (u := U) (U := U.calling g ma a) (Vm.Alike.refl U.vm) qK, qD⟩
  · obtain ⟨hP1, hK1, hD1⟩ := hB
    exact kk r x' H1 locs1 hp ⟨hK, by rw [← ht]; exact hP1, hD1.weaken (fun _ q _ h => hfree q.1 h), hS1⟩
theorem g_callv {C : String} {y : MethodName} {bytes : ByteArray} {maxL idx b : Nat} {rm : Room} {post : σ → Prop} {As : List Value} (F : CallFix p m c cc nL s args lw_all own) (hA : ∀ q, s.heap.size ≤ q → A q) (hV : gSame V) (G : gG D tys V A s x H locs)
    (hM : gMv l y bytes maxL rm D tys V (.ref b :: As) x post) (cw : CallW R s args own C idx y bytes maxL none (ws_ y bytes maxL none) rm 0 0 As.length) (hrec : ∃ cell : Cell, H[b]? = some cell ∧ cell.vm.isStatics = false ∧ s.vm.findClass C = some cell.cls)
    (hsz : ls.size = nL) (hst : st0 = As.reverse ++ .ref b :: rest) (hroom : (rest.map fun v => v.category).sum ≤ 8) (hdg : decode cc pc = .ok (.invokevirtual idx, 3))
    (kk : ∀ (x' : σ) (H1 : Heap) (locs1 : List Loc), post x' → gG D tys V A s x' H1 locs1 → W p l e R s m args below meth c H1 locs1 0 0 Q (F0 m (pc + 3) ls rest)) : W p l e R s m args below meth c H locs 0 0 Q (F0 m pc ls st0) := by
  have hfree := gFree hA hV G
  obtain ⟨hK, hP, hD, hS⟩ := G
  refine va_callv (va_runV (As := As) (rest := rest) F (hM H.size) cw ⟨?_, hrec, fun U hU hW => ⟨rfl, by rw [hU], by rw [hU]; exact hP, va_K.moved hW.alike hK, hD.weaken (fun _ _ _ _ => trivial)⟩⟩ rfl rfl hsz hst (lv_room hroom) hdg ⟨Nat.zero_le _, Nat.zero_le _⟩) hS (fun q _ h => hfree q h) hfree (fun x' t H1 locs1 ht hvm hp hB hz hk hS1 => ?_)
  · exact fun a U g ma q => by
      obtain ⟨q0, q1, qP, qK, qD⟩ := q
      exact ⟨q0, q1, qP, va_K.moved (u := U) (U := U.calling g ma a) (Vm.Alike.refl U.vm) qK, qD⟩
  · obtain ⟨hP1, hK1, hD1⟩ := hB
    exact kk x' H1 locs1 hp ⟨hK, by rw [← ht]; exact hP1, hD1.weaken (fun _ q _ h => hfree q.1 h), hS1⟩
end GC
/-! rows of the class's own world -/
abbrev jG (D : va_G) (a : Nat → Nat) (k : Nat → ClassId) (A : Nat → Prop) (s : State) (X : JX) (H : Heap) (locs : List Loc) : Prop := gG D (JT k) (JW a k) A s X H locs
abbrev mG (D : va_G) (a : Nat → Nat) (k : Nat → ClassId) (A : Nat → Prop) (s : State) (X : MX) (H : Heap) (locs : List Loc) : Prop := gG D (MT k) (MW a k) A s X H locs
section JWR
variable {p : Program} {l : Launch} {e : Env} {R : Room} {s : State} {m : MethodId} {args : Array Value} {below : List Frame} {meth : Method} {c : Code} {H : Heap} {locs : List Loc} {cells slots : Nat} {Q : State → Prop}
variable {cc : ByteArray} {pc : Nat} {ls : Array Slot} {rest : List Value} {nL : Nat}
variable {D : va_G} {a : Nat → Nat} {k : Nat → ClassId} {A : Nat → Prop} {w : Nat → Bool} {le dr ma op : Nat → Nat} {oc gl : Nat} {la : Int} {fa : Nat → Int}
theorem jrec (G : jG D a k A s (w, le, dr, ma, op, oc, gl, la) H locs) : ∃ cell : Cell, H[a 0]? = some cell ∧ cell.vm.isStatics = false ∧ s.vm.findClass RX0 = some cell.cls := va_recv G.1 G.2.1 (ci := 0) (q0 := 0) rfl rfl
theorem mrec (G : mG D a k A s (w, fa) H locs) : ∃ cell : Cell, H[a 0]? = some cell ∧ cell.vm.isStatics = false ∧ s.vm.findClass RX1 = some cell.cls := va_recv G.1 G.2.1 (ci := 1) (q0 := 0) rfl rfl
theorem j0_walls (F : CallFix p m c cc nL s args lw_all RX0) (G : jG D a k A s (w, le, dr, ma, op, oc, gl, la) H locs) (hdg : decode cc pc = .ok (.getfield 7, 3)) (kk : W p l e R s m args below meth c H locs cells slots Q (F0 m (pc + 3) ls (.ref (a 1) :: rest))) : W p l e R s m args below meth c H locs cells slots Q (F0 m pc ls (.ref (a 0) :: rest)) := va_get (D := D) (ci := 0) (v := .ref (a 1)) (C := RX0) (T := TX0) (N := 8) F.1 F.2.1 F.2.2.2.2 in_X0 F.2.2.2.1 G.1 G.2.1 0 rfl rfl 0 (by decide) (F.2.2.2.2 _ q27) (fun _ h => h) rfl hdg kk
theorem j0_length (F : CallFix p m c cc nL s args lw_all RX0) (G : jG D a k A s (w, le, dr, ma, op, oc, gl, la) H locs) (hdg : decode cc pc = .ok (.getfield 13, 3)) (kk : W p l e R s m args below meth c H locs cells slots Q (F0 m (pc + 3) ls (.ref (a 2) :: rest))) : W p l e R s m args below meth c H locs cells slots Q (F0 m pc ls (.ref (a 0) :: rest)) := va_get (D := D) (ci := 0) (v := .ref (a 2)) (C := RX0) (T := TX0) (N := 8) F.1 F.2.1 F.2.2.2.2 in_X0 F.2.2.2.1 G.1 G.2.1 0 rfl rfl 1 (by decide) (F.2.2.2.2 _ q28) (fun _ h => h) rfl hdg kk
theorem j0_directions (F : CallFix p m c cc nL s args lw_all RX0) (G : jG D a k A s (w, le, dr, ma, op, oc, gl, la) H locs) (hdg : decode cc pc = .ok (.getfield 17, 3)) (kk : W p l e R s m args below meth c H locs cells slots Q (F0 m (pc + 3) ls (.ref (a 3) :: rest))) : W p l e R s m args below meth c H locs cells slots Q (F0 m pc ls (.ref (a 0) :: rest)) := va_get (D := D) (ci := 0) (v := .ref (a 3)) (C := RX0) (T := TX0) (N := 8) F.1 F.2.1 F.2.2.2.2 in_X0 F.2.2.2.1 G.1 G.2.1 0 rfl rfl 2 (by decide) (F.2.2.2.2 _ q29) (fun _ h => h) rfl hdg kk
theorem j0_mark (F : CallFix p m c cc nL s args lw_all RX0) (G : jG D a k A s (w, le, dr, ma, op, oc, gl, la) H locs) (hdg : decode cc pc = .ok (.getfield 20, 3)) (kk : W p l e R s m args below meth c H locs cells slots Q (F0 m (pc + 3) ls (.ref (a 4) :: rest))) : W p l e R s m args below meth c H locs cells slots Q (F0 m pc ls (.ref (a 0) :: rest)) := va_get (D := D) (ci := 0) (v := .ref (a 4)) (C := RX0) (T := TX0) (N := 8) F.1 F.2.1 F.2.2.2.2 in_X0 F.2.2.2.1 G.1 G.2.1 0 rfl rfl 3 (by decide) (F.2.2.2.2 _ q30) (fun _ h => h) rfl hdg kk
theorem j0_list (F : CallFix p m c cc nL s args lw_all RX0) (G : jG D a k A s (w, le, dr, ma, op, oc, gl, la) H locs) (hdg : decode cc pc = .ok (.getfield 24, 3)) (kk : W p l e R s m args below meth c H locs cells slots Q (F0 m (pc + 3) ls (.ref (a 5) :: rest))) : W p l e R s m args below meth c H locs cells slots Q (F0 m pc ls (.ref (a 0) :: rest)) := va_get (D := D) (ci := 0) (v := .ref (a 5)) (C := RX0) (T := TX0) (N := 8) F.1 F.2.1 F.2.2.2.2 in_X0 F.2.2.2.1 G.1 G.2.1 0 rfl rfl 4 (by decide) (F.2.2.2.2 _ q31) (fun _ h => h) rfl hdg kk
theorem j0_count (F : CallFix p m c cc nL s args lw_all RX0) (G : jG D a k A s (w, le, dr, ma, op, oc, gl, la) H locs) (hdg : decode cc pc = .ok (.getfield 59, 3)) (kk : W p l e R s m args below meth c H locs cells slots Q (F0 m (pc + 3) ls (.int (iI (oc : Int)) :: rest))) : W p l e R s m args below meth c H locs cells slots Q (F0 m pc ls (.ref (a 0) :: rest)) := va_get (D := D) (ci := 0) (v := .int (iI (oc : Int))) (C := RX0) (T := TX0) (N := 8) F.1 F.2.1 F.2.2.2.2 in_X0 F.2.2.2.1 G.1 G.2.1 0 rfl rfl 5 (by decide) (F.2.2.2.2 _ q32) (fun _ h => h) rfl hdg kk
theorem j0_goal (F : CallFix p m c cc nL s args lw_all RX0) (G : jG D a k A s (w, le, dr, ma, op, oc, gl, la) H locs) (hdg : decode cc pc = .ok (.getfield 49, 3)) (kk : W p l e R s m args below meth c H locs cells slots Q (F0 m (pc + 3) ls (.int (iI (gl : Int)) :: rest))) : W p l e R s m args below meth c H locs cells slots Q (F0 m pc ls (.ref (a 0) :: rest)) := va_get (D := D) (ci := 0) (v := .int (iI (gl : Int))) (C := RX0) (T := TX0) (N := 8) F.1 F.2.1 F.2.2.2.2 in_X0 F.2.2.2.1 G.1 G.2.1 0 rfl rfl 6 (by decide) (F.2.2.2.2 _ q33) (fun _ h => h) rfl hdg kk
theorem j0_landed (F : CallFix p m c cc nL s args lw_all RX0) (G : jG D a k A s (w, le, dr, ma, op, oc, gl, la) H locs) (hdg : decode cc pc = .ok (.getfield 45, 3)) (kk : W p l e R s m args below meth c H locs cells slots Q (F0 m (pc + 3) ls (.int (iI la) :: rest))) : W p l e R s m args below meth c H locs cells slots Q (F0 m pc ls (.ref (a 0) :: rest)) := va_get (D := D) (ci := 0) (v := .int (iI la)) (C := RX0) (T := TX0) (N := 8) F.1 F.2.1 F.2.2.2.2 in_X0 F.2.2.2.1 G.1 G.2.1 0 rfl rfl 7 (by decide) (F.2.2.2.2 _ q34) (fun _ h => h) rfl hdg kk
theorem j0_pcount (F : CallFix p m c cc nL s args lw_all RX0) (G : jG D a k A s (w, le, dr, ma, op, oc, gl, la) H locs) {z : Int} (v : Nat) (hz : z = (v : Int)) (hdg : decode cc pc = .ok (.putfield 59, 3)) (kk : ∀ (H1 : Heap) (locs1 : List Loc), jG D a k A s (w, le, dr, ma, op, v, gl, la) H1 locs1 → W p l e R s m args below meth c H1 locs1 cells slots Q (F0 m (pc + 3) ls rest)) : W p l e R s m args below meth c H locs cells slots Q (F0 m pc ls (.int (iI z) :: .ref (a 0) :: rest)) := by
  subst hz
  exact va_put (D := D) (ci := 0) (v := .int (iI (v : Int))) (ty := .int) (C := RX0) (T := TX0) (N := 8) F.1 F.2.1 F.2.2.2.2 in_X0 tyX0 tyX0_ok nmX0 F.2.2.2.1 G.1 G.2.1 G.2.2.1 G.2.2.2 0 rfl rfl 5 (by decide) (F.2.2.2.2 _ q32) (fun _ h => h) rfl (by decide +kernel) rfl rfl (Nat.le_of_ble_eq_true rfl) hdg (fun H1 locs1 hP hD hS => kk H1 locs1 ⟨G.1, hP, hD, hS⟩)
theorem j0_pgoal (F : CallFix p m c cc nL s args lw_all RX0) (G : jG D a k A s (w, le, dr, ma, op, oc, gl, la) H locs) {z : Int} (v : Nat) (hz : z = (v : Int)) (hdg : decode cc pc = .ok (.putfield 49, 3)) (kk : ∀ (H1 : Heap) (locs1 : List Loc), jG D a k A s (w, le, dr, ma, op, oc, v, la) H1 locs1 → W p l e R s m args below meth c H1 locs1 cells slots Q (F0 m (pc + 3) ls rest)) : W p l e R s m args below meth c H locs cells slots Q (F0 m pc ls (.int (iI z) :: .ref (a 0) :: rest)) := by
  subst hz
  exact va_put (D := D) (ci := 0) (v := .int (iI (v : Int))) (ty := .int) (C := RX0) (T := TX0) (N := 8) F.1 F.2.1 F.2.2.2.2 in_X0 tyX0 tyX0_ok nmX0 F.2.2.2.1 G.1 G.2.1 G.2.2.1 G.2.2.2 0 rfl rfl 6 (by decide) (F.2.2.2.2 _ q33) (fun _ h => h) rfl (by decide +kernel) rfl rfl (Nat.le_of_ble_eq_true rfl) hdg (fun H1 locs1 hP hD hS => kk H1 locs1 ⟨G.1, hP, hD, hS⟩)
theorem j0_planded (F : CallFix p m c cc nL s args lw_all RX0) (G : jG D a k A s (w, le, dr, ma, op, oc, gl, la) H locs) {z : Int} (hdg : decode cc pc = .ok (.putfield 45, 3)) (kk : ∀ (H1 : Heap) (locs1 : List Loc), jG D a k A s (w, le, dr, ma, op, oc, gl, z) H1 locs1 → W p l e R s m args below meth c H1 locs1 cells slots Q (F0 m (pc + 3) ls rest)) : W p l e R s m args below meth c H locs cells slots Q (F0 m pc ls (.int (iI z) :: .ref (a 0) :: rest)) :=
  va_put (D := D) (ci := 0) (v := .int (iI z)) (ty := .int) (C := RX0) (T := TX0) (N := 8) F.1 F.2.1 F.2.2.2.2 in_X0 tyX0 tyX0_ok nmX0 F.2.2.2.1 G.1 G.2.1 G.2.2.1 G.2.2.2 0 rfl rfl 7 (by decide) (F.2.2.2.2 _ q34) (fun _ h => h) rfl (by decide +kernel) rfl rfl (Nat.le_of_ble_eq_true rfl) hdg (fun H1 locs1 hP hD hS => kk H1 locs1 ⟨G.1, hP, hD, hS⟩)
theorem j0_ldW (F : CallFix p m c cc nL s args lw_all RX0) (G : jG D a k A s (w, le, dr, ma, op, oc, gl, la) H locs) {z : Int} (i : Nat) (hz : z = (i : Int)) (hi : i < 144) (hdg : decode cc pc = .ok (.baload, 1)) (kk : W p l e R s m args below meth c H locs cells slots Q (F0 m (pc + 1) ls (.int (iI (bz (w i))) :: rest))) : W p l e R s m args below meth c H locs cells slots Q (F0 m pc ls (.int (iI z) :: .ref (a 1) :: rest)) :=
  va_zald (f := aB w) F.1 F.2.1 G.1 G.2.1 1 0 rfl rfl (iI_in hz hi (by decide)) hdg (by rw [iI_clamp hz (by omega)]; exact kk)
theorem j0_ldL (F : CallFix p m c cc nL s args lw_all RX0) (G : jG D a k A s (w, le, dr, ma, op, oc, gl, la) H locs) {z : Int} (i : Nat) (hz : z = (i : Int)) (hi : i < 144) (hdg : decode cc pc = .ok (.saload, 1)) (kk : W p l e R s m args below meth c H locs cells slots Q (F0 m (pc + 1) ls (.int (iI (le i : Int)) :: rest))) : W p l e R s m args below meth c H locs cells slots Q (F0 m pc ls (.int (iI z) :: .ref (a 2) :: rest)) :=
  va_sald (f := aN le) F.1 F.2.1 G.1 G.2.1 2 1 rfl rfl (iI_in hz hi (by decide)) hdg (by rw [iI_clamp hz (by omega)]; exact kk)
theorem j0_ldD (F : CallFix p m c cc nL s args lw_all RX0) (G : jG D a k A s (w, le, dr, ma, op, oc, gl, la) H locs) {z : Int} (i : Nat) (hz : z = (i : Int)) (hi : i < 144) (hdg : decode cc pc = .ok (.saload, 1)) (kk : W p l e R s m args below meth c H locs cells slots Q (F0 m (pc + 1) ls (.int (iI (dr i : Int)) :: rest))) : W p l e R s m args below meth c H locs cells slots Q (F0 m pc ls (.int (iI z) :: .ref (a 3) :: rest)) :=
  va_sald (f := aN dr) F.1 F.2.1 G.1 G.2.1 3 2 rfl rfl (iI_in hz hi (by decide)) hdg (by rw [iI_clamp hz (by omega)]; exact kk)
theorem j0_ldM (F : CallFix p m c cc nL s args lw_all RX0) (G : jG D a k A s (w, le, dr, ma, op, oc, gl, la) H locs) {z : Int} (i : Nat) (hz : z = (i : Int)) (hi : i < 144) (hdg : decode cc pc = .ok (.baload, 1)) (kk : W p l e R s m args below meth c H locs cells slots Q (F0 m (pc + 1) ls (.int (iI (ma i : Int)) :: rest))) : W p l e R s m args below meth c H locs cells slots Q (F0 m pc ls (.int (iI z) :: .ref (a 4) :: rest)) :=
  va_bald (f := aN ma) F.1 F.2.1 G.1 G.2.1 4 3 rfl rfl (iI_in hz hi (by decide)) hdg (by rw [iI_clamp hz (by omega)]; exact kk)
theorem j0_ldO (F : CallFix p m c cc nL s args lw_all RX0) (G : jG D a k A s (w, le, dr, ma, op, oc, gl, la) H locs) {z : Int} (i : Nat) (hz : z = (i : Int)) (hi : i < 144) (hdg : decode cc pc = .ok (.saload, 1)) (kk : W p l e R s m args below meth c H locs cells slots Q (F0 m (pc + 1) ls (.int (iI (op i : Int)) :: rest))) : W p l e R s m args below meth c H locs cells slots Q (F0 m pc ls (.int (iI z) :: .ref (a 5) :: rest)) :=
  va_sald (f := aN op) F.1 F.2.1 G.1 G.2.1 5 4 rfl rfl (iI_in hz hi (by decide)) hdg (by rw [iI_clamp hz (by omega)]; exact kk)
theorem j0_stW (F : CallFix p m c cc nL s args lw_all RX0) (G : jG D a k A s (w, le, dr, ma, op, oc, gl, la) H locs) {z : Int} (i : Nat) (b : Bool) {v : Int} (hz : z = (i : Int)) (hi : i < 144) (hv : v = bz b) (hdg : decode cc pc = .ok (.bastore, 1)) (kk : ∀ (H1 : Heap) (locs1 : List Loc), jG D a k A s (va_up w i b, le, dr, ma, op, oc, gl, la) H1 locs1 → W p l e R s m args below meth c H1 locs1 cells slots Q (F0 m (pc + 1) ls rest)) : W p l e R s m args below meth c H locs cells slots Q (F0 m pc ls (.int (iI v) :: .int (iI z) :: .ref (a 1) :: rest)) := by
  subst hv
  refine va_zast (f := aB w) F.1 F.2.1 G.1 G.2.1 G.2.2.1 G.2.2.2 1 0 rfl rfl (iI_in hz hi (by decide)) hdg (fun H1 locs1 hP hD hS => ?_)
  rw [iI_clamp hz (by omega), iI_bool, aB_upd] at hP hD
  exact kk H1 locs1 ⟨G.1, hP, hD, hS⟩
theorem j0_stL (F : CallFix p m c cc nL s args lw_all RX0) (G : jG D a k A s (w, le, dr, ma, op, oc, gl, la) H locs) {z x : Int} (i v : Nat) (hz : z = (i : Int)) (hi : i < 144) (hx : x = (v : Int)) (hv : v < 32768) (hdg : decode cc pc = .ok (.sastore, 1)) (kk : ∀ (H1 : Heap) (locs1 : List Loc), jG D a k A s (w, va_up le i v, dr, ma, op, oc, gl, la) H1 locs1 → W p l e R s m args below meth c H1 locs1 cells slots Q (F0 m (pc + 1) ls rest)) : W p l e R s m args below meth c H locs cells slots Q (F0 m pc ls (.int (iI x) :: .int (iI z) :: .ref (a 2) :: rest)) := by
  subst hx
  refine va_sast (f := aN le) F.1 F.2.1 G.1 G.2.1 G.2.2.1 G.2.2.2 2 1 rfl rfl (iI_in hz hi (by decide)) hdg (fun H1 locs1 hP hD hS => ?_)
  rw [iI_clamp hz (by omega), vp_nar_short, iI_short hv, aN_upd] at hP hD
  exact kk H1 locs1 ⟨G.1, hP, hD, hS⟩
theorem j0_stD (F : CallFix p m c cc nL s args lw_all RX0) (G : jG D a k A s (w, le, dr, ma, op, oc, gl, la) H locs) {z x : Int} (i v : Nat) (hz : z = (i : Int)) (hi : i < 144) (hx : x = (v : Int)) (hv : v < 32768) (hdg : decode cc pc = .ok (.sastore, 1)) (kk : ∀ (H1 : Heap) (locs1 : List Loc), jG D a k A s (w, le, va_up dr i v, ma, op, oc, gl, la) H1 locs1 → W p l e R s m args below meth c H1 locs1 cells slots Q (F0 m (pc + 1) ls rest)) : W p l e R s m args below meth c H locs cells slots Q (F0 m pc ls (.int (iI x) :: .int (iI z) :: .ref (a 3) :: rest)) := by
  subst hx
  refine va_sast (f := aN dr) F.1 F.2.1 G.1 G.2.1 G.2.2.1 G.2.2.2 3 2 rfl rfl (iI_in hz hi (by decide)) hdg (fun H1 locs1 hP hD hS => ?_)
  rw [iI_clamp hz (by omega), vp_nar_short, iI_short hv, aN_upd] at hP hD
  exact kk H1 locs1 ⟨G.1, hP, hD, hS⟩
theorem j0_stM (F : CallFix p m c cc nL s args lw_all RX0) (G : jG D a k A s (w, le, dr, ma, op, oc, gl, la) H locs) {z x : Int} (i v : Nat) (hz : z = (i : Int)) (hi : i < 144) (hx : x = (v : Int)) (hv : v < 128) (hdg : decode cc pc = .ok (.bastore, 1)) (kk : ∀ (H1 : Heap) (locs1 : List Loc), jG D a k A s (w, le, dr, va_up ma i v, op, oc, gl, la) H1 locs1 → W p l e R s m args below meth c H1 locs1 cells slots Q (F0 m (pc + 1) ls rest)) : W p l e R s m args below meth c H locs cells slots Q (F0 m pc ls (.int (iI x) :: .int (iI z) :: .ref (a 4) :: rest)) := by
  subst hx
  refine va_bast (f := aN ma) F.1 F.2.1 G.1 G.2.1 G.2.2.1 G.2.2.2 4 3 rfl rfl (iI_in hz hi (by decide)) hdg (fun H1 locs1 hP hD hS => ?_)
  rw [iI_clamp hz (by omega), vp_nar_byte, iI_byte hv, aN_upd] at hP hD
  exact kk H1 locs1 ⟨G.1, hP, hD, hS⟩
theorem j0_stO (F : CallFix p m c cc nL s args lw_all RX0) (G : jG D a k A s (w, le, dr, ma, op, oc, gl, la) H locs) {z x : Int} (i v : Nat) (hz : z = (i : Int)) (hi : i < 144) (hx : x = (v : Int)) (hv : v < 32768) (hdg : decode cc pc = .ok (.sastore, 1)) (kk : ∀ (H1 : Heap) (locs1 : List Loc), jG D a k A s (w, le, dr, ma, va_up op i v, oc, gl, la) H1 locs1 → W p l e R s m args below meth c H1 locs1 cells slots Q (F0 m (pc + 1) ls rest)) : W p l e R s m args below meth c H locs cells slots Q (F0 m pc ls (.int (iI x) :: .int (iI z) :: .ref (a 5) :: rest)) := by
  subst hx
  refine va_sast (f := aN op) F.1 F.2.1 G.1 G.2.1 G.2.2.1 G.2.2.2 5 4 rfl rfl (iI_in hz hi (by decide)) hdg (fun H1 locs1 hP hD hS => ?_)
  rw [iI_clamp hz (by omega), vp_nar_short, iI_short hv, aN_upd] at hP hD
  exact kk H1 locs1 ⟨G.1, hP, hD, hS⟩
theorem m0_walls (F : CallFix p m c cc nL s args lw_all RX1) (G : mG D a k A s (w, fa) H locs) (hdg : decode cc pc = .ok (.getfield 7, 3)) (kk : W p l e R s m args below meth c H locs cells slots Q (F0 m (pc + 3) ls (.ref (a 1) :: rest))) : W p l e R s m args below meth c H locs cells slots Q (F0 m pc ls (.ref (a 0) :: rest)) := va_get (D := D) (ci := 1) (v := .ref (a 1)) (C := RX1) (T := TX1) (N := 2) F.1 F.2.1 F.2.2.2.2 in_X1 F.2.2.2.1 G.1 G.2.1 0 rfl rfl 0 (by decide) (F.2.2.2.2 _ q145) (fun _ h => h) rfl hdg kk
theorem m0_far (F : CallFix p m c cc nL s args lw_all RX1) (G : mG D a k A s (w, fa) H locs) (hdg : decode cc pc = .ok (.getfield 13, 3)) (kk : W p l e R s m args below meth c H locs cells slots Q (F0 m (pc + 3) ls (.ref (a 2) :: rest))) : W p l e R s m args below meth c H locs cells slots Q (F0 m pc ls (.ref (a 0) :: rest)) := va_get (D := D) (ci := 1) (v := .ref (a 2)) (C := RX1) (T := TX1) (N := 2) F.1 F.2.1 F.2.2.2.2 in_X1 F.2.2.2.1 G.1 G.2.1 0 rfl rfl 1 (by decide) (F.2.2.2.2 _ q146) (fun _ h => h) rfl hdg kk
theorem m0_ldW (F : CallFix p m c cc nL s args lw_all RX1) (G : mG D a k A s (w, fa) H locs) {z : Int} (i : Nat) (hz : z = (i : Int)) (hi : i < 144) (hdg : decode cc pc = .ok (.baload, 1)) (kk : W p l e R s m args below meth c H locs cells slots Q (F0 m (pc + 1) ls (.int (iI (bz (w i))) :: rest))) : W p l e R s m args below meth c H locs cells slots Q (F0 m pc ls (.int (iI z) :: .ref (a 1) :: rest)) :=
  va_zald (f := aB w) F.1 F.2.1 G.1 G.2.1 1 0 rfl rfl (iI_in hz hi (by decide)) hdg (by rw [iI_clamp hz (by omega)]; exact kk)
theorem m0_ldF (F : CallFix p m c cc nL s args lw_all RX1) (G : mG D a k A s (w, fa) H locs) {z : Int} (i : Nat) (hz : z = (i : Int)) (hi : i < 144) (hdg : decode cc pc = .ok (.iaload, 1)) (kk : W p l e R s m args below meth c H locs cells slots Q (F0 m (pc + 1) ls (.int (iI (fa i)) :: rest))) : W p l e R s m args below meth c H locs cells slots Q (F0 m pc ls (.int (iI z) :: .ref (a 2) :: rest)) :=
  va_iald (f := aI fa) F.1 F.2.1 G.1 G.2.1 2 1 rfl rfl (iI_in hz hi (by decide)) hdg (by rw [iI_clamp hz (by omega)]; exact kk)
theorem m0_stW (F : CallFix p m c cc nL s args lw_all RX1) (G : mG D a k A s (w, fa) H locs) {z : Int} (i : Nat) (b : Bool) {v : Int} (hz : z = (i : Int)) (hi : i < 144) (hv : v = bz b) (hdg : decode cc pc = .ok (.bastore, 1)) (kk : ∀ (H1 : Heap) (locs1 : List Loc), mG D a k A s (va_up w i b, fa) H1 locs1 → W p l e R s m args below meth c H1 locs1 cells slots Q (F0 m (pc + 1) ls rest)) : W p l e R s m args below meth c H locs cells slots Q (F0 m pc ls (.int (iI v) :: .int (iI z) :: .ref (a 1) :: rest)) := by
  subst hv
  refine va_zast (f := aB w) F.1 F.2.1 G.1 G.2.1 G.2.2.1 G.2.2.2 1 0 rfl rfl (iI_in hz hi (by decide)) hdg (fun H1 locs1 hP hD hS => ?_)
  rw [iI_clamp hz (by omega), iI_bool, aB_upd] at hP hD
  exact kk H1 locs1 ⟨G.1, hP, hD, hS⟩
theorem m0_stF (F : CallFix p m c cc nL s args lw_all RX1) (G : mG D a k A s (w, fa) H locs) {z v : Int} (i : Nat) (hz : z = (i : Int)) (hi : i < 144) (hdg : decode cc pc = .ok (.iastore, 1)) (kk : ∀ (H1 : Heap) (locs1 : List Loc), mG D a k A s (w, va_up fa i v) H1 locs1 → W p l e R s m args below meth c H1 locs1 cells slots Q (F0 m (pc + 1) ls rest)) : W p l e R s m args below meth c H locs cells slots Q (F0 m pc ls (.int (iI v) :: .int (iI z) :: .ref (a 2) :: rest)) := by
  refine va_iast (f := aI fa) F.1 F.2.1 G.1 G.2.1 G.2.2.1 G.2.2.2 2 1 rfl rfl (iI_in hz hi (by decide)) hdg (fun H1 locs1 hP hD hS => ?_)
  rw [iI_clamp hz (by omega), aI_upd] at hP hD
  exact kk H1 locs1 ⟨G.1, hP, hD, hS⟩
end JWR
end
section
/-! the plain picture: the grid, jumps, the offer, the list of cells to go on from -/
def jfre (w : Nat → Bool) (x y : Int) : Bool := decide (0 ≤ x ∧ x < 12 ∧ 0 ≤ y ∧ y < 12) && !(w (12 * y + x).toNat)
def jix (dx dy : Int) : Nat := (3 * (dy + 1) + dx + 1).toNat
def jbit (dx dy : Int) : Nat := 2 ^ jix dx dy
def jfc1 (w : Nat → Bool) (x y sx sy tx ty : Int) : Nat := if jfre w (x + sx) (y + sy) = false ∧ jfre w (x + tx) (y + ty) = true then jbit tx ty else 0
def jsd (d s : Int) : Int := if d = 0 then s else 0
/-- the forced directions at (x, y), come to by (dx, dy) -/
def jfcd (w : Nat → Bool) (x y dx dy : Int) : Nat := if dx ≠ 0 ∧ dy ≠ 0 then jfc1 w x y (-dx) 0 (-dx) dy ||| jfc1 w x y 0 (-dy) dx (-dy) else jfc1 w x y (jsd dx (-1)) (jsd dy (-1)) (dx + jsd dx (-1)) (dy + jsd dy (-1)) ||| jfc1 w x y (jsd dx 1) (jsd dy 1) (dx + jsd dx 1) (dy + jsd dy 1)
/-- a straight jump: how many steps, and where it stops -/
def jst (w : Nat → Bool) (g dx dy : Int) : Nat → Nat → Int → Int → Option (Nat × Int × Int)
  | 0, _, _, _ => none
  | n + 1, k, x, y => if jfre w (x + dx) (y + dy) = true then (if 12 * (y + dy) + (x + dx) = g ∨ jfcd w (x + dx) (y + dy) dx dy ≠ 0 then some (k + 1, x + dx, y + dy) else jst w g dx dy n (k + 1) (x + dx) (y + dy)) else none
/-- a diagonal jump -/
def jdg (w : Nat → Bool) (g dx dy : Int) : Nat → Nat → Int → Int → Option (Nat × Int × Int)
  | 0, _, _, _ => none
  | n + 1, k, x, y => if jfre w (x + dx) (y + dy) = true then (if (12 * (y + dy) + (x + dx) = g ∨ jfcd w (x + dx) (y + dy) dx dy ≠ 0) ∨ ((jst w g dx 0 12 0 (x + dx) (y + dy)).isSome = true ∨ (jst w g 0 dy 12 0 (x + dx) (y + dy)).isSome = true) then some (k + 1, x + dx, y + dy) else jdg w g dx dy n (k + 1) (x + dx) (y + dy)) else none
def jmp (w : Nat → Bool) (g x y dx dy : Int) : Option (Nat × Int × Int) := if dx ≠ 0 ∧ dy ≠ 0 then jdg w g dx dy 12 0 x y else jst w g dx dy 12 0 x y
/-- the directions to go on in from a stop -/
def jnx (w : Nat → Bool) (x y dx dy : Int) : Nat := if dx ≠ 0 ∧ dy ≠ 0 then (jbit dx dy ||| jfcd w x y dx dy) ||| (jbit dx 0 ||| jbit 0 dy) else jbit dx dy ||| jfcd w x y dx dy
def jmc (dx dy : Int) : Nat := if dx ≠ 0 ∧ dy ≠ 0 then 14 else 10
def jstp (o : Option (Nat × Int × Int)) : Int := match o with
  | none => 0
  | some (k, _, _) => (k : Int)
def jlnd (o : Option (Nat × Int × Int)) : Int := match o with
  | none => -1
  | some (_, x, y) => 12 * y + x
def jab (d : Int) : Int := if d < 0 then -d else d
/-- the least that a way can cost -/
def jal (x y gx gy : Int) : Int := if jab (x - gx) < jab (y - gy) then 4 * jab (x - gx) + 10 * jab (y - gy) else 4 * jab (y - gy) + 10 * jab (x - gx)
def jcx (c : Nat) : Int := (c : Int) % 12
def jcy (c : Nat) : Int := (c : Int) / 12
def jcl (x y : Int) : Nat := (12 * y + x).toNat
def jdx (d : Nat) : Int := (d : Int) % 3 - 1
def jdy (d : Nat) : Int := (d : Int) / 3 - 1
abbrev JY : Type := (Nat → Nat) × (Nat → Nat) × (Nat → Nat) × (Nat → Nat) × Nat
def jpush (le dr ma op : Nat → Nat) (oc c : Nat) : JY := if ma c = 1 then (le, dr, ma, op, oc) else (le, dr, va_up ma c 1, va_up op oc c, oc + 1)
def jofr (le dr ma op : Nat → Nat) (oc c nl ds : Nat) : JY :=
  if ma c ≠ 0 ∧ le c < nl then (le, dr, ma, op, oc)
  else if ma c ≠ 0 ∧ le c = nl then (if dr c ||| ds = dr c then (le, dr, ma, op, oc) else jpush le (va_up dr c (dr c ||| ds)) ma op oc c)
  else jpush (va_up le c nl) (va_up dr c ds) ma op oc c
def jJX (w : Nat → Bool) (Y : JY) (gl : Nat) (la : Int) : JX := (w, Y.1, Y.2.1, Y.2.2.1, Y.2.2.2.1, Y.2.2.2.2, gl, la)
/-- the cost that the list goes by -/
def jf (le : Nat → Nat) (gl c : Nat) : Int := (le c : Int) + jal (jcx c) (jcy c) (jcx gl) (jcy gl)
theorem jfre_iff {w : Nat → Bool} {x y : Int} : jfre w x y = true ↔ (0 ≤ x ∧ x < 12 ∧ 0 ≤ y ∧ y < 12) ∧ w (12 * y + x).toNat = false := by
  unfold jfre
  rw [Bool.and_eq_true, decide_eq_true_iff, Bool.not_eq_true']
theorem jfre_out {w : Nat → Bool} {x y : Int} (h : ¬ (0 ≤ x ∧ x < 12 ∧ 0 ≤ y ∧ y < 12)) : jfre w x y = false := by
  rcases hq : jfre w x y with _ | _
  · rfl
  · exact absurd (jfre_iff.mp hq).1 h
theorem jfre_in {w : Nat → Bool} {x y : Int} (h : 0 ≤ x ∧ x < 12 ∧ 0 ≤ y ∧ y < 12) : jfre w x y = !(w (12 * y + x).toNat) := by
  unfold jfre
  rw [decide_eq_true h, Bool.true_and]
theorem bz_cases (b : Bool) : (b = true ∧ bz b = 1) ∨ (b = false ∧ bz b = 0) := by
  cases b
  · exact Or.inr ⟨rfl, rfl⟩
  · exact Or.inl ⟨rfl, rfl⟩
theorem bz_in (b : Bool) : 0 ≤ bz b ∧ bz b ≤ 1 := by
  rcases bz_cases b with ⟨_, h⟩ | ⟨_, h⟩ <;> rw [h] <;> decide
theorem bz_true {b : Bool} (h : ¬ bz b = 0) : b = true := by
  rcases bz_cases b with ⟨h1, h2⟩ | ⟨h1, h2⟩
  · exact h1
  · exact absurd h2 h
theorem bz_false {b : Bool} (h : bz b = 0) : b = false := by
  rcases bz_cases b with ⟨h1, h2⟩ | ⟨h1, h2⟩
  · omega
  · exact h1
/-- how many steps are left in a direction before the rim -/
def jlft (dx dy x y : Int) : Int := if dx = 1 then 11 - x else if dx = -1 then x else if dy = 1 then 11 - y else y
def okd (dx dy : Int) : Prop := -1 ≤ dx ∧ dx ≤ 1 ∧ -1 ≤ dy ∧ dy ≤ 1 ∧ (dx ≠ 0 ∨ dy ≠ 0)
theorem jlft_in {dx dy x y : Int} (h : 0 ≤ x ∧ x < 12 ∧ 0 ≤ y ∧ y < 12) : 0 ≤ jlft dx dy x y ∧ jlft dx dy x y ≤ 11 := by
  unfold jlft
  split
  · omega
  · split
    · omega
    · split <;> omega
theorem jlft_step {dx dy x y : Int} (h : okd dx dy) : jlft dx dy (x + dx) (y + dy) = jlft dx dy x y - 1 := by
  unfold okd at h
  unfold jlft
  split
  · omega
  · split
    · omega
    · split <;> omega
theorem jbit_lt {dx dy : Int} (h : -1 ≤ dx ∧ dx ≤ 1 ∧ -1 ≤ dy ∧ dy ≤ 1) : jbit dx dy < 512 := by
  unfold jbit jix
  have h1 : (3 * (dy + 1) + dx + 1).toNat < 9 := by omega
  have h2 : 2 ^ (3 * (dy + 1) + dx + 1).toNat < 2 ^ 9 := Nat.pow_lt_pow_right (by decide) h1
  omega
theorem jor_lt {a b : Nat} (ha : a < 512) (hb : b < 512) : a ||| b < 512 := Nat.or_lt_two_pow (n := 9) ha hb
theorem jfc1_lt {w : Nat → Bool} {x y sx sy tx ty : Int} (h : -1 ≤ tx ∧ tx ≤ 1 ∧ -1 ≤ ty ∧ ty ≤ 1) : jfc1 w x y sx sy tx ty < 512 := by
  unfold jfc1
  split
  · exact jbit_lt h
  · decide
theorem jfcd_lt {w : Nat → Bool} {x y dx dy : Int} (h : okd dx dy) : jfcd w x y dx dy < 512 := by
  unfold okd at h
  unfold jfcd
  split
  · exact jor_lt (jfc1_lt (by omega)) (jfc1_lt (by omega))
  · refine jor_lt (jfc1_lt ?_) (jfc1_lt ?_)
    · unfold jsd; split <;> split <;> omega
    · unfold jsd; split <;> split <;> omega
theorem jnx_lt {w : Nat → Bool} {x y dx dy : Int} (h : okd dx dy) : jnx w x y dx dy < 512 := by
  have h0 := h
  unfold okd at h
  unfold jnx
  split
  · exact jor_lt (jor_lt (jbit_lt (by omega)) (jfcd_lt h0)) (jor_lt (jbit_lt (by omega)) (jbit_lt (by omega)))
  · exact jor_lt (jbit_lt (by omega)) (jfcd_lt h0)
theorem jst_gt {w : Nat → Bool} {g dx dy : Int} : ∀ (n k : Nat) (x y : Int) (k' : Nat) (x' y' : Int), jst w g dx dy n k x y = some (k', x', y') → k < k' := by
  intro n
  induction n with
  | zero => intro k x y k' x' y' h; cases h
  | succ n ih =>
    intro k x y k' x' y' h
    unfold jst at h
    split at h
    · split at h
      · cases h; omega
      · have := ih _ _ _ _ _ _ h
        omega
    · cases h
theorem jst_stp {w : Nat → Bool} {g dx dy x y : Int} {n : Nat} : (0 < jstp (jst w g dx dy n 0 x y) ↔ (jst w g dx dy n 0 x y).isSome = true) := by
  rcases h : jst w g dx dy n 0 x y with _ | ⟨k, x', y'⟩
  · simp [jstp]
  · have := jst_gt n 0 x y k x' y' h
    simp [jstp]
    omega
theorem jst_lt {w : Nat → Bool} {g dx dy : Int} : ∀ (n k : Nat) (x y : Int) (k' : Nat) (x' y' : Int), jst w g dx dy n k x y = some (k', x', y') → k' ≤ k + n := by
  intro n
  induction n with
  | zero => intro k x y k' x' y' h; cases h
  | succ n ih =>
    intro k x y k' x' y' h
    unfold jst at h
    split at h
    · split at h
      · cases h; omega
      · have := ih _ _ _ _ _ _ h
        omega
    · cases h
theorem jst_stp_in {w : Nat → Bool} {g dx dy x y : Int} {n : Nat} : 0 ≤ jstp (jst w g dx dy n 0 x y) ∧ jstp (jst w g dx dy n 0 x y) ≤ (n : Int) := by
  rcases h : jst w g dx dy n 0 x y with _ | ⟨k, x', y'⟩
  · simp [jstp]
  · have := jst_lt n 0 x y k x' y' h
    simp [jstp]
    omega
theorem jal_in {x y gx gy : Int} (h : 0 ≤ x ∧ x < 12 ∧ 0 ≤ y ∧ y < 12) (h2 : 0 ≤ gx ∧ gx < 12 ∧ 0 ≤ gy ∧ gy < 12) : 0 ≤ jal x y gx gy ∧ jal x y gx gy ≤ 154 := by
  unfold jal jab
  repeat' split
  all_goals omega
theorem jcx_in (c : Nat) (h : c < 144) : 0 ≤ jcx c ∧ jcx c < 12 ∧ 0 ≤ jcy c ∧ jcy c < 12 := by
  unfold jcx jcy
  omega
theorem jor_iI (a b : Nat) : iI (a : Int) ||| iI (b : Int) = iI ((a ||| b : Nat) : Int) := by
  rw [iI_nat, iI_nat, iI_nat]
  apply Int32.toBitVec_inj.1
  show BitVec.ofNat 32 a ||| BitVec.ofNat 32 b = BitVec.ofNat 32 (a ||| b)
  apply BitVec.eq_of_getLsbD_eq
  intro i hi
  simp [hi]
theorem jshl_iI : ∀ n : Nat, n < 9 → iI 1 <<< (iI (n : Int) &&& 31) = iI ((2 ^ n : Nat) : Int) := by decide +kernel
theorem jtst_iI : ∀ a : Nat, a < 512 → ∀ d : Nat, d < 9 → ((iI (a : Int) >>> (iI (d : Int) &&& 31)) &&& iI 1 = 0 ↔ a.testBit d = false) := by decide +kernel
theorem jsub_iI {a b : Nat} (ha : a < 512) : (iI (a : Int) &&& (iI (b : Int) ^^^ iI (-1))) = 0 ↔ b ||| a = b := by
  rw [iI_nat, iI_nat, ← Int32.toBitVec_inj]
  show BitVec.ofNat 32 a &&& (BitVec.ofNat 32 b ^^^ (iI (-1)).toBitVec) = 0#32 ↔ _
  rw [show (iI (-1)).toBitVec = BitVec.allOnes 32 by decide +kernel]
  constructor
  · intro h
    apply Nat.eq_of_testBit_eq
    intro i
    rw [Nat.testBit_or]
    by_cases hi : i < 32
    · have q := congrArg (fun v => v.getLsbD i) h
      simp only [BitVec.getLsbD_and, BitVec.getLsbD_xor, BitVec.getLsbD_ofNat, BitVec.getLsbD_allOnes, BitVec.getLsbD_zero, hi, decide_true, Bool.true_and] at q
      revert q
      cases a.testBit i <;> cases b.testBit i <;> simp
    · have q : a.testBit i = false := Nat.testBit_lt_two_pow (Nat.lt_of_lt_of_le (show a < 2 ^ 9 from ha) (Nat.pow_le_pow_right (by decide) (by omega)))
      rw [q, Bool.or_false]
  · intro h
    apply BitVec.eq_of_getLsbD_eq
    intro i hi
    have q := congrArg (fun v => v.testBit i) h
    simp only [Nat.testBit_or] at q
    simp only [BitVec.getLsbD_and, BitVec.getLsbD_xor, BitVec.getLsbD_ofNat, BitVec.getLsbD_allOnes, BitVec.getLsbD_zero, hi, decide_true, Bool.true_and]
    revert q
    cases a.testBit i <;> cases b.testBit i <;> simp
end
section
def jisf (w : Nat → Bool) (z : Int) : Bool := decide (0 ≤ z ∧ z < 144) && !(w z.toNat)
def jisw (w : Nat → Bool) (z : Int) : Bool := decide (0 ≤ z ∧ z < 144) && w z.toNat
def jisc (z : Int) : Bool := decide (0 ≤ z ∧ z < 144)
def jwal (w : Nat → Bool) (z : Int) (on : Bool) : Nat → Bool := if 0 ≤ z ∧ z < 144 then va_up w z.toNat on else w
theorem jisf_in {w : Nat → Bool} {z : Int} (h : 0 ≤ z ∧ z < 144) : jisf w z = !(w z.toNat) := by unfold jisf; rw [decide_eq_true h, Bool.true_and]
theorem jisf_out {w : Nat → Bool} {z : Int} (h : ¬ (0 ≤ z ∧ z < 144)) : jisf w z = false := by unfold jisf; rw [decide_eq_false h, Bool.false_and]
theorem jisw_in {w : Nat → Bool} {z : Int} (h : 0 ≤ z ∧ z < 144) : jisw w z = w z.toNat := by unfold jisw; rw [decide_eq_true h, Bool.true_and]
theorem jisw_out {w : Nat → Bool} {z : Int} (h : ¬ (0 ≤ z ∧ z < 144)) : jisw w z = false := by unfold jisw; rw [decide_eq_false h, Bool.false_and]
theorem jisf_iff {w : Nat → Bool} {z : Int} (h : jisf w z = true) : ∃ c : Nat, c < 144 ∧ z = (c : Int) ∧ w c = false := by
  by_cases hz : 0 ≤ z ∧ z < 144
  · rw [jisf_in hz, Bool.not_eq_true'] at h
    exact ⟨z.toNat, by omega, by omega, h⟩
  · rw [jisf_out hz] at h; cases h
set_option maxHeartbeats 4000000 in
set_option maxRecDepth 100000 in
theorem c0_isFree (l : Launch) (D : va_G) (a : Nat → Nat) (k : Nat → ClassId) (w : Nat → Bool) (le dr ma op : Nat → Nat) (oc gl : Nat) (la : Int) (z : Int) (h : -2147483648 ≤ z ∧ z < 2147483648) : gMi l yX0_isFree cX0_isFree 2 .boolean ({ frames := 0, cells := 0, slots := 0, locals := 0 }) D (JT k) (JW a k) [.ref (a 0), .int (iI z)] (w, le, dr, ma, op, oc, gl, la) (fun r X => r = iI (bz (jisf w z)) ∧ X = (w, le, dr, ma, op, oc, gl, la)) := by
  refine gMi_of (by decide) (Nat.le_of_ble_eq_true rfl) ?_
  intro p e s m below meth c A ls F hr hlk hA G hl
  have F : CallFix p m c cX0_isFree 2 s ([.ref (a 0), .int (iI z)] : List Value).toArray lw_all RX0 := F
  have hl : lv_has ls 2 [(0, .ref (a 0)), (1, .int (iI z))] := hl
  refine j_iload_n F dX0_isFree_0 rfl (lv_at hl 1 rfl) ?_
  refine j_if_lt F 24 dX0_isFree_1 (by decide) (by omega) (fun c_1 => ?_) (fun c_1 => ?_)
  · skip
    refine j_iconst F dX0_isFree_24 ?_
    exact g_iret F hr hlk rfl G ⟨by rw [jisf_out (by omega)]; rfl, rfl⟩ dX0_isFree_25
  · skip
    refine j_iload_n F dX0_isFree_4 rfl (lv_at hl 1 rfl) ?_
    refine j_sipush F dX0_isFree_5 (by decide +kernel) ?_
    refine j_icmp_ge F 24 dX0_isFree_8 (by decide) (by omega) (fun c_8 => ?_) (fun c_8 => ?_)
    · skip
      refine j_iconst F dX0_isFree_24 ?_
      exact g_iret F hr hlk rfl G ⟨by rw [jisf_out (by omega)]; rfl, rfl⟩ dX0_isFree_25
    · skip
      refine j_aload_n F dX0_isFree_11 rfl (lv_at hl 0 rfl) ?_
      refine j0_walls F G dX0_isFree_12 ?_
      refine j_iload_n F dX0_isFree_15 rfl (lv_at hl 1 rfl) ?_
      refine j0_ldW F G (z.toNat) (by omega) (by omega) dX0_isFree_16 ?_
      have hb := bz_in (w z.toNat)
      refine j_if_ne F 24 dX0_isFree_17 (by decide) (by omega) (fun c_17 => ?_) (fun c_17 => ?_)
      · skip
        refine j_iconst F dX0_isFree_24 ?_
        exact g_iret F hr hlk rfl G ⟨by rw [jisf_in (by omega), bz_true c_17]; rfl, rfl⟩ dX0_isFree_25
      · skip
        refine j_iconst F dX0_isFree_20 ?_
        refine j_goto F 25 dX0_isFree_21 (by decide) ?_
        exact g_iret F hr hlk rfl G ⟨by rw [jisf_in (by omega), bz_false c_17]; rfl, rfl⟩ dX0_isFree_25

section K0isFree
variable {p : Program} {l : Launch} {e : Env} {R : Room} {s : State} {m : MethodId} {args : Array Value} {below : List Frame} {meth : Method} {c : Code} {H : Heap} {locs : List Loc} {Q : State → Prop}
variable {cc : ByteArray} {pc : Nat} {ls : Array Slot} {rest : List Value} {nL : Nat}
variable {D : va_G} {a : Nat → Nat} {k : Nat → ClassId} {A : Nat → Prop} {w : Nat → Bool} {le dr ma op : Nat → Nat} {oc gl : Nat} {la : Int}
set_option maxHeartbeats 4000000 in
set_option maxRecDepth 100000 in
theorem k0_isFree (F : CallFix p m c cc nL s args lw_all RX0) (hA : ∀ q, s.heap.size ≤ q → A q) (G : jG D a k A s (w, le, dr, ma, op, oc, gl, la) H locs) (z : Int) (h : -2147483648 ≤ z ∧ z < 2147483648) (hR : 0 + 1 ≤ R.frames ∧ 8 + (2 + 11) + 0 ≤ R.locals) (hsz : ls.size = nL) (hroom : (rest.map fun v => v.category).sum ≤ 8) (hdg : decode cc pc = .ok (.invokevirtual 27, 3)) (kk : ∀ (H1 : Heap) (locs1 : List Loc), jG D a k A s (w, le, dr, ma, op, oc, gl, la) H1 locs1 → W p l e R s m args below meth c H1 locs1 0 0 Q (F0 m (pc + 3) ls (.int (iI (bz (jisf w z))) :: rest))) : W p l e R s m args below meth c H locs 0 0 Q (F0 m pc ls (.int (iI z) :: .ref (a 0) :: rest)) :=
  g_calli (As := [.int (iI z)]) F hA (JW_same a k) G (c0_isFree l D a k w le dr ma op oc gl la z h) (cwV 1 F.2.2.2.2 (lw_V q71 q73 qs0 q17 q74) rfl rfl rfl (by decide +kernel) hR) (jrec G) hsz rfl hroom hdg (fun r x' H1 locs1 hp G1 => by obtain ⟨rfl, rfl⟩ := hp; exact kk H1 locs1 G1)
end K0isFree

set_option maxHeartbeats 4000000 in
set_option maxRecDepth 100000 in
theorem c0_isWall (l : Launch) (D : va_G) (a : Nat → Nat) (k : Nat → ClassId) (w : Nat → Bool) (le dr ma op : Nat → Nat) (oc gl : Nat) (la : Int) (z : Int) (h : -2147483648 ≤ z ∧ z < 2147483648) : gMi l yX0_isWall cX0_isWall 2 .boolean ({ frames := 0, cells := 0, slots := 0, locals := 0 }) D (JT k) (JW a k) [.ref (a 0), .int (iI z)] (w, le, dr, ma, op, oc, gl, la) (fun r X => r = iI (bz (jisw w z)) ∧ X = (w, le, dr, ma, op, oc, gl, la)) := by
  refine gMi_of (by decide) (Nat.le_of_ble_eq_true rfl) ?_
  intro p e s m below meth c A ls F hr hlk hA G hl
  have F : CallFix p m c cX0_isWall 2 s ([.ref (a 0), .int (iI z)] : List Value).toArray lw_all RX0 := F
  have hl : lv_has ls 2 [(0, .ref (a 0)), (1, .int (iI z))] := hl
  refine j_iload_n F dX0_isWall_0 rfl (lv_at hl 1 rfl) ?_
  refine j_if_lt F 24 dX0_isWall_1 (by decide) (by omega) (fun c_1 => ?_) (fun c_1 => ?_)
  · skip
    refine j_iconst F dX0_isWall_24 ?_
    exact g_iret F hr hlk rfl G ⟨by rw [jisw_out (by omega)]; rfl, rfl⟩ dX0_isWall_25
  · skip
    refine j_iload_n F dX0_isWall_4 rfl (lv_at hl 1 rfl) ?_
    refine j_sipush F dX0_isWall_5 (by decide +kernel) ?_
    refine j_icmp_ge F 24 dX0_isWall_8 (by decide) (by omega) (fun c_8 => ?_) (fun c_8 => ?_)
    · skip
      refine j_iconst F dX0_isWall_24 ?_
      exact g_iret F hr hlk rfl G ⟨by rw [jisw_out (by omega)]; rfl, rfl⟩ dX0_isWall_25
    · skip
      refine j_aload_n F dX0_isWall_11 rfl (lv_at hl 0 rfl) ?_
      refine j0_walls F G dX0_isWall_12 ?_
      refine j_iload_n F dX0_isWall_15 rfl (lv_at hl 1 rfl) ?_
      refine j0_ldW F G (z.toNat) (by omega) (by omega) dX0_isWall_16 ?_
      have hb := bz_in (w z.toNat)
      refine j_if_eq F 24 dX0_isWall_17 (by decide) (by omega) (fun c_17 => ?_) (fun c_17 => ?_)
      · skip
        refine j_iconst F dX0_isWall_24 ?_
        exact g_iret F hr hlk rfl G ⟨by rw [jisw_in (by omega), bz_false c_17]; rfl, rfl⟩ dX0_isWall_25
      · skip
        refine j_iconst F dX0_isWall_20 ?_
        refine j_goto F 25 dX0_isWall_21 (by decide) ?_
        exact g_iret F hr hlk rfl G ⟨by rw [jisw_in (by omega), bz_true c_17]; rfl, rfl⟩ dX0_isWall_25

set_option maxHeartbeats 4000000 in
set_option maxRecDepth 100000 in
theorem c0_wall (l : Launch) (D : va_G) (a : Nat → Nat) (k : Nat → ClassId) (w : Nat → Bool) (le dr ma op : Nat → Nat) (oc gl : Nat) (la : Int) (z : Int) (on : Bool) (h : -2147483648 ≤ z ∧ z < 2147483648) : gMi l yX0_wall cX0_wall 3 .boolean ({ frames := 0, cells := 0, slots := 0, locals := 0 }) D (JT k) (JW a k) [.ref (a 0), .int (iI z), .int (iI (bz on))] (w, le, dr, ma, op, oc, gl, la) (fun r X => r = iI (bz (jisc z)) ∧ X = (jwal w z on, le, dr, ma, op, oc, gl, la)) := by
  refine gMi_of (by decide) (Nat.le_of_ble_eq_true rfl) ?_
  intro p e s m below meth c A ls F hr hlk hA G hl
  have F : CallFix p m c cX0_wall 3 s ([.ref (a 0), .int (iI z), .int (iI (bz on))] : List Value).toArray lw_all RX0 := F
  have hl : lv_has ls 3 [(0, .ref (a 0)), (1, .int (iI z)), (2, .int (iI (bz on)))] := hl
  refine j_iload_n F dX0_wall_0 rfl (lv_at hl 1 rfl) ?_
  refine j_if_lt F 11 dX0_wall_1 (by decide) (by omega) (fun c_1 => ?_) (fun c_1 => ?_)
  · skip
    refine j_iconst F dX0_wall_11 ?_
    exact g_iret F hr hlk rfl G ⟨by unfold jisc; rw [decide_eq_false (by omega)]; rfl, by unfold jwal; rw [if_neg (by omega)]⟩ dX0_wall_12
  · skip
    refine j_iload_n F dX0_wall_4 rfl (lv_at hl 1 rfl) ?_
    refine j_sipush F dX0_wall_5 (by decide +kernel) ?_
    refine j_icmp_lt F 13 dX0_wall_8 (by decide) (by omega) (fun c_8 => ?_) (fun c_8 => ?_)
    · skip
      refine j_aload_n F dX0_wall_13 rfl (lv_at hl 0 rfl) ?_
      refine j0_walls F G dX0_wall_14 ?_
      refine j_iload_n F dX0_wall_17 rfl (lv_at hl 1 rfl) ?_
      refine j_iload_n F dX0_wall_18 rfl (lv_at hl 2 rfl) ?_
      refine j0_stW F G (z.toNat) (on) (by omega) (by omega) rfl dX0_wall_19 (fun H locs G => ?_)
      refine j_iconst F dX0_wall_20 ?_
      exact g_iret F hr hlk rfl G ⟨by unfold jisc; rw [decide_eq_true (by omega)]; rfl, by unfold jwal; rw [if_pos (by omega)]⟩ dX0_wall_21
    · skip
      refine j_iconst F dX0_wall_11 ?_
      exact g_iret F hr hlk rfl G ⟨by unfold jisc; rw [decide_eq_false (by omega)]; rfl, by unfold jwal; rw [if_neg (by omega)]⟩ dX0_wall_12
end
section
section JB
variable {p : Program} {l : Launch} {e : Env} {R : Room} {s : State} {m : MethodId} {args : Array Value} {below : List Frame} {meth : Method} {c : Code} {H : Heap} {locs : List Loc} {cells slots : Nat} {Q : State → Prop}
variable {cc : ByteArray} {pc : Nat} {ls : Array Slot} {rest : List Value} {nL : Nat} {own : String}
theorem j_ishl1 (F : CallFix p m c cc nL s args lw_all own) {z : Int} (n : Nat) (hz : z = (n : Int)) (hn : n < 9) (hdg : decode cc pc = .ok (.ishl, 1)) (k : W p l e R s m args below meth c H locs cells slots Q (F0 m (pc + 1) ls (.int (iI ((2 ^ n : Nat) : Int)) :: rest))) : W p l e R s m args below meth c H locs cells slots Q (F0 m pc ls (.int (iI z) :: .int (iI 1) :: rest)) := by
  subst hz
  exact lv_ishl F.1 F.2.1 hdg (by rw [jshl_iI n hn]; exact k)
theorem j_ior (F : CallFix p m c cc nL s args lw_all own) (x y : Nat) {zx zy : Int} (hx : zx = (x : Int)) (hy : zy = (y : Int)) (hdg : decode cc pc = .ok (.ior, 1)) (k : W p l e R s m args below meth c H locs cells slots Q (F0 m (pc + 1) ls (.int (iI ((x ||| y : Nat) : Int)) :: rest))) : W p l e R s m args below meth c H locs cells slots Q (F0 m pc ls (.int (iI zy) :: .int (iI zx) :: rest)) := by
  subst hx; subst hy
  exact lv_ior F.1 F.2.1 hdg (by rw [jor_iI]; exact k)
end JB
set_option maxHeartbeats 4000000 in
set_option maxRecDepth 100000 in
theorem c0_freeBeside (l : Launch) (D : va_G) (a : Nat → Nat) (k : Nat → ClassId) (w : Nat → Bool) (le dr ma op : Nat → Nat) (oc gl : Nat) (la : Int) (x y dx dy : Int) (h : 0 ≤ x ∧ x < 12 ∧ 0 ≤ y ∧ y < 12 ∧ -2 ≤ dx ∧ dx ≤ 2 ∧ -2 ≤ dy ∧ dy ≤ 2) : gMi l yX0_freeBeside cX0_freeBeside 6 .boolean ({ frames := 0, cells := 0, slots := 0, locals := 0 }) D (JT k) (JW a k) [.ref (a 0), .int (iI (12 * y + x)), .int (iI dx), .int (iI dy)] (w, le, dr, ma, op, oc, gl, la) (fun r X => r = iI (bz (jfre w (x + dx) (y + dy))) ∧ X = (w, le, dr, ma, op, oc, gl, la)) := by
  refine gMi_of (by decide) (Nat.le_of_ble_eq_true rfl) ?_
  intro p e s m below meth c A ls F hr hlk hA G hl
  have F : CallFix p m c cX0_freeBeside 6 s ([.ref (a 0), .int (iI (12 * y + x)), .int (iI dx), .int (iI dy)] : List Value).toArray lw_all RX0 := F
  have hl : lv_has ls 6 [(0, .ref (a 0)), (1, .int (iI (12 * y + x))), (2, .int (iI dx)), (3, .int (iI dy))] := hl
  refine j_iload_n F dX0_freeBeside_0 rfl (lv_at hl 1 rfl) ?_
  refine j_bipush F dX0_freeBeside_1 (by decide +kernel) ?_
  refine j_irem F (x) (by omega) (by omega) dX0_freeBeside_3 ?_
  refine j_iload_n F dX0_freeBeside_4 rfl (lv_at hl 2 rfl) ?_
  refine j_iadd F dX0_freeBeside_5 ?_
  refine j_istore F [(4, .int (iI (x + dx))), (0, .ref (a 0)), (1, .int (iI (12 * y + x))), (2, .int (iI (dx))), (3, .int (iI (dy)))] dX0_freeBeside_6 hl (by decide) rfl (fun ls hl => ?_)
  refine j_iload_n F dX0_freeBeside_8 rfl (lv_at hl 2 rfl) ?_
  refine j_bipush F dX0_freeBeside_9 (by decide +kernel) ?_
  refine j_idiv F (y) (by omega) (by omega) dX0_freeBeside_11 ?_
  refine j_iload_n F dX0_freeBeside_12 rfl (lv_at hl 4 rfl) ?_
  refine j_iadd F dX0_freeBeside_13 ?_
  refine j_istore F [(5, .int (iI (y + dy))), (4, .int (iI (x + dx))), (0, .ref (a 0)), (1, .int (iI (12 * y + x))), (2, .int (iI (dx))), (3, .int (iI (dy)))] dX0_freeBeside_14 hl (by decide) rfl (fun ls hl => ?_)
  refine j_iload F dX0_freeBeside_16 (lv_at hl 1 rfl) ?_
  refine j_if_lt F 60 dX0_freeBeside_18 (by decide) (by omega) (fun c_18 => ?_) (fun c_18 => ?_)
  · skip
    refine j_iconst F dX0_freeBeside_60 ?_
    exact g_iret F hr hlk rfl G ⟨by rw [jfre_out (by omega)]; rfl, rfl⟩ dX0_freeBeside_61
  · skip
    refine j_iload F dX0_freeBeside_21 (lv_at hl 1 rfl) ?_
    refine j_bipush F dX0_freeBeside_23 (by decide +kernel) ?_
    refine j_icmp_ge F 60 dX0_freeBeside_25 (by decide) (by omega) (fun c_25 => ?_) (fun c_25 => ?_)
    · skip
      refine j_iconst F dX0_freeBeside_60 ?_
      exact g_iret F hr hlk rfl G ⟨by rw [jfre_out (by omega)]; rfl, rfl⟩ dX0_freeBeside_61
    · skip
      refine j_iload F dX0_freeBeside_28 (lv_at hl 0 rfl) ?_
      refine j_if_lt F 60 dX0_freeBeside_30 (by decide) (by omega) (fun c_30 => ?_) (fun c_30 => ?_)
      · skip
        refine j_iconst F dX0_freeBeside_60 ?_
        exact g_iret F hr hlk rfl G ⟨by rw [jfre_out (by omega)]; rfl, rfl⟩ dX0_freeBeside_61
      · skip
        refine j_iload F dX0_freeBeside_33 (lv_at hl 0 rfl) ?_
        refine j_bipush F dX0_freeBeside_35 (by decide +kernel) ?_
        refine j_icmp_ge F 60 dX0_freeBeside_37 (by decide) (by omega) (fun c_37 => ?_) (fun c_37 => ?_)
        · skip
          refine j_iconst F dX0_freeBeside_60 ?_
          exact g_iret F hr hlk rfl G ⟨by rw [jfre_out (by omega)]; rfl, rfl⟩ dX0_freeBeside_61
        · skip
          refine j_aload_n F dX0_freeBeside_40 rfl (lv_at hl 2 rfl) ?_
          refine j0_walls F G dX0_freeBeside_41 ?_
          refine j_bipush F dX0_freeBeside_44 (by decide +kernel) ?_
          refine j_iload F dX0_freeBeside_46 (lv_at hl 0 rfl) ?_
          refine j_imul F dX0_freeBeside_48 ?_
          refine j_iload F dX0_freeBeside_49 (lv_at hl 1 rfl) ?_
          refine j_iadd F dX0_freeBeside_51 ?_
          refine j0_ldW F G ((12 * (y + dy) + (x + dx)).toNat) (by omega) (by omega) dX0_freeBeside_52 ?_
          have hb := bz_in (w (12 * (y + dy) + (x + dx)).toNat)
          refine j_if_ne F 60 dX0_freeBeside_53 (by decide) (by omega) (fun c_53 => ?_) (fun c_53 => ?_)
          · skip
            refine j_iconst F dX0_freeBeside_60 ?_
            exact g_iret F hr hlk rfl G ⟨by rw [jfre_in (by omega), bz_true c_53]; rfl, rfl⟩ dX0_freeBeside_61
          · skip
            refine j_iconst F dX0_freeBeside_56 ?_
            refine j_goto F 61 dX0_freeBeside_57 (by decide) ?_
            exact g_iret F hr hlk rfl G ⟨by rw [jfre_iff.mpr ⟨by omega, bz_false c_53⟩]; rfl, rfl⟩ dX0_freeBeside_61

section K0freeBeside
variable {p : Program} {l : Launch} {e : Env} {R : Room} {s : State} {m : MethodId} {args : Array Value} {below : List Frame} {meth : Method} {c : Code} {H : Heap} {locs : List Loc} {Q : State → Prop}
variable {cc : ByteArray} {pc : Nat} {ls : Array Slot} {rest : List Value} {nL : Nat}
variable {D : va_G} {a : Nat → Nat} {k : Nat → ClassId} {A : Nat → Prop} {w : Nat → Bool} {le dr ma op : Nat → Nat} {oc gl : Nat} {la : Int}
set_option maxHeartbeats 4000000 in
set_option maxRecDepth 100000 in
theorem k0_freeBeside (F : CallFix p m c cc nL s args lw_all RX0) (hA : ∀ q, s.heap.size ≤ q → A q) (G : jG D a k A s (w, le, dr, ma, op, oc, gl, la) H locs) (x y dx dy : Int) (h : 0 ≤ x ∧ x < 12 ∧ 0 ≤ y ∧ y < 12 ∧ -2 ≤ dx ∧ dx ≤ 2 ∧ -2 ≤ dy ∧ dy ≤ 2) (hR : 0 + 1 ≤ R.frames ∧ 8 + (6 + 11) + 0 ≤ R.locals) (hsz : ls.size = nL) (hroom : (rest.map fun v => v.category).sum ≤ 8) (hdg : decode cc pc = .ok (.invokevirtual 35, 3)) (kk : ∀ (H1 : Heap) (locs1 : List Loc), jG D a k A s (w, le, dr, ma, op, oc, gl, la) H1 locs1 → W p l e R s m args below meth c H1 locs1 0 0 Q (F0 m (pc + 3) ls (.int (iI (bz (jfre w (x + dx) (y + dy)))) :: rest))) : W p l e R s m args below meth c H locs 0 0 Q (F0 m pc ls (.int (iI dy) :: .int (iI dx) :: .int (iI (12 * y + x)) :: .ref (a 0) :: rest)) :=
  g_calli (As := [.int (iI (12 * y + x)), .int (iI dx), .int (iI dy)]) F hA (JW_same a k) G (c0_freeBeside l D a k w le dr ma op oc gl la x y dx dy h) (cwV 3 F.2.2.2.2 (lw_V q99 q101 qs7 q17 q102) rfl rfl rfl (by decide +kernel) hR) (jrec G) hsz rfl hroom hdg (fun r x' H1 locs1 hp G1 => by obtain ⟨rfl, rfl⟩ := hp; exact kk H1 locs1 G1)
end K0freeBeside

set_option maxHeartbeats 4000000 in
set_option maxRecDepth 100000 in
theorem c0_wallBeside (l : Launch) (D : va_G) (a : Nat → Nat) (k : Nat → ClassId) (w : Nat → Bool) (le dr ma op : Nat → Nat) (oc gl : Nat) (la : Int) (x y dx dy : Int) (h : 0 ≤ x ∧ x < 12 ∧ 0 ≤ y ∧ y < 12 ∧ -2 ≤ dx ∧ dx ≤ 2 ∧ -2 ≤ dy ∧ dy ≤ 2) : gMi l yX0_wallBeside cX0_wallBeside 4 .boolean ({ frames := 1, cells := 0, slots := 0, locals := 25 }) D (JT k) (JW a k) [.ref (a 0), .int (iI (12 * y + x)), .int (iI dx), .int (iI dy)] (w, le, dr, ma, op, oc, gl, la) (fun r X => r = iI (bz (!(jfre w (x + dx) (y + dy)))) ∧ X = (w, le, dr, ma, op, oc, gl, la)) := by
  refine gMi_of (by decide) (Nat.le_of_ble_eq_true rfl) ?_
  intro p e s m below meth c A ls F hr hlk hA G hl
  have F : CallFix p m c cX0_wallBeside 4 s ([.ref (a 0), .int (iI (12 * y + x)), .int (iI dx), .int (iI dy)] : List Value).toArray lw_all RX0 := F
  have hl : lv_has ls 4 [(0, .ref (a 0)), (1, .int (iI (12 * y + x))), (2, .int (iI dx)), (3, .int (iI dy))] := hl
  refine j_aload_n F dX0_wallBeside_0 rfl (lv_at hl 0 rfl) ?_
  refine j_iload_n F dX0_wallBeside_1 rfl (lv_at hl 1 rfl) ?_
  refine j_iload_n F dX0_wallBeside_2 rfl (lv_at hl 2 rfl) ?_
  refine j_iload_n F dX0_wallBeside_3 rfl (lv_at hl 3 rfl) ?_
  refine k0_freeBeside F hA G x y dx dy h (by decide) hl.1 (Nat.le_of_ble_eq_true rfl) dX0_wallBeside_4 (fun H locs G => ?_)
  have hb := bz_in (jfre w (x + dx) (y + dy))
  refine j_if_ne F 14 dX0_wallBeside_7 (by decide) (by omega) (fun c_7 => ?_) (fun c_7 => ?_)
  · skip
    refine j_iconst F dX0_wallBeside_14 ?_
    exact g_iret F hr hlk rfl G ⟨by rw [bz_true c_7]; rfl, rfl⟩ dX0_wallBeside_15
  · skip
    refine j_iconst F dX0_wallBeside_10 ?_
    refine j_goto F 15 dX0_wallBeside_11 (by decide) ?_
    exact g_iret F hr hlk rfl G ⟨by rw [bz_false c_7]; rfl, rfl⟩ dX0_wallBeside_15

section K0wallBeside
variable {p : Program} {l : Launch} {e : Env} {R : Room} {s : State} {m : MethodId} {args : Array Value} {below : List Frame} {meth : Method} {c : Code} {H : Heap} {locs : List Loc} {Q : State → Prop}
variable {cc : ByteArray} {pc : Nat} {ls : Array Slot} {rest : List Value} {nL : Nat}
variable {D : va_G} {a : Nat → Nat} {k : Nat → ClassId} {A : Nat → Prop} {w : Nat → Bool} {le dr ma op : Nat → Nat} {oc gl : Nat} {la : Int}
set_option maxHeartbeats 4000000 in
set_option maxRecDepth 100000 in
theorem k0_wallBeside (F : CallFix p m c cc nL s args lw_all RX0) (hA : ∀ q, s.heap.size ≤ q → A q) (G : jG D a k A s (w, le, dr, ma, op, oc, gl, la) H locs) (x y dx dy : Int) (h : 0 ≤ x ∧ x < 12 ∧ 0 ≤ y ∧ y < 12 ∧ -2 ≤ dx ∧ dx ≤ 2 ∧ -2 ≤ dy ∧ dy ≤ 2) (hR : 1 + 1 ≤ R.frames ∧ 8 + (4 + 11) + 25 ≤ R.locals) (hsz : ls.size = nL) (hroom : (rest.map fun v => v.category).sum ≤ 8) (hdg : decode cc pc = .ok (.invokevirtual 39, 3)) (kk : ∀ (H1 : Heap) (locs1 : List Loc), jG D a k A s (w, le, dr, ma, op, oc, gl, la) H1 locs1 → W p l e R s m args below meth c H1 locs1 0 0 Q (F0 m (pc + 3) ls (.int (iI (bz (!(jfre w (x + dx) (y + dy))))) :: rest))) : W p l e R s m args below meth c H locs 0 0 Q (F0 m pc ls (.int (iI dy) :: .int (iI dx) :: .int (iI (12 * y + x)) :: .ref (a 0) :: rest)) :=
  g_calli (As := [.int (iI (12 * y + x)), .int (iI dx), .int (iI dy)]) F hA (JW_same a k) G (c0_wallBeside l D a k w le dr ma op oc gl la x y dx dy h) (cwV 3 F.2.2.2.2 (lw_V q107 q109 qs9 q17 q110) rfl rfl rfl (by decide +kernel) hR) (jrec G) hsz rfl hroom hdg (fun r x' H1 locs1 hp G1 => by obtain ⟨rfl, rfl⟩ := hp; exact kk H1 locs1 G1)
end K0wallBeside

set_option maxHeartbeats 4000000 in
set_option maxRecDepth 100000 in
theorem c0_bitOf (l : Launch) (D : va_G) (a : Nat → Nat) (k : Nat → ClassId) (w : Nat → Bool) (le dr ma op : Nat → Nat) (oc gl : Nat) (la : Int) (dx dy : Int) (h : -1 ≤ dx ∧ dx ≤ 1 ∧ -1 ≤ dy ∧ dy ≤ 1) : gMi l yX0_bitOf cX0_bitOf 3 .int ({ frames := 0, cells := 0, slots := 0, locals := 0 }) D (JT k) (JW a k) [.ref (a 0), .int (iI dx), .int (iI dy)] (w, le, dr, ma, op, oc, gl, la) (fun r X => r = iI ((jbit dx dy : Nat) : Int) ∧ X = (w, le, dr, ma, op, oc, gl, la)) := by
  refine gMi_of (by decide) (Nat.le_of_ble_eq_true rfl) ?_
  intro p e s m below meth c A ls F hr hlk hA G hl
  have F : CallFix p m c cX0_bitOf 3 s ([.ref (a 0), .int (iI dx), .int (iI dy)] : List Value).toArray lw_all RX0 := F
  have hl : lv_has ls 3 [(0, .ref (a 0)), (1, .int (iI dx)), (2, .int (iI dy))] := hl
  refine j_iconst F dX0_bitOf_0 ?_
  refine j_iconst F dX0_bitOf_1 ?_
  refine j_iload_n F dX0_bitOf_2 rfl (lv_at hl 2 rfl) ?_
  refine j_iconst F dX0_bitOf_3 ?_
  refine j_iadd F dX0_bitOf_4 ?_
  refine j_imul F dX0_bitOf_5 ?_
  refine j_iload_n F dX0_bitOf_6 rfl (lv_at hl 1 rfl) ?_
  refine j_iadd F dX0_bitOf_7 ?_
  refine j_iconst F dX0_bitOf_8 ?_
  refine j_iadd F dX0_bitOf_9 ?_
  refine j_ishl1 F (jix dx dy) (by unfold jix; omega) (by unfold jix; omega) dX0_bitOf_10 ?_
  exact g_iret F hr hlk rfl G ⟨rfl, rfl⟩ dX0_bitOf_11

section K0bitOf
variable {p : Program} {l : Launch} {e : Env} {R : Room} {s : State} {m : MethodId} {args : Array Value} {below : List Frame} {meth : Method} {c : Code} {H : Heap} {locs : List Loc} {Q : State → Prop}
variable {cc : ByteArray} {pc : Nat} {ls : Array Slot} {rest : List Value} {nL : Nat}
variable {D : va_G} {a : Nat → Nat} {k : Nat → ClassId} {A : Nat → Prop} {w : Nat → Bool} {le dr ma op : Nat → Nat} {oc gl : Nat} {la : Int}
set_option maxHeartbeats 4000000 in
set_option maxRecDepth 100000 in
theorem k0_bitOf (F : CallFix p m c cc nL s args lw_all RX0) (hA : ∀ q, s.heap.size ≤ q → A q) (G : jG D a k A s (w, le, dr, ma, op, oc, gl, la) H locs) (dx dy : Int) (h : -1 ≤ dx ∧ dx ≤ 1 ∧ -1 ≤ dy ∧ dy ≤ 1) (hR : 0 + 1 ≤ R.frames ∧ 8 + (3 + 11) + 0 ≤ R.locals) (hsz : ls.size = nL) (hroom : (rest.map fun v => v.category).sum ≤ 8) (hdg : decode cc pc = .ok (.invokevirtual 42, 3)) (kk : ∀ (H1 : Heap) (locs1 : List Loc), jG D a k A s (w, le, dr, ma, op, oc, gl, la) H1 locs1 → W p l e R s m args below meth c H1 locs1 0 0 Q (F0 m (pc + 3) ls (.int (iI (((jbit dx dy : Nat) : Int))) :: rest))) : W p l e R s m args below meth c H locs 0 0 Q (F0 m pc ls (.int (iI dy) :: .int (iI dx) :: .ref (a 0) :: rest)) :=
  g_calli (As := [.int (iI dx), .int (iI dy)]) F hA (JW_same a k) G (c0_bitOf l D a k w le dr ma op oc gl la dx dy h) (cwV 2 F.2.2.2.2 (lw_V q111 q113 qs10 q17 q114) rfl rfl rfl (by decide +kernel) hR) (jrec G) hsz rfl hroom hdg (fun r x' H1 locs1 hp G1 => by obtain ⟨rfl, rfl⟩ := hp; exact kk H1 locs1 G1)
end K0bitOf

set_option maxHeartbeats 4000000 in
set_option maxRecDepth 100000 in
theorem c0_atLeast (l : Launch) (D : va_G) (a : Nat → Nat) (k : Nat → ClassId) (w : Nat → Bool) (le dr ma op : Nat → Nat) (oc gl : Nat) (la : Int) (f g : Nat) (h : f < 144 ∧ g < 144) : gMi l yX0_atLeast cX0_atLeast 5 .int ({ frames := 0, cells := 0, slots := 0, locals := 0 }) D (JT k) (JW a k) [.ref (a 0), .int (iI (f : Int)), .int (iI (g : Int))] (w, le, dr, ma, op, oc, gl, la) (fun r X => r = iI (jal (jcx f) (jcy f) (jcx g) (jcy g)) ∧ X = (w, le, dr, ma, op, oc, gl, la)) := by
  refine gMi_of (by decide) (Nat.le_of_ble_eq_true rfl) ?_
  intro p e s m below meth c A ls F hr hlk hA G hl
  have F : CallFix p m c cX0_atLeast 5 s ([.ref (a 0), .int (iI (f : Int)), .int (iI (g : Int))] : List Value).toArray lw_all RX0 := F
  have hl : lv_has ls 5 [(0, .ref (a 0)), (1, .int (iI (f : Int))), (2, .int (iI (g : Int)))] := hl
  have hf := jcx_in f h.1
  have hg := jcx_in g h.2
  refine j_iload_n F dX0_atLeast_0 rfl (lv_at hl 1 rfl) ?_
  refine j_bipush F dX0_atLeast_1 (by decide +kernel) ?_
  refine j_irem F (jcx f) (by omega) rfl dX0_atLeast_3 ?_
  refine j_iload_n F dX0_atLeast_4 rfl (lv_at hl 2 rfl) ?_
  refine j_bipush F dX0_atLeast_5 (by decide +kernel) ?_
  refine j_irem F (jcx g) (by omega) rfl dX0_atLeast_7 ?_
  refine j_isub F dX0_atLeast_8 ?_
  refine j_istore_n F [(3, .int (iI ((jcx f) - (jcx g)))), (0, .ref (a 0)), (1, .int (iI ((f : Int)))), (2, .int (iI ((g : Int))))] dX0_atLeast_9 rfl hl (by decide) rfl (fun ls hl => ?_)
  refine j_iload_n F dX0_atLeast_10 rfl (lv_at hl 2 rfl) ?_
  refine j_bipush F dX0_atLeast_11 (by decide +kernel) ?_
  refine j_idiv F (jcy f) (by omega) rfl dX0_atLeast_13 ?_
  refine j_iload_n F dX0_atLeast_14 rfl (lv_at hl 3 rfl) ?_
  refine j_bipush F dX0_atLeast_15 (by decide +kernel) ?_
  refine j_idiv F (jcy g) (by omega) rfl dX0_atLeast_17 ?_
  refine j_isub F dX0_atLeast_18 ?_
  refine j_istore F [(4, .int (iI ((jcy f) - (jcy g)))), (3, .int (iI ((jcx f) - (jcx g)))), (0, .ref (a 0)), (1, .int (iI ((f : Int)))), (2, .int (iI ((g : Int))))] dX0_atLeast_19 hl (by decide) rfl (fun ls hl => ?_)
  refine j_iload_n F dX0_atLeast_21 rfl (lv_at hl 1 rfl) ?_
  refine j_if_ge F 28 dX0_atLeast_22 (by decide) (by omega) (fun c_22 => ?_) (fun c_22 => ?_)
  · skip
    refine j_iload F dX0_atLeast_28 (lv_at hl 0 rfl) ?_
    refine j_if_ge F 38 dX0_atLeast_30 (by decide) (by omega) (fun c_30 => ?_) (fun c_30 => ?_)
    · skip
      refine j_iload_n F dX0_atLeast_38 rfl (lv_at hl 1 rfl) ?_
      refine j_iload F dX0_atLeast_39 (lv_at hl 0 rfl) ?_
      refine j_icmp_ge F 56 dX0_atLeast_41 (by decide) (by omega) (fun c_41 => ?_) (fun c_41 => ?_)
      · skip
        refine j_iconst F dX0_atLeast_56 ?_
        refine j_iload F dX0_atLeast_57 (lv_at hl 0 rfl) ?_
        refine j_imul F dX0_atLeast_59 ?_
        refine j_bipush F dX0_atLeast_60 (by decide +kernel) ?_
        refine j_iload_n F dX0_atLeast_62 rfl (lv_at hl 1 rfl) ?_
        refine j_imul F dX0_atLeast_63 ?_
        refine j_iadd F dX0_atLeast_64 ?_
        exact g_iret F hr hlk rfl G ⟨congrArg iI (by unfold jal jab; (repeat' split) <;> omega), rfl⟩ dX0_atLeast_65
      · skip
        refine j_iconst F dX0_atLeast_44 ?_
        refine j_iload_n F dX0_atLeast_45 rfl (lv_at hl 1 rfl) ?_
        refine j_imul F dX0_atLeast_46 ?_
        refine j_bipush F dX0_atLeast_47 (by decide +kernel) ?_
        refine j_iload F dX0_atLeast_49 (lv_at hl 0 rfl) ?_
        refine j_imul F dX0_atLeast_51 ?_
        refine j_iadd F dX0_atLeast_52 ?_
        refine j_goto F 65 dX0_atLeast_53 (by decide) ?_
        exact g_iret F hr hlk rfl G ⟨congrArg iI (by unfold jal jab; (repeat' split) <;> omega), rfl⟩ dX0_atLeast_65
    · skip
      refine j_iload F dX0_atLeast_33 (lv_at hl 0 rfl) ?_
      refine j_ineg F dX0_atLeast_35 ?_
      refine j_istore F [(4, .int (iI (-((jcy f) - (jcy g))))), (3, .int (iI ((jcx f) - (jcx g)))), (0, .ref (a 0)), (1, .int (iI ((f : Int)))), (2, .int (iI ((g : Int))))] dX0_atLeast_36 hl (by decide) rfl (fun ls hl => ?_)
      refine j_iload_n F dX0_atLeast_38 rfl (lv_at hl 1 rfl) ?_
      refine j_iload F dX0_atLeast_39 (lv_at hl 0 rfl) ?_
      refine j_icmp_ge F 56 dX0_atLeast_41 (by decide) (by omega) (fun c_41 => ?_) (fun c_41 => ?_)
      · skip
        refine j_iconst F dX0_atLeast_56 ?_
        refine j_iload F dX0_atLeast_57 (lv_at hl 0 rfl) ?_
        refine j_imul F dX0_atLeast_59 ?_
        refine j_bipush F dX0_atLeast_60 (by decide +kernel) ?_
        refine j_iload_n F dX0_atLeast_62 rfl (lv_at hl 1 rfl) ?_
        refine j_imul F dX0_atLeast_63 ?_
        refine j_iadd F dX0_atLeast_64 ?_
        exact g_iret F hr hlk rfl G ⟨congrArg iI (by unfold jal jab; (repeat' split) <;> omega), rfl⟩ dX0_atLeast_65
      · skip
        refine j_iconst F dX0_atLeast_44 ?_
        refine j_iload_n F dX0_atLeast_45 rfl (lv_at hl 1 rfl) ?_
        refine j_imul F dX0_atLeast_46 ?_
        refine j_bipush F dX0_atLeast_47 (by decide +kernel) ?_
        refine j_iload F dX0_atLeast_49 (lv_at hl 0 rfl) ?_
        refine j_imul F dX0_atLeast_51 ?_
        refine j_iadd F dX0_atLeast_52 ?_
        refine j_goto F 65 dX0_atLeast_53 (by decide) ?_
        exact g_iret F hr hlk rfl G ⟨congrArg iI (by unfold jal jab; (repeat' split) <;> omega), rfl⟩ dX0_atLeast_65
  · skip
    refine j_iload_n F dX0_atLeast_25 rfl (lv_at hl 1 rfl) ?_
    refine j_ineg F dX0_atLeast_26 ?_
    refine j_istore_n F [(3, .int (iI (-((jcx f) - (jcx g))))), (4, .int (iI ((jcy f) - (jcy g)))), (0, .ref (a 0)), (1, .int (iI ((f : Int)))), (2, .int (iI ((g : Int))))] dX0_atLeast_27 rfl hl (by decide) rfl (fun ls hl => ?_)
    refine j_iload F dX0_atLeast_28 (lv_at hl 1 rfl) ?_
    refine j_if_ge F 38 dX0_atLeast_30 (by decide) (by omega) (fun c_30 => ?_) (fun c_30 => ?_)
    · skip
      refine j_iload_n F dX0_atLeast_38 rfl (lv_at hl 0 rfl) ?_
      refine j_iload F dX0_atLeast_39 (lv_at hl 1 rfl) ?_
      refine j_icmp_ge F 56 dX0_atLeast_41 (by decide) (by omega) (fun c_41 => ?_) (fun c_41 => ?_)
      · skip
        refine j_iconst F dX0_atLeast_56 ?_
        refine j_iload F dX0_atLeast_57 (lv_at hl 1 rfl) ?_
        refine j_imul F dX0_atLeast_59 ?_
        refine j_bipush F dX0_atLeast_60 (by decide +kernel) ?_
        refine j_iload_n F dX0_atLeast_62 rfl (lv_at hl 0 rfl) ?_
        refine j_imul F dX0_atLeast_63 ?_
        refine j_iadd F dX0_atLeast_64 ?_
        exact g_iret F hr hlk rfl G ⟨congrArg iI (by unfold jal jab; (repeat' split) <;> omega), rfl⟩ dX0_atLeast_65
      · skip
        refine j_iconst F dX0_atLeast_44 ?_
        refine j_iload_n F dX0_atLeast_45 rfl (lv_at hl 0 rfl) ?_
        refine j_imul F dX0_atLeast_46 ?_
        refine j_bipush F dX0_atLeast_47 (by decide +kernel) ?_
        refine j_iload F dX0_atLeast_49 (lv_at hl 1 rfl) ?_
        refine j_imul F dX0_atLeast_51 ?_
        refine j_iadd F dX0_atLeast_52 ?_
        refine j_goto F 65 dX0_atLeast_53 (by decide) ?_
        exact g_iret F hr hlk rfl G ⟨congrArg iI (by unfold jal jab; (repeat' split) <;> omega), rfl⟩ dX0_atLeast_65
    · skip
      refine j_iload F dX0_atLeast_33 (lv_at hl 1 rfl) ?_
      refine j_ineg F dX0_atLeast_35 ?_
      refine j_istore F [(4, .int (iI (-((jcy f) - (jcy g))))), (3, .int (iI (-((jcx f) - (jcx g))))), (0, .ref (a 0)), (1, .int (iI ((f : Int)))), (2, .int (iI ((g : Int))))] dX0_atLeast_36 hl (by decide) rfl (fun ls hl => ?_)
      refine j_iload_n F dX0_atLeast_38 rfl (lv_at hl 1 rfl) ?_
      refine j_iload F dX0_atLeast_39 (lv_at hl 0 rfl) ?_
      refine j_icmp_ge F 56 dX0_atLeast_41 (by decide) (by omega) (fun c_41 => ?_) (fun c_41 => ?_)
      · skip
        refine j_iconst F dX0_atLeast_56 ?_
        refine j_iload F dX0_atLeast_57 (lv_at hl 0 rfl) ?_
        refine j_imul F dX0_atLeast_59 ?_
        refine j_bipush F dX0_atLeast_60 (by decide +kernel) ?_
        refine j_iload_n F dX0_atLeast_62 rfl (lv_at hl 1 rfl) ?_
        refine j_imul F dX0_atLeast_63 ?_
        refine j_iadd F dX0_atLeast_64 ?_
        exact g_iret F hr hlk rfl G ⟨congrArg iI (by unfold jal jab; (repeat' split) <;> omega), rfl⟩ dX0_atLeast_65
      · skip
        refine j_iconst F dX0_atLeast_44 ?_
        refine j_iload_n F dX0_atLeast_45 rfl (lv_at hl 1 rfl) ?_
        refine j_imul F dX0_atLeast_46 ?_
        refine j_bipush F dX0_atLeast_47 (by decide +kernel) ?_
        refine j_iload F dX0_atLeast_49 (lv_at hl 0 rfl) ?_
        refine j_imul F dX0_atLeast_51 ?_
        refine j_iadd F dX0_atLeast_52 ?_
        refine j_goto F 65 dX0_atLeast_53 (by decide) ?_
        exact g_iret F hr hlk rfl G ⟨congrArg iI (by unfold jal jab; (repeat' split) <;> omega), rfl⟩ dX0_atLeast_65

section K0atLeast
variable {p : Program} {l : Launch} {e : Env} {R : Room} {s : State} {m : MethodId} {args : Array Value} {below : List Frame} {meth : Method} {c : Code} {H : Heap} {locs : List Loc} {Q : State → Prop}
variable {cc : ByteArray} {pc : Nat} {ls : Array Slot} {rest : List Value} {nL : Nat}
variable {D : va_G} {a : Nat → Nat} {k : Nat → ClassId} {A : Nat → Prop} {w : Nat → Bool} {le dr ma op : Nat → Nat} {oc gl : Nat} {la : Int}
set_option maxHeartbeats 4000000 in
set_option maxRecDepth 100000 in
theorem k0_atLeast (F : CallFix p m c cc nL s args lw_all RX0) (hA : ∀ q, s.heap.size ≤ q → A q) (G : jG D a k A s (w, le, dr, ma, op, oc, gl, la) H locs) (f g : Nat) (h : f < 144 ∧ g < 144) (hR : 0 + 1 ≤ R.frames ∧ 8 + (5 + 11) + 0 ≤ R.locals) (hsz : ls.size = nL) (hroom : (rest.map fun v => v.category).sum ≤ 8) (hdg : decode cc pc = .ok (.invokevirtual 62, 3)) (kk : ∀ (H1 : Heap) (locs1 : List Loc), jG D a k A s (w, le, dr, ma, op, oc, gl, la) H1 locs1 → W p l e R s m args below meth c H1 locs1 0 0 Q (F0 m (pc + 3) ls (.int (iI (jal (jcx f) (jcy f) (jcx g) (jcy g))) :: rest))) : W p l e R s m args below meth c H locs 0 0 Q (F0 m pc ls (.int (iI (g : Int)) :: .int (iI (f : Int)) :: .ref (a 0) :: rest)) :=
  g_calli (As := [.int (iI (f : Int)), .int (iI (g : Int))]) F hA (JW_same a k) G (c0_atLeast l D a k w le dr ma op oc gl la f g h) (cwV 2 F.2.2.2.2 (lw_V q87 q89 qs4 q17 q90) rfl rfl rfl (by decide +kernel) hR) (jrec G) hsz rfl hroom hdg (fun r x' H1 locs1 hp G1 => by obtain ⟨rfl, rfl⟩ := hp; exact kk H1 locs1 G1)
end K0atLeast
end
section
theorem bzn_false {b : Bool} (h : bz (!b) = 0) : b = true := by
  cases b
  · exact absurd h (by decide)
  · rfl
theorem bzn_true {b : Bool} (h : ¬ bz (!b) = 0) : b = false := by
  cases b
  · rfl
  · exact absurd rfl h
theorem jfc1_n1 {w : Nat → Bool} {x y sx sy tx ty : Int} (h : jfre w (x + sx) (y + sy) = true) : jfc1 w x y sx sy tx ty = 0 := by
  unfold jfc1
  rw [if_neg (fun q => by rw [h] at q; cases q.1)]
theorem jfc1_n2 {w : Nat → Bool} {x y sx sy tx ty : Int} (h : jfre w (x + tx) (y + ty) = false) : jfc1 w x y sx sy tx ty = 0 := by
  unfold jfc1
  rw [if_neg (fun q => by rw [h] at q; cases q.2)]
theorem jfc1_y {w : Nat → Bool} {x y sx sy tx ty : Int} (h1 : jfre w (x + sx) (y + sy) = false) (h2 : jfre w (x + tx) (y + ty) = true) : jfc1 w x y sx sy tx ty = jbit tx ty := by
  unfold jfc1
  rw [if_pos ⟨h1, h2⟩]
theorem jsd_in {d s : Int} (hd : -1 ≤ d ∧ d ≤ 1) (hs : -1 ≤ s ∧ s ≤ 1) : (-1 ≤ jsd d s ∧ jsd d s ≤ 1) ∧ -1 ≤ d + jsd d s ∧ d + jsd d s ≤ 1 := by
  unfold jsd
  split <;> omega
set_option maxHeartbeats 4000000 in
set_option maxRecDepth 100000 in
theorem c0_forced (l : Launch) (D : va_G) (a : Nat → Nat) (k : Nat → ClassId) (w : Nat → Bool) (le dr ma op : Nat → Nat) (oc gl : Nat) (la : Int) (x y dx dy : Int) (h : 0 ≤ x ∧ x < 12 ∧ 0 ≤ y ∧ y < 12 ∧ -1 ≤ dx ∧ dx ≤ 1 ∧ -1 ≤ dy ∧ dy ≤ 1) : gMi l yX0_forced cX0_forced 8 .int ({ frames := 2, cells := 0, slots := 0, locals := 48 }) D (JT k) (JW a k) [.ref (a 0), .int (iI (12 * y + x)), .int (iI dx), .int (iI dy)] (w, le, dr, ma, op, oc, gl, la) (fun r X => r = iI ((jfcd w x y dx dy : Nat) : Int) ∧ X = (w, le, dr, ma, op, oc, gl, la)) := by
  refine gMi_of (by decide) (Nat.le_of_ble_eq_true rfl) ?_
  intro p e s m below meth c A ls F hr hlk hA G hl
  have F : CallFix p m c cX0_forced 8 s ([.ref (a 0), .int (iI (12 * y + x)), .int (iI dx), .int (iI dy)] : List Value).toArray lw_all RX0 := F
  have hl : lv_has ls 8 [(0, .ref (a 0)), (1, .int (iI (12 * y + x))), (2, .int (iI dx)), (3, .int (iI dy))] := hl
  have J79 : ∀ (v : Nat) (H : Heap) (locs : List Loc) (ls : Array Slot), v = jfcd w x y dx dy → jG D a k A s (w, le, dr, ma, op, oc, gl, la) H locs → lv_has ls 8 [(4, .int (iI (((v : Nat) : Int)))), (0, .ref (a 0)), (1, .int (iI (12 * y + x))), (2, .int (iI (dx))), (3, .int (iI (dy)))] → W p l e ({ frames := 2, cells := 0, slots := 0, locals := 48 }) s m ([.ref (a 0), .int (iI (12 * y + x)), .int (iI dx), .int (iI dy)] : List Value).toArray below meth c H locs 0 0 (gQi below (fun r X => r = iI ((jfcd w x y dx dy : Nat) : Int) ∧ X = (w, le, dr, ma, op, oc, gl, la)) D (JT k) (JW a k) A ([.ref (a 0), .int (iI (12 * y + x)), .int (iI dx), .int (iI dy)] : List Value).toArray s) (F0 m 79 ls []) := by
    intro v H locs ls hv G hl
    refine j_iload F dX0_forced_79 (lv_at hl 0 rfl) ?_
    exact g_iret F hr hlk rfl G ⟨by rw [hv], rfl⟩ dX0_forced_81
  have J45 : ∀ (v : Nat) (H : Heap) (locs : List Loc) (ls : Array Slot), (dx ≠ 0 ∧ dy ≠ 0) → v = jfc1 w x y (-dx) 0 (-dx) dy → jG D a k A s (w, le, dr, ma, op, oc, gl, la) H locs → lv_has ls 8 [(4, .int (iI (((v : Nat) : Int)))), (0, .ref (a 0)), (1, .int (iI (12 * y + x))), (2, .int (iI (dx))), (3, .int (iI (dy)))] → W p l e ({ frames := 2, cells := 0, slots := 0, locals := 48 }) s m ([.ref (a 0), .int (iI (12 * y + x)), .int (iI dx), .int (iI dy)] : List Value).toArray below meth c H locs 0 0 (gQi below (fun r X => r = iI ((jfcd w x y dx dy : Nat) : Int) ∧ X = (w, le, dr, ma, op, oc, gl, la)) D (JT k) (JW a k) A ([.ref (a 0), .int (iI (12 * y + x)), .int (iI dx), .int (iI dy)] : List Value).toArray s) (F0 m 45 ls []) := by
    intro v H locs ls hdi hv G hl
    refine j_aload_n F dX0_forced_45 rfl (lv_at hl 1 rfl) ?_
    refine j_iload_n F dX0_forced_46 rfl (lv_at hl 2 rfl) ?_
    refine j_iconst F dX0_forced_47 ?_
    refine j_iload_n F dX0_forced_48 rfl (lv_at hl 4 rfl) ?_
    refine j_ineg F dX0_forced_49 ?_
    refine k0_wallBeside F hA G x y (0) (-dy) (by omega) (by decide) hl.1 (Nat.le_of_ble_eq_true rfl) dX0_forced_50 (fun H locs G => ?_)
    have hb := bz_in (!(jfre w (x + (0)) (y + (-dy))))
    refine j_if_eq F 79 dX0_forced_53 (by decide) (by omega) (fun c_53 => ?_) (fun c_53 => ?_)
    · skip
      exact J79 (v) H locs ls (by rw [hv]; unfold jfcd; rw [if_pos hdi, jfc1_n1 (sx := 0) (sy := -dy) (bzn_false c_53), Nat.or_zero]) G (lv_sub hl [0, 1, 2, 3, 4] rfl)
    · skip
      refine j_aload_n F dX0_forced_56 rfl (lv_at hl 1 rfl) ?_
      refine j_iload_n F dX0_forced_57 rfl (lv_at hl 2 rfl) ?_
      refine j_iload_n F dX0_forced_58 rfl (lv_at hl 3 rfl) ?_
      refine j_iload_n F dX0_forced_59 rfl (lv_at hl 4 rfl) ?_
      refine j_ineg F dX0_forced_60 ?_
      refine k0_freeBeside F hA G x y (dx) (-dy) (by omega) (by decide) hl.1 (Nat.le_of_ble_eq_true rfl) dX0_forced_61 (fun H locs G => ?_)
      have hb := bz_in (jfre w (x + (dx)) (y + (-dy)))
      refine j_if_eq F 79 dX0_forced_64 (by decide) (by omega) (fun c_64 => ?_) (fun c_64 => ?_)
      · skip
        exact J79 (v) H locs ls (by rw [hv]; unfold jfcd; rw [if_pos hdi, jfc1_n2 (tx := dx) (ty := -dy) (bz_false c_64), Nat.or_zero]) G (lv_sub hl [0, 1, 2, 3, 4] rfl)
      · skip
        refine j_iload F dX0_forced_67 (lv_at hl 0 rfl) ?_
        refine j_aload_n F dX0_forced_69 rfl (lv_at hl 1 rfl) ?_
        refine j_iload_n F dX0_forced_70 rfl (lv_at hl 3 rfl) ?_
        refine j_iload_n F dX0_forced_71 rfl (lv_at hl 4 rfl) ?_
        refine j_ineg F dX0_forced_72 ?_
        refine k0_bitOf F hA G (dx) (-dy) (by omega) (by decide) hl.1 (Nat.le_of_ble_eq_true rfl) dX0_forced_73 (fun H locs G => ?_)
        refine j_ior F v (jbit dx (-dy)) rfl rfl dX0_forced_76 ?_
        refine j_istore F [(4, .int (iI (((v ||| jbit dx (-dy) : Nat) : Int)))), (0, .ref (a 0)), (1, .int (iI (12 * y + x))), (2, .int (iI (dx))), (3, .int (iI (dy)))] dX0_forced_77 hl (by decide) rfl (fun ls hl => ?_)
        exact J79 (v ||| jbit dx (-dy)) H locs ls (by rw [hv]; unfold jfcd; rw [if_pos hdi, jfc1_y (sx := 0) (sy := -dy) (tx := dx) (ty := -dy) (bzn_true c_53) (bz_true c_64)]) G (lv_sub hl [0, 1, 2, 3, 4] rfl)
  have IT : ∀ (sd : Int) (v : Nat) (H : Heap) (locs : List Loc) (ls : Array Slot), (sd = -1 ∨ sd = 1) → (∀ (H : Heap) (locs : List Loc) (ls : Array Slot), jG D a k A s (w, le, dr, ma, op, oc, gl, la) H locs → lv_has ls 8 [(5, .int (iI (sd + 2))), (4, .int (iI (((v ||| jfc1 w x y (jsd dx sd) (jsd dy sd) (dx + jsd dx sd) (dy + jsd dy sd) : Nat) : Int)))), (0, .ref (a 0)), (1, .int (iI (12 * y + x))), (2, .int (iI (dx))), (3, .int (iI (dy)))] → W p l e ({ frames := 2, cells := 0, slots := 0, locals := 48 }) s m ([.ref (a 0), .int (iI (12 * y + x)), .int (iI dx), .int (iI dy)] : List Value).toArray below meth c H locs 0 0 (gQi below (fun r X => r = iI ((jfcd w x y dx dy : Nat) : Int) ∧ X = (w, le, dr, ma, op, oc, gl, la)) D (JT k) (JW a k) A ([.ref (a 0), .int (iI (12 * y + x)), .int (iI dx), .int (iI dy)] : List Value).toArray s) (F0 m 85 ls [])) → jG D a k A s (w, le, dr, ma, op, oc, gl, la) H locs → lv_has ls 8 [(5, .int (iI (sd))), (4, .int (iI (((v : Nat) : Int)))), (0, .ref (a 0)), (1, .int (iI (12 * y + x))), (2, .int (iI (dx))), (3, .int (iI (dy)))] → W p l e ({ frames := 2, cells := 0, slots := 0, locals := 48 }) s m ([.ref (a 0), .int (iI (12 * y + x)), .int (iI dx), .int (iI dy)] : List Value).toArray below meth c H locs 0 0 (gQi below (fun r X => r = iI ((jfcd w x y dx dy : Nat) : Int) ∧ X = (w, le, dr, ma, op, oc, gl, la)) D (JT k) (JW a k) A ([.ref (a 0), .int (iI (12 * y + x)), .int (iI dx), .int (iI dy)] : List Value).toArray s) (F0 m 85 ls []) := by
    intro sd v H locs ls hsd cont G hl
    have hsx := jsd_in (d := dx) (s := sd) (by omega) (by omega)
    have hsy := jsd_in (d := dy) (s := sd) (by omega) (by omega)
    have J160 : ∀ (v' : Nat) (H : Heap) (locs : List Loc) (ls : Array Slot), v' = v ||| jfc1 w x y (jsd dx sd) (jsd dy sd) (dx + jsd dx sd) (dy + jsd dy sd) → jG D a k A s (w, le, dr, ma, op, oc, gl, la) H locs → lv_has ls 8 [(7, .int (iI (jsd dy sd))), (6, .int (iI (jsd dx sd))), (5, .int (iI (sd))), (4, .int (iI (((v' : Nat) : Int)))), (0, .ref (a 0)), (1, .int (iI (12 * y + x))), (2, .int (iI (dx))), (3, .int (iI (dy)))] → W p l e ({ frames := 2, cells := 0, slots := 0, locals := 48 }) s m ([.ref (a 0), .int (iI (12 * y + x)), .int (iI dx), .int (iI dy)] : List Value).toArray below meth c H locs 0 0 (gQi below (fun r X => r = iI ((jfcd w x y dx dy : Nat) : Int) ∧ X = (w, le, dr, ma, op, oc, gl, la)) D (JT k) (JW a k) A ([.ref (a 0), .int (iI (12 * y + x)), .int (iI dx), .int (iI dy)] : List Value).toArray s) (F0 m 160 ls []) := by
      intro v' H locs ls hv G hl
      refine j_iinc F (sd + 2) [(5, .int (iI (sd + 2))), (7, .int (iI (jsd dy sd))), (6, .int (iI (jsd dx sd))), (4, .int (iI (((v' : Nat) : Int)))), (0, .ref (a 0)), (1, .int (iI (12 * y + x))), (2, .int (iI (dx))), (3, .int (iI (dy)))] (k := 2) dX0_forced_160 hl rfl (by omega) (by decide) rfl (fun ls hl => ?_)
      refine j_goto F 85 dX0_forced_163 (by decide) ?_
      subst hv
      exact cont H locs ls G (lv_sub hl [0, 3, 4, 5, 6, 7] rfl)
    have J115 : ∀ (H : Heap) (locs : List Loc) (ls : Array Slot), jG D a k A s (w, le, dr, ma, op, oc, gl, la) H locs → lv_has ls 8 [(7, .int (iI (jsd dy sd))), (6, .int (iI (jsd dx sd))), (5, .int (iI (sd))), (4, .int (iI (((v : Nat) : Int)))), (0, .ref (a 0)), (1, .int (iI (12 * y + x))), (2, .int (iI (dx))), (3, .int (iI (dy)))] → W p l e ({ frames := 2, cells := 0, slots := 0, locals := 48 }) s m ([.ref (a 0), .int (iI (12 * y + x)), .int (iI dx), .int (iI dy)] : List Value).toArray below meth c H locs 0 0 (gQi below (fun r X => r = iI ((jfcd w x y dx dy : Nat) : Int) ∧ X = (w, le, dr, ma, op, oc, gl, la)) D (JT k) (JW a k) A ([.ref (a 0), .int (iI (12 * y + x)), .int (iI dx), .int (iI dy)] : List Value).toArray s) (F0 m 115 ls []) := by
      intro  H locs ls  G hl
      refine j_aload_n F dX0_forced_115 rfl (lv_at hl 4 rfl) ?_
      refine j_iload_n F dX0_forced_116 rfl (lv_at hl 5 rfl) ?_
      refine j_iload F dX0_forced_117 (lv_at hl 1 rfl) ?_
      refine j_iload F dX0_forced_119 (lv_at hl 0 rfl) ?_
      refine k0_wallBeside F hA G x y (jsd dx sd) (jsd dy sd) (by omega) (by decide) hl.1 (Nat.le_of_ble_eq_true rfl) dX0_forced_121 (fun H locs G => ?_)
      have hb := bz_in (!(jfre w (x + (jsd dx sd)) (y + (jsd dy sd))))
      refine j_if_eq F 160 dX0_forced_124 (by decide) (by omega) (fun c_124 => ?_) (fun c_124 => ?_)
      · skip
        exact J160 (v) H locs ls (by rw [jfc1_n1 (bzn_false c_124), Nat.or_zero]) G (lv_sub hl [0, 1, 2, 3, 4, 5, 6, 7] rfl)
      · skip
        refine j_aload_n F dX0_forced_127 rfl (lv_at hl 4 rfl) ?_
        refine j_iload_n F dX0_forced_128 rfl (lv_at hl 5 rfl) ?_
        refine j_iload_n F dX0_forced_129 rfl (lv_at hl 6 rfl) ?_
        refine j_iload F dX0_forced_130 (lv_at hl 1 rfl) ?_
        refine j_iadd F dX0_forced_132 ?_
        refine j_iload_n F dX0_forced_133 rfl (lv_at hl 7 rfl) ?_
        refine j_iload F dX0_forced_134 (lv_at hl 0 rfl) ?_
        refine j_iadd F dX0_forced_136 ?_
        refine k0_freeBeside F hA G x y (dx + jsd dx sd) (dy + jsd dy sd) (by omega) (by decide) hl.1 (Nat.le_of_ble_eq_true rfl) dX0_forced_137 (fun H locs G => ?_)
        have hb := bz_in (jfre w (x + (dx + jsd dx sd)) (y + (dy + jsd dy sd)))
        refine j_if_eq F 160 dX0_forced_140 (by decide) (by omega) (fun c_140 => ?_) (fun c_140 => ?_)
        · skip
          exact J160 (v) H locs ls (by rw [jfc1_n2 (bz_false c_140), Nat.or_zero]) G (lv_sub hl [0, 1, 2, 3, 4, 5, 6, 7] rfl)
        · skip
          refine j_iload F dX0_forced_143 (lv_at hl 3 rfl) ?_
          refine j_aload_n F dX0_forced_145 rfl (lv_at hl 4 rfl) ?_
          refine j_iload_n F dX0_forced_146 rfl (lv_at hl 6 rfl) ?_
          refine j_iload F dX0_forced_147 (lv_at hl 1 rfl) ?_
          refine j_iadd F dX0_forced_149 ?_
          refine j_iload_n F dX0_forced_150 rfl (lv_at hl 7 rfl) ?_
          refine j_iload F dX0_forced_151 (lv_at hl 0 rfl) ?_
          refine j_iadd F dX0_forced_153 ?_
          refine k0_bitOf F hA G (dx + jsd dx sd) (dy + jsd dy sd) (by omega) (by decide) hl.1 (Nat.le_of_ble_eq_true rfl) dX0_forced_154 (fun H locs G => ?_)
          refine j_ior F v (jbit (dx + jsd dx sd) (dy + jsd dy sd)) rfl rfl dX0_forced_157 ?_
          refine j_istore F [(4, .int (iI (((v ||| jbit (dx + jsd dx sd) (dy + jsd dy sd) : Nat) : Int)))), (7, .int (iI (jsd dy sd))), (6, .int (iI (jsd dx sd))), (5, .int (iI (sd))), (0, .ref (a 0)), (1, .int (iI (12 * y + x))), (2, .int (iI (dx))), (3, .int (iI (dy)))] dX0_forced_158 hl (by decide) rfl (fun ls hl => ?_)
          exact J160 (v ||| jbit (dx + jsd dx sd) (dy + jsd dy sd)) H locs ls (by rw [jfc1_y (bzn_true c_124) (bz_true c_140)]) G (lv_sub hl [1, 2, 3, 0, 4, 5, 6, 7] rfl)
    refine j_iload F dX0_forced_85 (lv_at hl 0 rfl) ?_
    refine j_iconst F dX0_forced_87 ?_
    refine j_icmp_gt F 166 dX0_forced_88 (by decide) (by omega) (fun c_88 => ?_) (fun c_88 => ?_)
    · skip
      exfalso; omega
    · skip
      refine j_iload_n F dX0_forced_91 rfl (lv_at hl 4 rfl) ?_
      refine j_if_ne F 100 dX0_forced_92 (by decide) (by omega) (fun c_92 => ?_) (fun c_92 => ?_)
      · skip
        refine j_iconst F dX0_forced_100 ?_
        refine j_eq (jsd dx sd) (if_neg c_92).symm ?_
        refine j_istore F [(6, .int (iI (jsd dx sd))), (5, .int (iI (sd))), (4, .int (iI (((v : Nat) : Int)))), (0, .ref (a 0)), (1, .int (iI (12 * y + x))), (2, .int (iI (dx))), (3, .int (iI (dy)))] dX0_forced_101 hl (by decide) rfl (fun ls hl => ?_)
        refine j_iload_n F dX0_forced_103 rfl (lv_at hl 6 rfl) ?_
        refine j_if_ne F 112 dX0_forced_104 (by decide) (by omega) (fun c_104 => ?_) (fun c_104 => ?_)
        · skip
          refine j_iconst F dX0_forced_112 ?_
          refine j_eq (jsd dy sd) (if_neg c_104).symm ?_
          refine j_istore F [(7, .int (iI (jsd dy sd))), (6, .int (iI (jsd dx sd))), (5, .int (iI (sd))), (4, .int (iI (((v : Nat) : Int)))), (0, .ref (a 0)), (1, .int (iI (12 * y + x))), (2, .int (iI (dx))), (3, .int (iI (dy)))] dX0_forced_113 hl (by decide) rfl (fun ls hl => ?_)
          exact J115 H locs ls G (lv_sub hl [0, 1, 2, 3, 4, 5, 6, 7] rfl)
        · skip
          refine j_iload F dX0_forced_107 (lv_at hl 1 rfl) ?_
          refine j_goto F 113 dX0_forced_109 (by decide) ?_
          refine j_eq (jsd dy sd) (if_pos c_104).symm ?_
          refine j_istore F [(7, .int (iI (jsd dy sd))), (6, .int (iI (jsd dx sd))), (5, .int (iI (sd))), (4, .int (iI (((v : Nat) : Int)))), (0, .ref (a 0)), (1, .int (iI (12 * y + x))), (2, .int (iI (dx))), (3, .int (iI (dy)))] dX0_forced_113 hl (by decide) rfl (fun ls hl => ?_)
          exact J115 H locs ls G (lv_sub hl [0, 1, 2, 3, 4, 5, 6, 7] rfl)
      · skip
        refine j_iload F dX0_forced_95 (lv_at hl 0 rfl) ?_
        refine j_goto F 101 dX0_forced_97 (by decide) ?_
        refine j_eq (jsd dx sd) (if_pos c_92).symm ?_
        refine j_istore F [(6, .int (iI (jsd dx sd))), (5, .int (iI (sd))), (4, .int (iI (((v : Nat) : Int)))), (0, .ref (a 0)), (1, .int (iI (12 * y + x))), (2, .int (iI (dx))), (3, .int (iI (dy)))] dX0_forced_101 hl (by decide) rfl (fun ls hl => ?_)
        refine j_iload_n F dX0_forced_103 rfl (lv_at hl 6 rfl) ?_
        refine j_if_ne F 112 dX0_forced_104 (by decide) (by omega) (fun c_104 => ?_) (fun c_104 => ?_)
        · skip
          refine j_iconst F dX0_forced_112 ?_
          refine j_eq (jsd dy sd) (if_neg c_104).symm ?_
          refine j_istore F [(7, .int (iI (jsd dy sd))), (6, .int (iI (jsd dx sd))), (5, .int (iI (sd))), (4, .int (iI (((v : Nat) : Int)))), (0, .ref (a 0)), (1, .int (iI (12 * y + x))), (2, .int (iI (dx))), (3, .int (iI (dy)))] dX0_forced_113 hl (by decide) rfl (fun ls hl => ?_)
          exact J115 H locs ls G (lv_sub hl [0, 1, 2, 3, 4, 5, 6, 7] rfl)
        · skip
          refine j_iload F dX0_forced_107 (lv_at hl 1 rfl) ?_
          refine j_goto F 113 dX0_forced_109 (by decide) ?_
          refine j_eq (jsd dy sd) (if_pos c_104).symm ?_
          refine j_istore F [(7, .int (iI (jsd dy sd))), (6, .int (iI (jsd dx sd))), (5, .int (iI (sd))), (4, .int (iI (((v : Nat) : Int)))), (0, .ref (a 0)), (1, .int (iI (12 * y + x))), (2, .int (iI (dx))), (3, .int (iI (dy)))] dX0_forced_113 hl (by decide) rfl (fun ls hl => ?_)
          exact J115 H locs ls G (lv_sub hl [0, 1, 2, 3, 4, 5, 6, 7] rfl)
  have J82 : ∀ (H : Heap) (locs : List Loc) (ls : Array Slot), ¬ (dx ≠ 0 ∧ dy ≠ 0) → jG D a k A s (w, le, dr, ma, op, oc, gl, la) H locs → lv_has ls 8 [(4, .int (iI (((0 : Nat) : Int)))), (0, .ref (a 0)), (1, .int (iI (12 * y + x))), (2, .int (iI (dx))), (3, .int (iI (dy)))] → W p l e ({ frames := 2, cells := 0, slots := 0, locals := 48 }) s m ([.ref (a 0), .int (iI (12 * y + x)), .int (iI dx), .int (iI dy)] : List Value).toArray below meth c H locs 0 0 (gQi below (fun r X => r = iI ((jfcd w x y dx dy : Nat) : Int) ∧ X = (w, le, dr, ma, op, oc, gl, la)) D (JT k) (JW a k) A ([.ref (a 0), .int (iI (12 * y + x)), .int (iI dx), .int (iI dy)] : List Value).toArray s) (F0 m 82 ls []) := by
    intro  H locs ls hdi G hl
    refine j_iconst F dX0_forced_82 ?_
    refine j_istore F [(5, .int (iI (-1))), (4, .int (iI (((0 : Nat) : Int)))), (0, .ref (a 0)), (1, .int (iI (12 * y + x))), (2, .int (iI (dx))), (3, .int (iI (dy)))] dX0_forced_83 hl (by decide) rfl (fun ls hl => ?_)
    refine IT (-1) 0 H locs ls (Or.inl rfl) (fun H locs ls G hl => ?_) G hl
    refine IT (-1 + 2) _ H locs ls (Or.inr (by decide)) (fun H locs ls G hl => ?_) G hl
    refine j_iload F dX0_forced_85 (lv_at hl 0 rfl) ?_
    refine j_iconst F dX0_forced_87 ?_
    refine j_icmp_gt F 166 dX0_forced_88 (by decide) (by decide) (fun c_88 => ?_) (fun c_88 => ?_)
    · skip
      refine j_iload F dX0_forced_166 (lv_at hl 1 rfl) ?_
      exact g_iret F hr hlk rfl G ⟨by unfold jfcd; rw [if_neg hdi, Nat.zero_or]; rfl, rfl⟩ dX0_forced_168
    · skip
      exact absurd (by decide) c_88
  refine j_iconst F dX0_forced_0 ?_
  refine j_eq (((0 : Nat) : Int)) rfl ?_
  refine j_istore F [(4, .int (iI (((0 : Nat) : Int)))), (0, .ref (a 0)), (1, .int (iI (12 * y + x))), (2, .int (iI (dx))), (3, .int (iI (dy)))] dX0_forced_1 hl (by decide) rfl (fun ls hl => ?_)
  refine j_iload_n F dX0_forced_3 rfl (lv_at hl 3 rfl) ?_
  refine j_if_eq F 82 dX0_forced_4 (by decide) (by omega) (fun c_4 => ?_) (fun c_4 => ?_)
  · skip
    exact J82 _ _ ls (by omega) G hl
  · skip
    refine j_iload_n F dX0_forced_7 rfl (lv_at hl 4 rfl) ?_
    refine j_if_eq F 82 dX0_forced_8 (by decide) (by omega) (fun c_8 => ?_) (fun c_8 => ?_)
    · skip
      exact J82 _ _ ls (by omega) G hl
    · skip
      refine j_aload_n F dX0_forced_11 rfl (lv_at hl 1 rfl) ?_
      refine j_iload_n F dX0_forced_12 rfl (lv_at hl 2 rfl) ?_
      refine j_iload_n F dX0_forced_13 rfl (lv_at hl 3 rfl) ?_
      refine j_ineg F dX0_forced_14 ?_
      refine j_iconst F dX0_forced_15 ?_
      refine k0_wallBeside F hA G x y (-dx) (0) (by omega) (by decide) hl.1 (Nat.le_of_ble_eq_true rfl) dX0_forced_16 (fun H locs G => ?_)
      have hb := bz_in (!(jfre w (x + (-dx)) (y + (0))))
      refine j_if_eq F 45 dX0_forced_19 (by decide) (by omega) (fun c_19 => ?_) (fun c_19 => ?_)
      · skip
        exact J45 (0) H locs ls ⟨c_4, c_8⟩ (by rw [jfc1_n1 (bzn_false c_19)]) G (lv_sub hl [0, 1, 2, 3, 4] rfl)
      · skip
        refine j_aload_n F dX0_forced_22 rfl (lv_at hl 1 rfl) ?_
        refine j_iload_n F dX0_forced_23 rfl (lv_at hl 2 rfl) ?_
        refine j_iload_n F dX0_forced_24 rfl (lv_at hl 3 rfl) ?_
        refine j_ineg F dX0_forced_25 ?_
        refine j_iload_n F dX0_forced_26 rfl (lv_at hl 4 rfl) ?_
        refine k0_freeBeside F hA G x y (-dx) (dy) (by omega) (by decide) hl.1 (Nat.le_of_ble_eq_true rfl) dX0_forced_27 (fun H locs G => ?_)
        have hb := bz_in (jfre w (x + (-dx)) (y + (dy)))
        refine j_if_eq F 45 dX0_forced_30 (by decide) (by omega) (fun c_30 => ?_) (fun c_30 => ?_)
        · skip
          exact J45 (0) H locs ls ⟨c_4, c_8⟩ (by rw [jfc1_n2 (bz_false c_30)]) G (lv_sub hl [0, 1, 2, 3, 4] rfl)
        · skip
          refine j_iload F dX0_forced_33 (lv_at hl 0 rfl) ?_
          refine j_aload_n F dX0_forced_35 rfl (lv_at hl 1 rfl) ?_
          refine j_iload_n F dX0_forced_36 rfl (lv_at hl 3 rfl) ?_
          refine j_ineg F dX0_forced_37 ?_
          refine j_iload_n F dX0_forced_38 rfl (lv_at hl 4 rfl) ?_
          refine k0_bitOf F hA G (-dx) (dy) (by omega) (by decide) hl.1 (Nat.le_of_ble_eq_true rfl) dX0_forced_39 (fun H locs G => ?_)
          refine j_ior F 0 (jbit (-dx) dy) rfl rfl dX0_forced_42 ?_
          refine j_istore F [(4, .int (iI (((0 ||| jbit (-dx) dy : Nat) : Int)))), (0, .ref (a 0)), (1, .int (iI (12 * y + x))), (2, .int (iI (dx))), (3, .int (iI (dy)))] dX0_forced_43 hl (by decide) rfl (fun ls hl => ?_)
          exact J45 (0 ||| jbit (-dx) dy) H locs ls ⟨c_4, c_8⟩ (by rw [jfc1_y (bzn_true c_19) (bz_true c_30), Nat.zero_or]) G (lv_sub hl [0, 1, 2, 3, 4] rfl)

section K0forced
variable {p : Program} {l : Launch} {e : Env} {R : Room} {s : State} {m : MethodId} {args : Array Value} {below : List Frame} {meth : Method} {c : Code} {H : Heap} {locs : List Loc} {Q : State → Prop}
variable {cc : ByteArray} {pc : Nat} {ls : Array Slot} {rest : List Value} {nL : Nat}
variable {D : va_G} {a : Nat → Nat} {k : Nat → ClassId} {A : Nat → Prop} {w : Nat → Bool} {le dr ma op : Nat → Nat} {oc gl : Nat} {la : Int}
set_option maxHeartbeats 4000000 in
set_option maxRecDepth 100000 in
theorem k0_forced (F : CallFix p m c cc nL s args lw_all RX0) (hA : ∀ q, s.heap.size ≤ q → A q) (G : jG D a k A s (w, le, dr, ma, op, oc, gl, la) H locs) (x y dx dy : Int) (h : 0 ≤ x ∧ x < 12 ∧ 0 ≤ y ∧ y < 12 ∧ -1 ≤ dx ∧ dx ≤ 1 ∧ -1 ≤ dy ∧ dy ≤ 1) (hR : 2 + 1 ≤ R.frames ∧ 8 + (8 + 11) + 48 ≤ R.locals) (hsz : ls.size = nL) (hroom : (rest.map fun v => v.category).sum ≤ 8) (hdg : decode cc pc = .ok (.invokevirtual 52, 3)) (kk : ∀ (H1 : Heap) (locs1 : List Loc), jG D a k A s (w, le, dr, ma, op, oc, gl, la) H1 locs1 → W p l e R s m args below meth c H1 locs1 0 0 Q (F0 m (pc + 3) ls (.int (iI (((jfcd w x y dx dy : Nat) : Int))) :: rest))) : W p l e R s m args below meth c H locs 0 0 Q (F0 m pc ls (.int (iI dy) :: .int (iI dx) :: .int (iI (12 * y + x)) :: .ref (a 0) :: rest)) :=
  g_calli (As := [.int (iI (12 * y + x)), .int (iI dx), .int (iI dy)]) F hA (JW_same a k) G (c0_forced l D a k w le dr ma op oc gl la x y dx dy h) (cwV 3 F.2.2.2.2 (lw_V q103 q105 qs8 q17 q106) rfl rfl rfl (by decide +kernel) hR) (jrec G) hsz rfl hroom hdg (fun r x' H1 locs1 hp G1 => by obtain ⟨rfl, rfl⟩ := hp; exact kk H1 locs1 G1)
end K0forced
end
section
set_option maxHeartbeats 4000000 in
set_option maxRecDepth 100000 in
theorem c0_jumpStraight (l : Launch) (D : va_G) (a : Nat → Nat) (k : Nat → ClassId) (w : Nat → Bool) (le dr ma op : Nat → Nat) (oc gl : Nat) (la : Int) (x y dx dy : Int) (h : 0 ≤ x ∧ x < 12 ∧ 0 ≤ y ∧ y < 12 ∧ okd dx dy ∧ gl < 144) : gMi l yX0_jumpStraight cX0_jumpStraight 6 .int ({ frames := 3, cells := 0, slots := 0, locals := 75 }) D (JT k) (JW a k) [.ref (a 0), .int (iI (12 * y + x)), .int (iI dx), .int (iI dy)] (w, le, dr, ma, op, oc, gl, la) (fun r X => r = iI (jstp (jst w (gl : Int) dx dy 12 0 x y)) ∧ X = (w, le, dr, ma, op, oc, gl, jlnd (jst w (gl : Int) dx dy 12 0 x y))) := by
  refine gMi_of (by decide) (Nat.le_of_ble_eq_true rfl) ?_
  intro p e s m below meth c A ls F hr hlk hA G hl
  have F : CallFix p m c cX0_jumpStraight 6 s ([.ref (a 0), .int (iI (12 * y + x)), .int (iI dx), .int (iI dy)] : List Value).toArray lw_all RX0 := F
  have hl : lv_has ls 6 [(0, .ref (a 0)), (1, .int (iI (12 * y + x))), (2, .int (iI dx)), (3, .int (iI dy))] := hl
  obtain ⟨h1, h2, h3, h4, hok, hgl⟩ := h
  have hokd := hok
  unfold okd at hokd
  have LP : ∀ (n : Nat) (kk : Nat) (xx : Int) (yy : Int) (H : Heap) (locs : List Loc) (ls : Array Slot), (0 ≤ xx ∧ xx < 12 ∧ 0 ≤ yy ∧ yy < 12) → jlft dx dy xx yy < (n : Int) → jst w (gl : Int) dx dy n kk xx yy = jst w (gl : Int) dx dy 12 0 x y → jG D a k A s (w, le, dr, ma, op, oc, gl, -1) H locs → lv_has ls 6 [(5, .int (iI (((kk : Nat) : Int)))), (4, .int (iI (12 * yy + xx))), (0, .ref (a 0)), (1, .int (iI (12 * y + x))), (2, .int (iI (dx))), (3, .int (iI (dy)))] → W p l e ({ frames := 3, cells := 0, slots := 0, locals := 75 }) s m ([.ref (a 0), .int (iI (12 * y + x)), .int (iI dx), .int (iI dy)] : List Value).toArray below meth c H locs 0 0 (gQi below (fun r X => r = iI (jstp (jst w (gl : Int) dx dy 12 0 x y)) ∧ X = (w, le, dr, ma, op, oc, gl, jlnd (jst w (gl : Int) dx dy 12 0 x y))) D (JT k) (JW a k) A ([.ref (a 0), .int (iI (12 * y + x)), .int (iI dx), .int (iI dy)] : List Value).toArray s) (F0 m 11 ls []) := by
    intro n
    induction n with
    | zero =>
      intro kk xx yy H locs ls hg hlf
      have := (jlft_in (dx := dx) (dy := dy) hg).1
      omega
    | succ n ih =>
      intro kk xx yy H locs ls hg hlf hj G hl
      refine j_aload_n F dX0_jumpStraight_11 rfl (lv_at hl 2 rfl) ?_
      refine j_iload F dX0_jumpStraight_12 (lv_at hl 1 rfl) ?_
      refine j_iload_n F dX0_jumpStraight_14 rfl (lv_at hl 4 rfl) ?_
      refine j_iload_n F dX0_jumpStraight_15 rfl (lv_at hl 5 rfl) ?_
      refine k0_freeBeside F hA G xx yy dx dy (by omega) (by decide) hl.1 (Nat.le_of_ble_eq_true rfl) dX0_jumpStraight_16 (fun H locs G => ?_)
      have hb := bz_in (jfre w (xx + dx) (yy + dy))
      refine j_if_eq F 65 dX0_jumpStraight_19 (by decide) (by omega) (fun c_19 => ?_) (fun c_19 => ?_)
      · skip
        have hq : jst w (gl : Int) dx dy 12 0 x y = none := by
          rw [← hj]; unfold jst; rw [if_neg (by rw [bz_false c_19]; decide)]
        refine j_iconst F dX0_jumpStraight_65 ?_
        exact g_iret F hr hlk rfl G ⟨by rw [hq]; rfl, by rw [hq]; rfl⟩ dX0_jumpStraight_66
      · skip
        have hf := bz_true c_19
        have hg := (jfre_iff.mp hf).1
        refine j_iload F dX0_jumpStraight_22 (lv_at hl 1 rfl) ?_
        refine j_bipush F dX0_jumpStraight_24 (by decide +kernel) ?_
        refine j_iload_n F dX0_jumpStraight_26 rfl (lv_at hl 5 rfl) ?_
        refine j_imul F dX0_jumpStraight_27 ?_
        refine j_iload_n F dX0_jumpStraight_28 rfl (lv_at hl 4 rfl) ?_
        refine j_iadd F dX0_jumpStraight_29 ?_
        refine j_iadd F dX0_jumpStraight_30 ?_
        refine j_eq (12 * (yy + dy) + (xx + dx)) (by omega) ?_
        refine j_istore F [(4, .int (iI (12 * (yy + dy) + (xx + dx)))), (5, .int (iI (((kk : Nat) : Int)))), (0, .ref (a 0)), (1, .int (iI (12 * y + x))), (2, .int (iI (dx))), (3, .int (iI (dy)))] dX0_jumpStraight_31 hl (by decide) rfl (fun ls hl => ?_)
        refine j_iinc F (((kk + 1 : Nat) : Int)) [(5, .int (iI (((kk + 1 : Nat) : Int)))), (4, .int (iI (12 * (yy + dy) + (xx + dx)))), (0, .ref (a 0)), (1, .int (iI (12 * y + x))), (2, .int (iI (dx))), (3, .int (iI (dy)))] (k := 1) dX0_jumpStraight_33 hl rfl (by omega) (by decide) rfl (fun ls hl => ?_)
        refine j_iload F dX0_jumpStraight_36 (lv_at hl 1 rfl) ?_
        refine j_aload_n F dX0_jumpStraight_38 rfl (lv_at hl 2 rfl) ?_
        refine j0_goal F G dX0_jumpStraight_39 ?_
        refine j_icmp_eq F 56 dX0_jumpStraight_42 (by decide) (by omega) (fun c_42 => ?_) (fun c_42 => ?_)
        · skip
          refine j_aload_n F dX0_jumpStraight_56 rfl (lv_at hl 2 rfl) ?_
          refine j_iload F dX0_jumpStraight_57 (lv_at hl 1 rfl) ?_
          refine j0_planded F G dX0_jumpStraight_59 (fun H locs G => ?_)
          refine j_iload F dX0_jumpStraight_62 (lv_at hl 0 rfl) ?_
          have hq : jst w (gl : Int) dx dy 12 0 x y = some (kk + 1, xx + dx, yy + dy) := by
            rw [← hj]; unfold jst; rw [if_pos hf, if_pos (Or.inl c_42)]
          exact g_iret F hr hlk rfl G ⟨by rw [hq]; rfl, by rw [hq]; rfl⟩ dX0_jumpStraight_64
        · skip
          refine j_aload_n F dX0_jumpStraight_45 rfl (lv_at hl 2 rfl) ?_
          refine j_iload F dX0_jumpStraight_46 (lv_at hl 1 rfl) ?_
          refine j_iload_n F dX0_jumpStraight_48 rfl (lv_at hl 4 rfl) ?_
          refine j_iload_n F dX0_jumpStraight_49 rfl (lv_at hl 5 rfl) ?_
          refine k0_forced F hA G (xx + dx) (yy + dy) dx dy (by omega) (by decide) hl.1 (Nat.le_of_ble_eq_true rfl) dX0_jumpStraight_50 (fun H locs G => ?_)
          have hfl := jfcd_lt (w := w) (x := xx + dx) (y := yy + dy) (dx := dx) (dy := dy) hok
          refine j_if_eq F 11 dX0_jumpStraight_53 (by decide) (by omega) (fun c_53 => ?_) (fun c_53 => ?_)
          · skip
            exact ih (kk + 1) (xx + dx) (yy + dy) H locs ls hg (by rw [jlft_step hok]; omega) (by rw [← hj]; conv => rhs; unfold jst; rw [if_pos hf, if_neg (by omega)]) G (lv_sub hl [0, 1, 2, 3, 4, 5] rfl)
          · skip
            refine j_aload_n F dX0_jumpStraight_56 rfl (lv_at hl 2 rfl) ?_
            refine j_iload F dX0_jumpStraight_57 (lv_at hl 1 rfl) ?_
            refine j0_planded F G dX0_jumpStraight_59 (fun H locs G => ?_)
            refine j_iload F dX0_jumpStraight_62 (lv_at hl 0 rfl) ?_
            have hq : jst w (gl : Int) dx dy 12 0 x y = some (kk + 1, xx + dx, yy + dy) := by
              rw [← hj]; unfold jst; rw [if_pos hf, if_pos (Or.inr (by omega))]
            exact g_iret F hr hlk rfl G ⟨by rw [hq]; rfl, by rw [hq]; rfl⟩ dX0_jumpStraight_64
  refine j_iload_n F dX0_jumpStraight_0 rfl (lv_at hl 1 rfl) ?_
  refine j_istore F [(4, .int (iI (12 * y + x))), (0, .ref (a 0)), (1, .int (iI (12 * y + x))), (2, .int (iI (dx))), (3, .int (iI (dy)))] dX0_jumpStraight_1 hl (by decide) rfl (fun ls hl => ?_)
  refine j_iconst F dX0_jumpStraight_3 ?_
  refine j_eq (((0 : Nat) : Int)) rfl ?_
  refine j_istore F [(5, .int (iI (((0 : Nat) : Int)))), (4, .int (iI (12 * y + x))), (0, .ref (a 0)), (1, .int (iI (12 * y + x))), (2, .int (iI (dx))), (3, .int (iI (dy)))] dX0_jumpStraight_4 hl (by decide) rfl (fun ls hl => ?_)
  refine j_aload_n F dX0_jumpStraight_6 rfl (lv_at hl 2 rfl) ?_
  refine j_iconst F dX0_jumpStraight_7 ?_
  refine j0_planded F G dX0_jumpStraight_8 (fun H locs G => ?_)
  refine LP 12 0 x y H locs ls (by omega) ?_ rfl G (lv_sub hl [0, 1, 2, 3, 4, 5] rfl)
  have := (jlft_in (dx := dx) (dy := dy) (x := x) (y := y) (by omega)).2
  omega

section K0jumpStraight
variable {p : Program} {l : Launch} {e : Env} {R : Room} {s : State} {m : MethodId} {args : Array Value} {below : List Frame} {meth : Method} {c : Code} {H : Heap} {locs : List Loc} {Q : State → Prop}
variable {cc : ByteArray} {pc : Nat} {ls : Array Slot} {rest : List Value} {nL : Nat}
variable {D : va_G} {a : Nat → Nat} {k : Nat → ClassId} {A : Nat → Prop} {w : Nat → Bool} {le dr ma op : Nat → Nat} {oc gl : Nat} {la : Int}
set_option maxHeartbeats 4000000 in
set_option maxRecDepth 100000 in
theorem k0_jumpStraight (F : CallFix p m c cc nL s args lw_all RX0) (hA : ∀ q, s.heap.size ≤ q → A q) (G : jG D a k A s (w, le, dr, ma, op, oc, gl, la) H locs) (x y dx dy : Int) (h : 0 ≤ x ∧ x < 12 ∧ 0 ≤ y ∧ y < 12 ∧ okd dx dy ∧ gl < 144) (hR : 3 + 1 ≤ R.frames ∧ 8 + (6 + 11) + 75 ≤ R.locals) (hsz : ls.size = nL) (hroom : (rest.map fun v => v.category).sum ≤ 8) (hdg : decode cc pc = .ok (.invokevirtual 56, 3)) (kk : ∀ (H1 : Heap) (locs1 : List Loc), jG D a k A s (w, le, dr, ma, op, oc, gl, jlnd (jst w (gl : Int) dx dy 12 0 x y)) H1 locs1 → W p l e R s m args below meth c H1 locs1 0 0 Q (F0 m (pc + 3) ls (.int (iI (jstp (jst w (gl : Int) dx dy 12 0 x y))) :: rest))) : W p l e R s m args below meth c H locs 0 0 Q (F0 m pc ls (.int (iI dy) :: .int (iI dx) :: .int (iI (12 * y + x)) :: .ref (a 0) :: rest)) :=
  g_calli (As := [.int (iI (12 * y + x)), .int (iI dx), .int (iI dy)]) F hA (JW_same a k) G (c0_jumpStraight l D a k w le dr ma op oc gl la x y dx dy h) (cwV 3 F.2.2.2.2 (lw_V q115 q117 qs11 q17 q118) rfl rfl rfl (by decide +kernel) hR) (jrec G) hsz rfl hroom hdg (fun r x' H1 locs1 hp G1 => by obtain ⟨rfl, rfl⟩ := hp; exact kk H1 locs1 G1)
end K0jumpStraight

set_option maxHeartbeats 4000000 in
set_option maxRecDepth 100000 in
theorem c0_jumpDiagonal (l : Launch) (D : va_G) (a : Nat → Nat) (k : Nat → ClassId) (w : Nat → Bool) (le dr ma op : Nat → Nat) (oc gl : Nat) (la : Int) (x y dx dy : Int) (h : 0 ≤ x ∧ x < 12 ∧ 0 ≤ y ∧ y < 12 ∧ okd dx dy ∧ gl < 144 ∧ dx ≠ 0 ∧ dy ≠ 0) : gMi l yX0_jumpDiagonal cX0_jumpDiagonal 7 .int ({ frames := 4, cells := 0, slots := 0, locals := 100 }) D (JT k) (JW a k) [.ref (a 0), .int (iI (12 * y + x)), .int (iI dx), .int (iI dy)] (w, le, dr, ma, op, oc, gl, la) (fun r X => r = iI (jstp (jdg w (gl : Int) dx dy 12 0 x y)) ∧ X = (w, le, dr, ma, op, oc, gl, jlnd (jdg w (gl : Int) dx dy 12 0 x y))) := by
  refine gMi_of (by decide) (Nat.le_of_ble_eq_true rfl) ?_
  intro p e s m below meth c A ls F hr hlk hA G hl
  have F : CallFix p m c cX0_jumpDiagonal 7 s ([.ref (a 0), .int (iI (12 * y + x)), .int (iI dx), .int (iI dy)] : List Value).toArray lw_all RX0 := F
  have hl : lv_has ls 7 [(0, .ref (a 0)), (1, .int (iI (12 * y + x))), (2, .int (iI dx)), (3, .int (iI dy))] := hl
  obtain ⟨h1, h2, h3, h4, hok, hgl, hd1, hd2⟩ := h
  have hokd := hok
  unfold okd at hokd
  have LP : ∀ (n : Nat) (kk : Nat) (xx : Int) (yy : Int) (la' : Int) (H : Heap) (locs : List Loc) (ls : Array Slot), (0 ≤ xx ∧ xx < 12 ∧ 0 ≤ yy ∧ yy < 12) → jlft dx dy xx yy < (n : Int) → jdg w (gl : Int) dx dy n kk xx yy = jdg w (gl : Int) dx dy 12 0 x y → jG D a k A s (w, le, dr, ma, op, oc, gl, la') H locs → lv_has ls 7 [(5, .int (iI (((kk : Nat) : Int)))), (4, .int (iI (12 * yy + xx))), (0, .ref (a 0)), (1, .int (iI (12 * y + x))), (2, .int (iI (dx))), (3, .int (iI (dy)))] → W p l e ({ frames := 4, cells := 0, slots := 0, locals := 100 }) s m ([.ref (a 0), .int (iI (12 * y + x)), .int (iI dx), .int (iI dy)] : List Value).toArray below meth c H locs 0 0 (gQi below (fun r X => r = iI (jstp (jdg w (gl : Int) dx dy 12 0 x y)) ∧ X = (w, le, dr, ma, op, oc, gl, jlnd (jdg w (gl : Int) dx dy 12 0 x y))) D (JT k) (JW a k) A ([.ref (a 0), .int (iI (12 * y + x)), .int (iI dx), .int (iI dy)] : List Value).toArray s) (F0 m 6 ls []) := by
    intro n
    induction n with
    | zero =>
      intro kk xx yy la' H locs ls hg hlf
      have := (jlft_in (dx := dx) (dy := dy) hg).1
      omega
    | succ n ih =>
      intro kk xx yy la' H locs ls hg hlf hj G hl
      refine j_aload_n F dX0_jumpDiagonal_6 rfl (lv_at hl 2 rfl) ?_
      refine j_iload F dX0_jumpDiagonal_7 (lv_at hl 1 rfl) ?_
      refine j_iload_n F dX0_jumpDiagonal_9 rfl (lv_at hl 4 rfl) ?_
      refine j_iload_n F dX0_jumpDiagonal_10 rfl (lv_at hl 5 rfl) ?_
      refine k0_freeBeside F hA G xx yy dx dy (by omega) (by decide) hl.1 (Nat.le_of_ble_eq_true rfl) dX0_jumpDiagonal_11 (fun H locs G => ?_)
      have hb := bz_in (jfre w (xx + dx) (yy + dy))
      refine j_if_eq F 109 dX0_jumpDiagonal_14 (by decide) (by omega) (fun c_14 => ?_) (fun c_14 => ?_)
      · skip
        have hq : jdg w (gl : Int) dx dy 12 0 x y = none := by
          rw [← hj]; unfold jdg; rw [if_neg (by rw [bz_false c_14]; decide)]
        refine j_aload_n F dX0_jumpDiagonal_109 rfl (lv_at hl 2 rfl) ?_
        refine j_iconst F dX0_jumpDiagonal_110 ?_
        refine j0_planded F G dX0_jumpDiagonal_111 (fun H locs G => ?_)
        refine j_iconst F dX0_jumpDiagonal_114 ?_
        exact g_iret F hr hlk rfl G ⟨by rw [hq]; rfl, by rw [hq]; rfl⟩ dX0_jumpDiagonal_115
      · skip
        have hf := bz_true c_14
        have hg := (jfre_iff.mp hf).1
        refine j_iload F dX0_jumpDiagonal_17 (lv_at hl 1 rfl) ?_
        refine j_bipush F dX0_jumpDiagonal_19 (by decide +kernel) ?_
        refine j_iload_n F dX0_jumpDiagonal_21 rfl (lv_at hl 5 rfl) ?_
        refine j_imul F dX0_jumpDiagonal_22 ?_
        refine j_iload_n F dX0_jumpDiagonal_23 rfl (lv_at hl 4 rfl) ?_
        refine j_iadd F dX0_jumpDiagonal_24 ?_
        refine j_iadd F dX0_jumpDiagonal_25 ?_
        refine j_eq (12 * (yy + dy) + (xx + dx)) (by omega) ?_
        refine j_istore F [(4, .int (iI (12 * (yy + dy) + (xx + dx)))), (5, .int (iI (((kk : Nat) : Int)))), (0, .ref (a 0)), (1, .int (iI (12 * y + x))), (2, .int (iI (dx))), (3, .int (iI (dy)))] dX0_jumpDiagonal_26 hl (by decide) rfl (fun ls hl => ?_)
        refine j_iinc F (((kk + 1 : Nat) : Int)) [(5, .int (iI (((kk + 1 : Nat) : Int)))), (4, .int (iI (12 * (yy + dy) + (xx + dx)))), (0, .ref (a 0)), (1, .int (iI (12 * y + x))), (2, .int (iI (dx))), (3, .int (iI (dy)))] (k := 1) dX0_jumpDiagonal_28 hl rfl (by omega) (by decide) rfl (fun ls hl => ?_)
        refine j_iload F dX0_jumpDiagonal_31 (lv_at hl 1 rfl) ?_
        refine j_aload_n F dX0_jumpDiagonal_33 rfl (lv_at hl 2 rfl) ?_
        refine j0_goal F G dX0_jumpDiagonal_34 ?_
        refine j_icmp_eq F 51 dX0_jumpDiagonal_37 (by decide) (by omega) (fun c_37 => ?_) (fun c_37 => ?_)
        · skip
          refine j_iconst F dX0_jumpDiagonal_51 ?_
          refine j_goto F 56 dX0_jumpDiagonal_52 (by decide) ?_
          refine j_istore F [(6, .int (iI (1))), (5, .int (iI (((kk + 1 : Nat) : Int)))), (4, .int (iI (12 * (yy + dy) + (xx + dx)))), (0, .ref (a 0)), (1, .int (iI (12 * y + x))), (2, .int (iI (dx))), (3, .int (iI (dy)))] dX0_jumpDiagonal_56 hl (by decide) rfl (fun ls hl => ?_)
          refine j_iload F dX0_jumpDiagonal_58 (lv_at hl 0 rfl) ?_
          refine j_if_ne F 92 dX0_jumpDiagonal_60 (by decide) (by omega) (fun c_60 => ?_) (fun c_60 => ?_)
          · skip
            refine j_iload F dX0_jumpDiagonal_92 (lv_at hl 0 rfl) ?_
            refine j_if_eq F 106 dX0_jumpDiagonal_94 (by decide) (by omega) (fun c_94 => ?_) (fun c_94 => ?_)
            · skip
              exact absurd c_94 (by decide)
            · skip
              refine j_aload_n F dX0_jumpDiagonal_97 rfl (lv_at hl 3 rfl) ?_
              refine j_iload F dX0_jumpDiagonal_98 (lv_at hl 2 rfl) ?_
              refine j0_planded F G dX0_jumpDiagonal_100 (fun H locs G => ?_)
              refine j_iload F dX0_jumpDiagonal_103 (lv_at hl 1 rfl) ?_
              have hq : jdg w (gl : Int) dx dy 12 0 x y = some (kk + 1, xx + dx, yy + dy) := by
                rw [← hj]; unfold jdg; rw [if_pos hf, if_pos (Or.inl (Or.inl c_37))]
              exact g_iret F hr hlk rfl G ⟨by rw [hq]; rfl, by rw [hq]; rfl⟩ dX0_jumpDiagonal_105
          · skip
            exact absurd c_60 (by decide)
        · skip
          refine j_aload_n F dX0_jumpDiagonal_40 rfl (lv_at hl 2 rfl) ?_
          refine j_iload F dX0_jumpDiagonal_41 (lv_at hl 1 rfl) ?_
          refine j_iload_n F dX0_jumpDiagonal_43 rfl (lv_at hl 4 rfl) ?_
          refine j_iload_n F dX0_jumpDiagonal_44 rfl (lv_at hl 5 rfl) ?_
          refine k0_forced F hA G (xx + dx) (yy + dy) dx dy (by omega) (by decide) hl.1 (Nat.le_of_ble_eq_true rfl) dX0_jumpDiagonal_45 (fun H locs G => ?_)
          have hfl := jfcd_lt (w := w) (x := xx + dx) (y := yy + dy) (dx := dx) (dy := dy) hok
          refine j_if_eq F 55 dX0_jumpDiagonal_48 (by decide) (by omega) (fun c_48 => ?_) (fun c_48 => ?_)
          · skip
            refine j_iconst F dX0_jumpDiagonal_55 ?_
            refine j_istore F [(6, .int (iI (0))), (5, .int (iI (((kk + 1 : Nat) : Int)))), (4, .int (iI (12 * (yy + dy) + (xx + dx)))), (0, .ref (a 0)), (1, .int (iI (12 * y + x))), (2, .int (iI (dx))), (3, .int (iI (dy)))] dX0_jumpDiagonal_56 hl (by decide) rfl (fun ls hl => ?_)
            refine j_iload F dX0_jumpDiagonal_58 (lv_at hl 0 rfl) ?_
            refine j_if_ne F 92 dX0_jumpDiagonal_60 (by decide) (by omega) (fun c_60 => ?_) (fun c_60 => ?_)
            · skip
              exact absurd rfl c_60
            · skip
              refine j_aload_n F dX0_jumpDiagonal_63 rfl (lv_at hl 3 rfl) ?_
              refine j_iload F dX0_jumpDiagonal_64 (lv_at hl 2 rfl) ?_
              refine j_iload_n F dX0_jumpDiagonal_66 rfl (lv_at hl 5 rfl) ?_
              refine j_iconst F dX0_jumpDiagonal_67 ?_
              refine k0_jumpStraight F hA G (xx + dx) (yy + dy) (dx) (0) ⟨by omega, by omega, by omega, by omega, by unfold okd; omega, hgl⟩ (by decide) hl.1 (Nat.le_of_ble_eq_true rfl) dX0_jumpDiagonal_68 (fun H locs G => ?_)
              have hsa := jst_stp_in (w := w) (g := (gl : Int)) (dx := dx) (dy := 0) (x := xx + dx) (y := yy + dy) (n := 12)
              refine j_if_gt F 85 dX0_jumpDiagonal_71 (by decide) (by omega) (fun c_71 => ?_) (fun c_71 => ?_)
              · skip
                refine j_iconst F dX0_jumpDiagonal_85 ?_
                refine j_goto F 90 dX0_jumpDiagonal_86 (by decide) ?_
                refine j_istore F [(6, .int (iI (1))), (5, .int (iI (((kk + 1 : Nat) : Int)))), (4, .int (iI (12 * (yy + dy) + (xx + dx)))), (0, .ref (a 0)), (1, .int (iI (12 * y + x))), (2, .int (iI (dx))), (3, .int (iI (dy)))] dX0_jumpDiagonal_90 hl (by decide) rfl (fun ls hl => ?_)
                refine j_iload F dX0_jumpDiagonal_92 (lv_at hl 0 rfl) ?_
                refine j_if_eq F 106 dX0_jumpDiagonal_94 (by decide) (by omega) (fun c_94 => ?_) (fun c_94 => ?_)
                · skip
                  exact absurd c_94 (by decide)
                · skip
                  refine j_aload_n F dX0_jumpDiagonal_97 rfl (lv_at hl 3 rfl) ?_
                  refine j_iload F dX0_jumpDiagonal_98 (lv_at hl 2 rfl) ?_
                  refine j0_planded F G dX0_jumpDiagonal_100 (fun H locs G => ?_)
                  refine j_iload F dX0_jumpDiagonal_103 (lv_at hl 1 rfl) ?_
                  have hq : jdg w (gl : Int) dx dy 12 0 x y = some (kk + 1, xx + dx, yy + dy) := by
                    rw [← hj]; unfold jdg; rw [if_pos hf, if_pos (Or.inr (Or.inl (jst_stp.mp c_71)))]
                  exact g_iret F hr hlk rfl G ⟨by rw [hq]; rfl, by rw [hq]; rfl⟩ dX0_jumpDiagonal_105
              · skip
                refine j_aload_n F dX0_jumpDiagonal_74 rfl (lv_at hl 3 rfl) ?_
                refine j_iload F dX0_jumpDiagonal_75 (lv_at hl 2 rfl) ?_
                refine j_iconst F dX0_jumpDiagonal_77 ?_
                refine j_iload_n F dX0_jumpDiagonal_78 rfl (lv_at hl 6 rfl) ?_
                refine k0_jumpStraight F hA G (xx + dx) (yy + dy) (0) (dy) ⟨by omega, by omega, by omega, by omega, by unfold okd; omega, hgl⟩ (by decide) hl.1 (Nat.le_of_ble_eq_true rfl) dX0_jumpDiagonal_79 (fun H locs G => ?_)
                have hsb := jst_stp_in (w := w) (g := (gl : Int)) (dx := 0) (dy := dy) (x := xx + dx) (y := yy + dy) (n := 12)
                refine j_if_le F 89 dX0_jumpDiagonal_82 (by decide) (by omega) (fun c_82 => ?_) (fun c_82 => ?_)
                · skip
                  refine j_iconst F dX0_jumpDiagonal_89 ?_
                  refine j_istore F [(6, .int (iI (0))), (5, .int (iI (((kk + 1 : Nat) : Int)))), (4, .int (iI (12 * (yy + dy) + (xx + dx)))), (0, .ref (a 0)), (1, .int (iI (12 * y + x))), (2, .int (iI (dx))), (3, .int (iI (dy)))] dX0_jumpDiagonal_90 hl (by decide) rfl (fun ls hl => ?_)
                  refine j_iload F dX0_jumpDiagonal_92 (lv_at hl 0 rfl) ?_
                  refine j_if_eq F 106 dX0_jumpDiagonal_94 (by decide) (by omega) (fun c_94 => ?_) (fun c_94 => ?_)
                  · skip
                    refine j_goto F 6 dX0_jumpDiagonal_106 (by decide) ?_
                    exact ih (kk + 1) (xx + dx) (yy + dy) _ H locs ls hg (by rw [jlft_step hok]; omega) (by
                      rw [← hj]; conv => rhs; unfold jdg; rw [if_pos hf, if_neg (fun q => by
                        rcases q with (q | q) | (q | q)
                        · exact c_37 q
                        · omega
                        · exact absurd (jst_stp.mpr q) c_71
                        · exact absurd (jst_stp.mpr q) (by omega))]) G (lv_sub hl [1, 2, 3, 4, 5, 6] rfl)
                  · skip
                    exact absurd rfl c_94
                · skip
                  refine j_iconst F dX0_jumpDiagonal_85 ?_
                  refine j_goto F 90 dX0_jumpDiagonal_86 (by decide) ?_
                  refine j_istore F [(6, .int (iI (1))), (5, .int (iI (((kk + 1 : Nat) : Int)))), (4, .int (iI (12 * (yy + dy) + (xx + dx)))), (0, .ref (a 0)), (1, .int (iI (12 * y + x))), (2, .int (iI (dx))), (3, .int (iI (dy)))] dX0_jumpDiagonal_90 hl (by decide) rfl (fun ls hl => ?_)
                  refine j_iload F dX0_jumpDiagonal_92 (lv_at hl 0 rfl) ?_
                  refine j_if_eq F 106 dX0_jumpDiagonal_94 (by decide) (by omega) (fun c_94 => ?_) (fun c_94 => ?_)
                  · skip
                    exact absurd c_94 (by decide)
                  · skip
                    refine j_aload_n F dX0_jumpDiagonal_97 rfl (lv_at hl 3 rfl) ?_
                    refine j_iload F dX0_jumpDiagonal_98 (lv_at hl 2 rfl) ?_
                    refine j0_planded F G dX0_jumpDiagonal_100 (fun H locs G => ?_)
                    refine j_iload F dX0_jumpDiagonal_103 (lv_at hl 1 rfl) ?_
                    have hq : jdg w (gl : Int) dx dy 12 0 x y = some (kk + 1, xx + dx, yy + dy) := by
                      rw [← hj]; unfold jdg; rw [if_pos hf, if_pos (Or.inr (Or.inr (jst_stp.mp (by omega))))]
                    exact g_iret F hr hlk rfl G ⟨by rw [hq]; rfl, by rw [hq]; rfl⟩ dX0_jumpDiagonal_105
          · skip
            refine j_iconst F dX0_jumpDiagonal_51 ?_
            refine j_goto F 56 dX0_jumpDiagonal_52 (by decide) ?_
            refine j_istore F [(6, .int (iI (1))), (5, .int (iI (((kk + 1 : Nat) : Int)))), (4, .int (iI (12 * (yy + dy) + (xx + dx)))), (0, .ref (a 0)), (1, .int (iI (12 * y + x))), (2, .int (iI (dx))), (3, .int (iI (dy)))] dX0_jumpDiagonal_56 hl (by decide) rfl (fun ls hl => ?_)
            refine j_iload F dX0_jumpDiagonal_58 (lv_at hl 0 rfl) ?_
            refine j_if_ne F 92 dX0_jumpDiagonal_60 (by decide) (by omega) (fun c_60 => ?_) (fun c_60 => ?_)
            · skip
              refine j_iload F dX0_jumpDiagonal_92 (lv_at hl 0 rfl) ?_
              refine j_if_eq F 106 dX0_jumpDiagonal_94 (by decide) (by omega) (fun c_94 => ?_) (fun c_94 => ?_)
              · skip
                exact absurd c_94 (by decide)
              · skip
                refine j_aload_n F dX0_jumpDiagonal_97 rfl (lv_at hl 3 rfl) ?_
                refine j_iload F dX0_jumpDiagonal_98 (lv_at hl 2 rfl) ?_
                refine j0_planded F G dX0_jumpDiagonal_100 (fun H locs G => ?_)
                refine j_iload F dX0_jumpDiagonal_103 (lv_at hl 1 rfl) ?_
                have hq : jdg w (gl : Int) dx dy 12 0 x y = some (kk + 1, xx + dx, yy + dy) := by
                  rw [← hj]; unfold jdg; rw [if_pos hf, if_pos (Or.inl (Or.inr (by omega)))]
                exact g_iret F hr hlk rfl G ⟨by rw [hq]; rfl, by rw [hq]; rfl⟩ dX0_jumpDiagonal_105
            · skip
              exact absurd c_60 (by decide)
  refine j_iload_n F dX0_jumpDiagonal_0 rfl (lv_at hl 1 rfl) ?_
  refine j_istore F [(4, .int (iI (12 * y + x))), (0, .ref (a 0)), (1, .int (iI (12 * y + x))), (2, .int (iI (dx))), (3, .int (iI (dy)))] dX0_jumpDiagonal_1 hl (by decide) rfl (fun ls hl => ?_)
  refine j_iconst F dX0_jumpDiagonal_3 ?_
  refine j_eq (((0 : Nat) : Int)) rfl ?_
  refine j_istore F [(5, .int (iI (((0 : Nat) : Int)))), (4, .int (iI (12 * y + x))), (0, .ref (a 0)), (1, .int (iI (12 * y + x))), (2, .int (iI (dx))), (3, .int (iI (dy)))] dX0_jumpDiagonal_4 hl (by decide) rfl (fun ls hl => ?_)
  refine LP 12 0 x y la _ _ ls (by omega) ?_ rfl G (lv_sub hl [0, 1, 2, 3, 4, 5] rfl)
  have := (jlft_in (dx := dx) (dy := dy) (x := x) (y := y) (by omega)).2
  omega

section K0jumpDiagonal
variable {p : Program} {l : Launch} {e : Env} {R : Room} {s : State} {m : MethodId} {args : Array Value} {below : List Frame} {meth : Method} {c : Code} {H : Heap} {locs : List Loc} {Q : State → Prop}
variable {cc : ByteArray} {pc : Nat} {ls : Array Slot} {rest : List Value} {nL : Nat}
variable {D : va_G} {a : Nat → Nat} {k : Nat → ClassId} {A : Nat → Prop} {w : Nat → Bool} {le dr ma op : Nat → Nat} {oc gl : Nat} {la : Int}
set_option maxHeartbeats 4000000 in
set_option maxRecDepth 100000 in
theorem k0_jumpDiagonal (F : CallFix p m c cc nL s args lw_all RX0) (hA : ∀ q, s.heap.size ≤ q → A q) (G : jG D a k A s (w, le, dr, ma, op, oc, gl, la) H locs) (x y dx dy : Int) (h : 0 ≤ x ∧ x < 12 ∧ 0 ≤ y ∧ y < 12 ∧ okd dx dy ∧ gl < 144 ∧ dx ≠ 0 ∧ dy ≠ 0) (hR : 4 + 1 ≤ R.frames ∧ 8 + (7 + 11) + 100 ≤ R.locals) (hsz : ls.size = nL) (hroom : (rest.map fun v => v.category).sum ≤ 8) (hdg : decode cc pc = .ok (.invokevirtual 77, 3)) (kk : ∀ (H1 : Heap) (locs1 : List Loc), jG D a k A s (w, le, dr, ma, op, oc, gl, jlnd (jdg w (gl : Int) dx dy 12 0 x y)) H1 locs1 → W p l e R s m args below meth c H1 locs1 0 0 Q (F0 m (pc + 3) ls (.int (iI (jstp (jdg w (gl : Int) dx dy 12 0 x y))) :: rest))) : W p l e R s m args below meth c H locs 0 0 Q (F0 m pc ls (.int (iI dy) :: .int (iI dx) :: .int (iI (12 * y + x)) :: .ref (a 0) :: rest)) :=
  g_calli (As := [.int (iI (12 * y + x)), .int (iI dx), .int (iI dy)]) F hA (JW_same a k) G (c0_jumpDiagonal l D a k w le dr ma op oc gl la x y dx dy h) (cwV 3 F.2.2.2.2 (lw_V q95 q97 qs6 q17 q98) rfl rfl rfl (by decide +kernel) hR) (jrec G) hsz rfl hroom hdg (fun r x' H1 locs1 hp G1 => by obtain ⟨rfl, rfl⟩ := hp; exact kk H1 locs1 G1)
end K0jumpDiagonal
end
section
theorem jf_in {le : Nat → Nat} {gl c : Nat} (hc : c < 144) (hg : gl < 144) (hl : le c < 32768) : 0 ≤ jf le gl c ∧ jf le gl c < 40000 := by
  have := jal_in (jcx_in c hc) (jcx_in gl hg)
  unfold jf
  omega
set_option maxHeartbeats 4000000 in
set_option maxRecDepth 100000 in
theorem c0_offer (l : Launch) (D : va_G) (a : Nat → Nat) (k : Nat → ClassId) (w : Nat → Bool) (le dr ma op : Nat → Nat) (oc gl : Nat) (la : Int) (f nl ds : Nat) (h : f < 144 ∧ nl < 32768 ∧ ds < 512 ∧ ma f ≤ 2 ∧ (ma f ≠ 0 → le f < 32768 ∧ dr f < 512) ∧ (ma f ≠ 1 → oc < 144)) : gMv l yX0_offer cX0_offer 4 ({ frames := 0, cells := 0, slots := 0, locals := 0 }) D (JT k) (JW a k) [.ref (a 0), .int (iI (f : Int)), .int (iI (nl : Int)), .int (iI (ds : Int))] (w, le, dr, ma, op, oc, gl, la) (fun X => X = jJX w (jofr le dr ma op oc f nl ds) gl la) := by
  refine gMv_of (by decide) (Nat.le_of_ble_eq_true rfl) ?_
  intro p e s m below meth c A ls F hr hlk hA G hl
  have F : CallFix p m c cX0_offer 4 s ([.ref (a 0), .int (iI (f : Int)), .int (iI (nl : Int)), .int (iI (ds : Int))] : List Value).toArray lw_all RX0 := F
  have hl : lv_has ls 4 [(0, .ref (a 0)), (1, .int (iI (f : Int))), (2, .int (iI (nl : Int))), (3, .int (iI (ds : Int)))] := hl
  obtain ⟨h1, h2, h3, h4, h5, h6⟩ := h
  have J83 : ∀ (le' : Nat → Nat) (dr' : Nat → Nat) (H : Heap) (locs : List Loc) (ls : Array Slot), jofr le dr ma op oc f nl ds = jpush le' dr' ma op oc f → jG D a k A s (w, le', dr', ma, op, oc, gl, la) H locs → lv_has ls 4 [(0, .ref (a 0)), (1, .int (iI ((f : Int)))), (2, .int (iI ((nl : Int)))), (3, .int (iI ((ds : Int))))] → W p l e ({ frames := 0, cells := 0, slots := 0, locals := 0 }) s m ([.ref (a 0), .int (iI (f : Int)), .int (iI (nl : Int)), .int (iI (ds : Int))] : List Value).toArray below meth c H locs 0 0 (gQv below (fun X => X = jJX w (jofr le dr ma op oc f nl ds) gl la) D (JT k) (JW a k) A ([.ref (a 0), .int (iI (f : Int)), .int (iI (nl : Int)), .int (iI (ds : Int))] : List Value).toArray s) (F0 m 83 ls []) := by
    intro le' dr' H locs ls hj G hl
    refine j_aload_n F dX0_offer_83 rfl (lv_at hl 0 rfl) ?_
    refine j0_mark F G dX0_offer_84 ?_
    refine j_iload_n F dX0_offer_87 rfl (lv_at hl 1 rfl) ?_
    refine j0_ldM F G (f) (by omega) (by omega) dX0_offer_88 ?_
    refine j_iconst F dX0_offer_89 ?_
    refine j_icmp_ne F 94 dX0_offer_90 (by decide) (by omega) (fun c_90 => ?_) (fun c_90 => ?_)
    · skip
      refine j_aload_n F dX0_offer_94 rfl (lv_at hl 0 rfl) ?_
      refine j0_mark F G dX0_offer_95 ?_
      refine j_iload_n F dX0_offer_98 rfl (lv_at hl 1 rfl) ?_
      refine j_iconst F dX0_offer_99 ?_
      refine j0_stM F G (f) (1) (by omega) (by omega) (by omega) (by omega) dX0_offer_100 (fun H locs G => ?_)
      refine j_aload_n F dX0_offer_101 rfl (lv_at hl 0 rfl) ?_
      refine j0_list F G dX0_offer_102 ?_
      refine j_aload_n F dX0_offer_105 rfl (lv_at hl 0 rfl) ?_
      refine j0_count F G dX0_offer_106 ?_
      refine j_iload_n F dX0_offer_109 rfl (lv_at hl 1 rfl) ?_
      refine j_i2s F (f) (by omega) (by omega) dX0_offer_110 ?_
      refine j0_stO F G (oc) (f) (by omega) (h6 (by omega)) (by omega) (by omega) dX0_offer_111 (fun H locs G => ?_)
      refine j_aload_n F dX0_offer_112 rfl (lv_at hl 0 rfl) ?_
      refine j_dup F dX0_offer_113 rfl ?_
      refine j0_count F G dX0_offer_114 ?_
      refine j_iconst F dX0_offer_117 ?_
      refine j_iadd F dX0_offer_118 ?_
      refine j0_pcount F G (oc + 1) (by omega) dX0_offer_119 (fun H locs G => ?_)
      have hq : jofr le dr ma op oc f nl ds = (le', dr', va_up ma f 1, va_up op oc f, oc + 1) := by
        rw [hj]; unfold jpush; rw [if_neg (by omega)]
      exact g_vret F hr hlk G (by rw [hq]; rfl) dX0_offer_122
    · skip
      have hq : jofr le dr ma op oc f nl ds = (le', dr', ma, op, oc) := by
        rw [hj]; unfold jpush; rw [if_pos (by omega)]
      exact g_vret F hr hlk G (by rw [hq]; rfl) dX0_offer_93
  refine j_aload_n F dX0_offer_0 rfl (lv_at hl 0 rfl) ?_
  refine j0_mark F G dX0_offer_1 ?_
  refine j_iload_n F dX0_offer_4 rfl (lv_at hl 1 rfl) ?_
  refine j0_ldM F G (f) (by omega) (by omega) dX0_offer_5 ?_
  refine j_if_eq F 20 dX0_offer_6 (by decide) (by omega) (fun c_6 => ?_) (fun c_6 => ?_)
  · skip
    refine j_aload_n F dX0_offer_20 rfl (lv_at hl 0 rfl) ?_
    refine j0_mark F G dX0_offer_21 ?_
    refine j_iload_n F dX0_offer_24 rfl (lv_at hl 1 rfl) ?_
    refine j0_ldM F G (f) (by omega) (by omega) dX0_offer_25 ?_
    refine j_if_eq F 67 dX0_offer_26 (by decide) (by omega) (fun c_26 => ?_) (fun c_26 => ?_)
    · skip
      refine j_aload_n F dX0_offer_67 rfl (lv_at hl 0 rfl) ?_
      refine j0_length F G dX0_offer_68 ?_
      refine j_iload_n F dX0_offer_71 rfl (lv_at hl 1 rfl) ?_
      refine j_iload_n F dX0_offer_72 rfl (lv_at hl 2 rfl) ?_
      refine j_i2s F (nl) (by omega) (by omega) dX0_offer_73 ?_
      refine j0_stL F G (f) (nl) (by omega) (by omega) (by omega) (by omega) dX0_offer_74 (fun H locs G => ?_)
      refine j_aload_n F dX0_offer_75 rfl (lv_at hl 0 rfl) ?_
      refine j0_directions F G dX0_offer_76 ?_
      refine j_iload_n F dX0_offer_79 rfl (lv_at hl 1 rfl) ?_
      refine j_iload_n F dX0_offer_80 rfl (lv_at hl 3 rfl) ?_
      refine j_i2s F (ds) (by omega) (by omega) dX0_offer_81 ?_
      refine j0_stD F G (f) (ds) (by omega) (by omega) (by omega) (by omega) dX0_offer_82 (fun H locs G => ?_)
      exact J83 (va_up le f nl) (va_up dr f ds) H locs ls (by unfold jofr; rw [if_neg (by omega), if_neg (by omega)]) G hl
    · skip
      exfalso; omega
  · skip
    have hle := h5 (by omega)
    refine j_aload_n F dX0_offer_9 rfl (lv_at hl 0 rfl) ?_
    refine j0_length F G dX0_offer_10 ?_
    refine j_iload_n F dX0_offer_13 rfl (lv_at hl 1 rfl) ?_
    refine j0_ldL F G (f) (by omega) (by omega) dX0_offer_14 ?_
    refine j_iload_n F dX0_offer_15 rfl (lv_at hl 2 rfl) ?_
    refine j_icmp_ge F 20 dX0_offer_16 (by decide) (by omega) (fun c_16 => ?_) (fun c_16 => ?_)
    · skip
      refine j_aload_n F dX0_offer_20 rfl (lv_at hl 0 rfl) ?_
      refine j0_mark F G dX0_offer_21 ?_
      refine j_iload_n F dX0_offer_24 rfl (lv_at hl 1 rfl) ?_
      refine j0_ldM F G (f) (by omega) (by omega) dX0_offer_25 ?_
      refine j_if_eq F 67 dX0_offer_26 (by decide) (by omega) (fun c_26 => ?_) (fun c_26 => ?_)
      · skip
        exfalso; omega
      · skip
        refine j_aload_n F dX0_offer_29 rfl (lv_at hl 0 rfl) ?_
        refine j0_length F G dX0_offer_30 ?_
        refine j_iload_n F dX0_offer_33 rfl (lv_at hl 1 rfl) ?_
        refine j0_ldL F G (f) (by omega) (by omega) dX0_offer_34 ?_
        refine j_iload_n F dX0_offer_35 rfl (lv_at hl 2 rfl) ?_
        refine j_icmp_ne F 67 dX0_offer_36 (by decide) (by omega) (fun c_36 => ?_) (fun c_36 => ?_)
        · skip
          refine j_aload_n F dX0_offer_67 rfl (lv_at hl 0 rfl) ?_
          refine j0_length F G dX0_offer_68 ?_
          refine j_iload_n F dX0_offer_71 rfl (lv_at hl 1 rfl) ?_
          refine j_iload_n F dX0_offer_72 rfl (lv_at hl 2 rfl) ?_
          refine j_i2s F (nl) (by omega) (by omega) dX0_offer_73 ?_
          refine j0_stL F G (f) (nl) (by omega) (by omega) (by omega) (by omega) dX0_offer_74 (fun H locs G => ?_)
          refine j_aload_n F dX0_offer_75 rfl (lv_at hl 0 rfl) ?_
          refine j0_directions F G dX0_offer_76 ?_
          refine j_iload_n F dX0_offer_79 rfl (lv_at hl 1 rfl) ?_
          refine j_iload_n F dX0_offer_80 rfl (lv_at hl 3 rfl) ?_
          refine j_i2s F (ds) (by omega) (by omega) dX0_offer_81 ?_
          refine j0_stD F G (f) (ds) (by omega) (by omega) (by omega) (by omega) dX0_offer_82 (fun H locs G => ?_)
          exact J83 (va_up le f nl) (va_up dr f ds) H locs ls (by unfold jofr; rw [if_neg (by omega), if_neg (by omega)]) G hl
        · skip
          refine j_iload_n F dX0_offer_39 rfl (lv_at hl 3 rfl) ?_
          refine j_aload_n F dX0_offer_40 rfl (lv_at hl 0 rfl) ?_
          refine j0_directions F G dX0_offer_41 ?_
          refine j_iload_n F dX0_offer_44 rfl (lv_at hl 1 rfl) ?_
          refine j0_ldD F G (f) (by omega) (by omega) dX0_offer_45 ?_
          refine j_iconst F dX0_offer_46 ?_
          refine lv_ixor F.1 F.2.1 dX0_offer_47 ?_
          refine lv_iand F.1 F.2.1 dX0_offer_48 ?_
          refine lv_if_ne (tgt := 53) F.1 F.2.1 dX0_offer_49 (by decide) (fun c_49 => ?_) (fun c_49 => ?_)
          · skip
            refine j_aload_n F dX0_offer_53 rfl (lv_at hl 0 rfl) ?_
            refine j0_directions F G dX0_offer_54 ?_
            refine j_iload_n F dX0_offer_57 rfl (lv_at hl 1 rfl) ?_
            refine lv_dup2_11 F.1 F.2.1 dX0_offer_58 rfl rfl ?_
            refine j0_ldD F G (f) (by omega) (by omega) dX0_offer_59 ?_
            refine j_iload_n F dX0_offer_60 rfl (lv_at hl 3 rfl) ?_
            refine j_ior F (dr f) ds rfl rfl dX0_offer_61 ?_
            have hlt := jor_lt hle.2 h3
            refine j_i2s F (dr f ||| ds) (by omega) (by omega) dX0_offer_62 ?_
            refine j0_stD F G (f) (dr f ||| ds) (by omega) (by omega) (by omega) (by omega) dX0_offer_63 (fun H locs G => ?_)
            refine j_goto F 83 dX0_offer_64 (by decide) ?_
            exact J83 le (va_up dr f (dr f ||| ds)) H locs ls (by unfold jofr; rw [if_neg (by omega), if_pos (by omega), if_neg (fun q => c_49 ((jsub_iI h3).mpr q))]) G hl
          · skip
            have hq : jofr le dr ma op oc f nl ds = (le, dr, ma, op, oc) := by
              unfold jofr; rw [if_neg (by omega), if_pos (by omega), if_pos ((jsub_iI h3).mp c_49)]
            exact g_vret F hr hlk G (by rw [hq]; rfl) dX0_offer_52
    · skip
      have hq : jofr le dr ma op oc f nl ds = (le, dr, ma, op, oc) := by
        unfold jofr; rw [if_pos (by omega)]
      exact g_vret F hr hlk G (by rw [hq]; rfl) dX0_offer_19

section K0offer
variable {p : Program} {l : Launch} {e : Env} {R : Room} {s : State} {m : MethodId} {args : Array Value} {below : List Frame} {meth : Method} {c : Code} {H : Heap} {locs : List Loc} {Q : State → Prop}
variable {cc : ByteArray} {pc : Nat} {ls : Array Slot} {rest : List Value} {nL : Nat}
variable {D : va_G} {a : Nat → Nat} {k : Nat → ClassId} {A : Nat → Prop} {w : Nat → Bool} {le dr ma op : Nat → Nat} {oc gl : Nat} {la : Int}
set_option maxHeartbeats 4000000 in
set_option maxRecDepth 100000 in
theorem k0_offer (F : CallFix p m c cc nL s args lw_all RX0) (hA : ∀ q, s.heap.size ≤ q → A q) (G : jG D a k A s (w, le, dr, ma, op, oc, gl, la) H locs) (f nl ds : Nat) (h : f < 144 ∧ nl < 32768 ∧ ds < 512 ∧ ma f ≤ 2 ∧ (ma f ≠ 0 → le f < 32768 ∧ dr f < 512) ∧ (ma f ≠ 1 → oc < 144)) (hR : 0 + 1 ≤ R.frames ∧ 8 + (4 + 11) + 0 ≤ R.locals) (hsz : ls.size = nL) (hroom : (rest.map fun v => v.category).sum ≤ 8) (hdg : decode cc pc = .ok (.invokevirtual 65, 3)) (kk : ∀ (H1 : Heap) (locs1 : List Loc), jG D a k A s (jJX w (jofr le dr ma op oc f nl ds) gl la) H1 locs1 → W p l e R s m args below meth c H1 locs1 0 0 Q (F0 m (pc + 3) ls (rest))) : W p l e R s m args below meth c H locs 0 0 Q (F0 m pc ls (.int (iI (ds : Int)) :: .int (iI (nl : Int)) :: .int (iI (f : Int)) :: .ref (a 0) :: rest)) :=
  g_callv (As := [.int (iI (f : Int)), .int (iI (nl : Int)), .int (iI (ds : Int))]) F hA (JW_same a k) G (c0_offer l D a k w le dr ma op oc gl la f nl ds h) (cwV 3 F.2.2.2.2 (lw_V q79 q81 qs2 q17 q82) rfl rfl rfl (by decide +kernel) hR) (jrec G) hsz rfl hroom hdg (fun x' H1 locs1 hp G1 => by subst hp; exact kk H1 locs1 G1)
end K0offer

set_option maxHeartbeats 4000000 in
set_option maxRecDepth 100000 in
theorem c0_takeBest (l : Launch) (D : va_G) (a : Nat → Nat) (k : Nat → ClassId) (w : Nat → Bool) (le dr ma op : Nat → Nat) (oc gl : Nat) (la : Int)  (h : 1 ≤ oc ∧ oc ≤ 144 ∧ gl < 144 ∧ (∀ i, i < oc → op i < 144 ∧ le (op i) < 32768)) : gMi l yX0_takeBest cX0_takeBest 5 .int ({ frames := 1, cells := 0, slots := 0, locals := 24 }) D (JT k) (JW a k) [.ref (a 0)] (w, le, dr, ma, op, oc, gl, la) (fun r X => ∃ b : Nat, (b < oc ∧ (∀ j, j < oc → jf le gl (op b) ≤ jf le gl (op j))) ∧ r = iI ((op b : Nat) : Int) ∧ X = (w, le, dr, va_up ma (op b) 2, va_up op b (op (oc - 1)), oc - 1, gl, la)) := by
  refine gMi_of (by decide) (Nat.le_of_ble_eq_true rfl) ?_
  intro p e s m below meth c A ls F hr hlk hA G hl
  have F : CallFix p m c cX0_takeBest 5 s ([.ref (a 0)] : List Value).toArray lw_all RX0 := F
  have hl : lv_has ls 5 [(0, .ref (a 0))] := hl
  obtain ⟨h1, h2, h3, h4⟩ := h
  have LP : ∀ (n : Nat) (i : Nat) (b : Nat) (H : Heap) (locs : List Loc) (ls : Array Slot), oc < i + n → 1 ≤ i ∧ i ≤ oc → b < oc → (∀ j, j < i → jf le gl (op b) ≤ jf le gl (op j)) → jG D a k A s (w, le, dr, ma, op, oc, gl, la) H locs → lv_has ls 5 [(2, .int (iI (((i : Nat) : Int)))), (1, .int (iI (((b : Nat) : Int)))), (0, .ref (a 0))] → W p l e ({ frames := 1, cells := 0, slots := 0, locals := 24 }) s m ([.ref (a 0)] : List Value).toArray below meth c H locs 0 0 (gQi below (fun r X => ∃ b : Nat, (b < oc ∧ (∀ j, j < oc → jf le gl (op b) ≤ jf le gl (op j))) ∧ r = iI ((op b : Nat) : Int) ∧ X = (w, le, dr, va_up ma (op b) 2, va_up op b (op (oc - 1)), oc - 1, gl, la)) D (JT k) (JW a k) A ([.ref (a 0)] : List Value).toArray s) (F0 m 4 ls []) := by
    intro n
    induction n with
    | zero =>
      intro i b H locs ls hn hi
      omega
    | succ n ih =>
      intro i b H locs ls hn hi hb hbest G hl
      refine j_iload_n F dX0_takeBest_4 rfl (lv_at hl 0 rfl) ?_
      refine j_aload_n F dX0_takeBest_5 rfl (lv_at hl 2 rfl) ?_
      refine j0_count F G dX0_takeBest_6 ?_
      refine j_icmp_ge F 81 dX0_takeBest_9 (by decide) (by omega) (fun c_9 => ?_) (fun c_9 => ?_)
      · skip
        refine j_aload_n F dX0_takeBest_81 rfl (lv_at hl 2 rfl) ?_
        refine j0_list F G dX0_takeBest_82 ?_
        refine j_iload_n F dX0_takeBest_85 rfl (lv_at hl 1 rfl) ?_
        refine j0_ldO F G (b) (by omega) (by omega) dX0_takeBest_86 ?_
        refine j_istore_n F [(2, .int (iI (((op (b) : Nat) : Int)))), (1, .int (iI (((b : Nat) : Int)))), (0, .ref (a 0))] dX0_takeBest_87 rfl hl (by decide) rfl (fun ls hl => ?_)
        refine j_aload_n F dX0_takeBest_88 rfl (lv_at hl 2 rfl) ?_
        refine j_dup F dX0_takeBest_89 rfl ?_
        refine j0_count F G dX0_takeBest_90 ?_
        refine j_iconst F dX0_takeBest_93 ?_
        refine j_isub F dX0_takeBest_94 ?_
        refine j0_pcount F G (oc - 1) (by omega) dX0_takeBest_95 (fun H locs G => ?_)
        refine j_aload_n F dX0_takeBest_98 rfl (lv_at hl 2 rfl) ?_
        refine j0_list F G dX0_takeBest_99 ?_
        refine j_iload_n F dX0_takeBest_102 rfl (lv_at hl 1 rfl) ?_
        refine j_aload_n F dX0_takeBest_103 rfl (lv_at hl 2 rfl) ?_
        refine j0_list F G dX0_takeBest_104 ?_
        refine j_aload_n F dX0_takeBest_107 rfl (lv_at hl 2 rfl) ?_
        refine j0_count F G dX0_takeBest_108 ?_
        refine j0_ldO F G (oc - 1) (by omega) (by omega) dX0_takeBest_111 ?_
        have q5 := h4 (oc - 1) (by omega)
        refine j0_stO F G (b) (op (oc - 1)) (by omega) (by omega) (by omega) (by omega) dX0_takeBest_112 (fun H locs G => ?_)
        refine j_aload_n F dX0_takeBest_113 rfl (lv_at hl 2 rfl) ?_
        refine j0_mark F G dX0_takeBest_114 ?_
        refine j_iload_n F dX0_takeBest_117 rfl (lv_at hl 0 rfl) ?_
        refine j_iconst F dX0_takeBest_118 ?_
        refine j0_stM F G (op b) (2) (by omega) (h4 b hb).1 (by omega) (by omega) dX0_takeBest_119 (fun H locs G => ?_)
        refine j_iload_n F dX0_takeBest_120 rfl (lv_at hl 0 rfl) ?_
        exact g_iret F hr hlk rfl G ⟨b, ⟨hb, fun j hj => hbest j (by omega)⟩, rfl, rfl⟩ dX0_takeBest_121
      · skip
        have q1 := h4 i (by omega)
        have q2 := h4 b hb
        have q3 := jf_in q1.1 h3 q1.2
        have q4 := jf_in q2.1 h3 q2.2
        refine j_aload_n F dX0_takeBest_12 rfl (lv_at hl 2 rfl) ?_
        refine j0_length F G dX0_takeBest_13 ?_
        refine j_aload_n F dX0_takeBest_16 rfl (lv_at hl 2 rfl) ?_
        refine j0_list F G dX0_takeBest_17 ?_
        refine j_iload_n F dX0_takeBest_20 rfl (lv_at hl 0 rfl) ?_
        refine j0_ldO F G (i) (by omega) (by omega) dX0_takeBest_21 ?_
        refine j0_ldL F G (op i) (by omega) q1.1 dX0_takeBest_22 ?_
        refine j_aload_n F dX0_takeBest_23 rfl (lv_at hl 2 rfl) ?_
        refine j_aload_n F dX0_takeBest_24 rfl (lv_at hl 2 rfl) ?_
        refine j0_list F G dX0_takeBest_25 ?_
        refine j_iload_n F dX0_takeBest_28 rfl (lv_at hl 0 rfl) ?_
        refine j0_ldO F G (i) (by omega) (by omega) dX0_takeBest_29 ?_
        refine j_aload_n F dX0_takeBest_30 rfl (lv_at hl 2 rfl) ?_
        refine j0_goal F G dX0_takeBest_31 ?_
        refine k0_atLeast F hA G (op i) gl ⟨(h4 i (by omega)).1, h3⟩ (by decide) hl.1 (Nat.le_of_ble_eq_true rfl) dX0_takeBest_34 (fun H locs G => ?_)
        refine j_iadd F dX0_takeBest_37 ?_
        refine j_eq (jf le gl (op i)) rfl ?_
        refine j_istore_n F [(3, .int (iI (jf le gl (op i)))), (2, .int (iI (((i : Nat) : Int)))), (1, .int (iI (((b : Nat) : Int)))), (0, .ref (a 0))] dX0_takeBest_38 rfl hl (by decide) rfl (fun ls hl => ?_)
        refine j_aload_n F dX0_takeBest_39 rfl (lv_at hl 3 rfl) ?_
        refine j0_length F G dX0_takeBest_40 ?_
        refine j_aload_n F dX0_takeBest_43 rfl (lv_at hl 3 rfl) ?_
        refine j0_list F G dX0_takeBest_44 ?_
        refine j_iload_n F dX0_takeBest_47 rfl (lv_at hl 2 rfl) ?_
        refine j0_ldO F G (b) (by omega) (by omega) dX0_takeBest_48 ?_
        refine j0_ldL F G (op b) (by omega) q2.1 dX0_takeBest_49 ?_
        refine j_aload_n F dX0_takeBest_50 rfl (lv_at hl 3 rfl) ?_
        refine j_aload_n F dX0_takeBest_51 rfl (lv_at hl 3 rfl) ?_
        refine j0_list F G dX0_takeBest_52 ?_
        refine j_iload_n F dX0_takeBest_55 rfl (lv_at hl 2 rfl) ?_
        refine j0_ldO F G (b) (by omega) (by omega) dX0_takeBest_56 ?_
        refine j_aload_n F dX0_takeBest_57 rfl (lv_at hl 3 rfl) ?_
        refine j0_goal F G dX0_takeBest_58 ?_
        refine k0_atLeast F hA G (op b) gl ⟨(h4 b (by omega)).1, h3⟩ (by decide) hl.1 (Nat.le_of_ble_eq_true rfl) dX0_takeBest_61 (fun H locs G => ?_)
        refine j_iadd F dX0_takeBest_64 ?_
        refine j_eq (jf le gl (op b)) rfl ?_
        refine j_istore F [(4, .int (iI (jf le gl (op b)))), (3, .int (iI (jf le gl (op i)))), (2, .int (iI (((i : Nat) : Int)))), (1, .int (iI (((b : Nat) : Int)))), (0, .ref (a 0))] dX0_takeBest_65 hl (by decide) rfl (fun ls hl => ?_)
        refine j_iload_n F dX0_takeBest_67 rfl (lv_at hl 1 rfl) ?_
        refine j_iload F dX0_takeBest_68 (lv_at hl 0 rfl) ?_
        refine j_icmp_ge F 75 dX0_takeBest_70 (by decide) (by omega) (fun c_70 => ?_) (fun c_70 => ?_)
        · skip
          refine j_iinc F (((i + 1 : Nat) : Int)) [(2, .int (iI (((i + 1 : Nat) : Int)))), (4, .int (iI (jf le gl (op b)))), (3, .int (iI (jf le gl (op i)))), (1, .int (iI (((b : Nat) : Int)))), (0, .ref (a 0))] (k := 2) dX0_takeBest_75 hl rfl (by omega) (by decide) rfl (fun ls hl => ?_)
          refine j_goto F 4 dX0_takeBest_78 (by decide) ?_
          exact ih (i + 1) b H locs ls (by omega) (by omega) hb (fun j hj => by
            by_cases q : j = i
            · subst q; omega
            · exact hbest j (by omega)) G (lv_sub hl [0, 3, 4] rfl)
        · skip
          refine j_iload_n F dX0_takeBest_73 rfl (lv_at hl 2 rfl) ?_
          refine j_istore_n F [(1, .int (iI (((i : Nat) : Int)))), (4, .int (iI (jf le gl (op b)))), (3, .int (iI (jf le gl (op i)))), (2, .int (iI (((i : Nat) : Int)))), (0, .ref (a 0))] dX0_takeBest_74 rfl hl (by decide) rfl (fun ls hl => ?_)
          refine j_iinc F (((i + 1 : Nat) : Int)) [(2, .int (iI (((i + 1 : Nat) : Int)))), (1, .int (iI (((i : Nat) : Int)))), (4, .int (iI (jf le gl (op b)))), (3, .int (iI (jf le gl (op i)))), (0, .ref (a 0))] (k := 3) dX0_takeBest_75 hl rfl (by omega) (by decide) rfl (fun ls hl => ?_)
          refine j_goto F 4 dX0_takeBest_78 (by decide) ?_
          exact ih (i + 1) i H locs ls (by omega) (by omega) (by omega) (fun j hj => by
            by_cases q : j = i
            · subst q; omega
            · have := hbest j (by omega)
              omega) G (lv_sub hl [0, 1, 4] rfl)
  refine j_iconst F dX0_takeBest_0 ?_
  refine j_eq (((0 : Nat) : Int)) rfl ?_
  refine j_istore_n F [(1, .int (iI (((0 : Nat) : Int)))), (0, .ref (a 0))] dX0_takeBest_1 rfl hl (by decide) rfl (fun ls hl => ?_)
  refine j_iconst F dX0_takeBest_2 ?_
  refine j_eq (((1 : Nat) : Int)) rfl ?_
  refine j_istore_n F [(2, .int (iI (((1 : Nat) : Int)))), (1, .int (iI (((0 : Nat) : Int)))), (0, .ref (a 0))] dX0_takeBest_3 rfl hl (by decide) rfl (fun ls hl => ?_)
  exact LP (oc + 1) 1 0 _ _ ls (by omega) (by omega) (by omega) (fun j hj => by rw [show j = 0 by omega]; exact Int.le_refl _) G (lv_sub hl [0, 1, 2] rfl)

section K0takeBest
variable {p : Program} {l : Launch} {e : Env} {R : Room} {s : State} {m : MethodId} {args : Array Value} {below : List Frame} {meth : Method} {c : Code} {H : Heap} {locs : List Loc} {Q : State → Prop}
variable {cc : ByteArray} {pc : Nat} {ls : Array Slot} {rest : List Value} {nL : Nat}
variable {D : va_G} {a : Nat → Nat} {k : Nat → ClassId} {A : Nat → Prop} {w : Nat → Bool} {le dr ma op : Nat → Nat} {oc gl : Nat} {la : Int}
set_option maxHeartbeats 4000000 in
set_option maxRecDepth 100000 in
theorem k0_takeBest (F : CallFix p m c cc nL s args lw_all RX0) (hA : ∀ q, s.heap.size ≤ q → A q) (G : jG D a k A s (w, le, dr, ma, op, oc, gl, la) H locs)  (h : 1 ≤ oc ∧ oc ≤ 144 ∧ gl < 144 ∧ (∀ i, i < oc → op i < 144 ∧ le (op i) < 32768)) (hR : 1 + 1 ≤ R.frames ∧ 8 + (5 + 11) + 24 ≤ R.locals) (hsz : ls.size = nL) (hroom : (rest.map fun v => v.category).sum ≤ 8) (hdg : decode cc pc = .ok (.invokevirtual 69, 3)) (kk : ∀ (b : Nat) (H1 : Heap) (locs1 : List Loc), b < oc ∧ (∀ j, j < oc → jf le gl (op b) ≤ jf le gl (op j)) → jG D a k A s (w, le, dr, va_up ma (op b) 2, va_up op b (op (oc - 1)), oc - 1, gl, la) H1 locs1 → W p l e R s m args below meth c H1 locs1 0 0 Q (F0 m (pc + 3) ls (.int (iI ((op b : Nat) : Int)) :: rest))) : W p l e R s m args below meth c H locs 0 0 Q (F0 m pc ls (.ref (a 0) :: rest)) :=
  g_calli (As := []) F hA (JW_same a k) G (c0_takeBest l D a k w le dr ma op oc gl la  h) (cwV 0 F.2.2.2.2 (lw_V q83 q85 qs3 q17 q86) rfl rfl rfl (by decide +kernel) hR) (jrec G) hsz rfl hroom hdg (fun r x' H1 locs1 hp G1 => by obtain ⟨b, hb, rfl, rfl⟩ := hp; exact kk b H1 locs1 hb G1)
end K0takeBest
end
section
/-! ways on the grid: cost, the better of two ways, the turn that a best way may take, jumps along a best way -/
def pth (w : Nat → Bool) : Int → Int → List (Int × Int) → Int → Int → Prop
  | x, y, [], gx, gy => x = gx ∧ y = gy
  | x, y, d :: ms, gx, gy => okd d.1 d.2 ∧ jfre w (x + d.1) (y + d.2) = true ∧ pth w (x + d.1) (y + d.2) ms gx gy
def cst : List (Int × Int) → Nat
  | [] => 0
  | d :: ms => jmc d.1 d.2 + cst ms
def dgs : List (Int × Int) → Nat
  | [] => 0
  | d :: ms => (if d.1 ≠ 0 ∧ d.2 ≠ 0 then 1 else 0) + dgs ms
def phi : List (Int × Int) → Nat
  | [] => 0
  | d :: ms => (if d.1 ≠ 0 ∧ d.2 ≠ 0 then 0 else dgs ms) + phi ms
theorem jmc_in (dx dy : Int) : 10 ≤ jmc dx dy ∧ jmc dx dy ≤ 14 := by
  unfold jmc
  split <;> omega
theorem jmc_d {dx dy : Int} (h : dx ≠ 0 ∧ dy ≠ 0) : jmc dx dy = 14 := if_pos h
theorem jmc_s {dx dy : Int} (h : ¬ (dx ≠ 0 ∧ dy ≠ 0)) : jmc dx dy = 10 := if_neg h
theorem pth_app {w : Nat → Bool} : ∀ (a b : List (Int × Int)) (x y u v p q : Int), pth w x y a u v → pth w u v b p q → pth w x y (a ++ b) p q := by
  intro a
  induction a with
  | nil =>
    intro b x y u v p q h1 h2
    obtain ⟨rfl, rfl⟩ := h1
    exact h2
  | cons d ms ih =>
    intro b x y u v p q h1 h2
    exact ⟨h1.1, h1.2.1, ih b _ _ u v p q h1.2.2 h2⟩
theorem cst_app : ∀ (a b : List (Int × Int)), cst (a ++ b) = cst a + cst b := by
  intro a
  induction a with
  | nil => intro b; show cst b = 0 + cst b; omega
  | cons d ms ih =>
    intro b
    show jmc d.1 d.2 + cst (ms ++ b) = jmc d.1 d.2 + cst ms + cst b
    rw [ih b]; omega
/-- a is better than b -/
def bet (a b : List (Int × Int)) : Prop := cst a < cst b ∨ (cst a = cst b ∧ dgs a = dgs b ∧ phi a < phi b)
theorem bet_cons (d : Int × Int) {a b : List (Int × Int)} (h : bet a b) : bet (d :: a) (d :: b) := by
  unfold bet at h ⊢
  show jmc d.1 d.2 + cst a < jmc d.1 d.2 + cst b ∨ (jmc d.1 d.2 + cst a = jmc d.1 d.2 + cst b ∧ (if d.1 ≠ 0 ∧ d.2 ≠ 0 then 1 else 0) + dgs a = (if d.1 ≠ 0 ∧ d.2 ≠ 0 then 1 else 0) + dgs b ∧ (if d.1 ≠ 0 ∧ d.2 ≠ 0 then 0 else dgs a) + phi a < (if d.1 ≠ 0 ∧ d.2 ≠ 0 then 0 else dgs b) + phi b)
  rcases h with h | ⟨h1, h2, h3⟩
  · left; omega
  · right
    refine ⟨by omega, by omega, ?_⟩
    rw [h2]; omega
/-- a way that no way betters -/
def nb (w : Nat → Bool) (x y : Int) (ms : List (Int × Int)) (gx gy : Int) : Prop := pth w x y ms gx gy ∧ ∀ ms', pth w x y ms' gx gy → ¬ bet ms' ms
theorem nb_tail {w : Nat → Bool} {x y gx gy : Int} {d : Int × Int} {ms : List (Int × Int)} (h : nb w x y (d :: ms) gx gy) : nb w (x + d.1) (y + d.2) ms gx gy := by
  refine ⟨h.1.2.2, fun ms' hp hb => ?_⟩
  exact h.2 (d :: ms') ⟨h.1.1, h.1.2.1, hp⟩ (bet_cons d hb)
theorem nb_ex {w : Nat → Bool} {x y gx gy : Int} (h : ∃ ms, pth w x y ms gx gy) : ∃ ms, nb w x y ms gx gy ∧ ∀ ms', pth w x y ms' gx gy → cst ms ≤ cst ms' := by
  obtain ⟨m0, h0⟩ := h
  obtain ⟨n, ⟨m1, h1, h1c⟩, hn⟩ := pk_least (fun n => ∃ ms, pth w x y ms gx gy ∧ cst ms = n) ⟨cst m0, m0, h0, rfl⟩
  obtain ⟨f, ⟨m2, h2, h2c, h2f⟩, hf⟩ := pk_least (fun f => ∃ ms, pth w x y ms gx gy ∧ cst ms = n ∧ phi ms = f) ⟨phi m1, m1, h1, h1c, rfl⟩
  refine ⟨m2, ⟨h2, fun ms' hp hb => ?_⟩, fun ms' hp => ?_⟩
  · rcases hb with hb | ⟨hb1, _, hb3⟩
    · exact hn (cst ms') (by omega) ⟨ms', hp, rfl⟩
    · exact hf (phi ms') (by omega) ⟨ms', hp, by omega, rfl⟩
  · rcases Nat.lt_or_ge (cst ms') (cst m2) with q | q
    · exact absurd ⟨ms', hp, rfl⟩ (hn (cst ms') (by omega))
    · exact q
theorem jfc1_bit {w : Nat → Bool} {x y sx sy tx ty : Int} (h1 : jfre w (x + sx) (y + sy) = false) (h2 : jfre w (x + tx) (y + ty) = true) : (jfc1 w x y sx sy tx ty).testBit (jix tx ty) = true := by
  unfold jfc1
  rw [if_pos ⟨h1, h2⟩]
  unfold jbit
  exact Nat.testBit_two_pow_self
theorem jb_or1 {a b i : Nat} (h : a.testBit i = true) : (a ||| b).testBit i = true := by
  rw [Nat.testBit_or, h, Bool.true_or]
theorem jb_or2 {a b i : Nat} (h : b.testBit i = true) : (a ||| b).testBit i = true := by
  rw [Nat.testBit_or, h, Bool.or_true]
theorem jnfre {w : Nat → Bool} {x y : Int} (h : ¬ jfre w x y = true) : jfre w x y = false := by
  rcases hq : jfre w x y with _ | _
  · rfl
  · exact absurd hq h
/-- the way on that a turn may take: as natural, or forced -/
theorem jturn {w : Nat → Bool} {x y d1 d2 e1 e2 gx gy : Int} {ms : List (Int × Int)} (h : nb w x y ((d1, d2) :: (e1, e2) :: ms) gx gy) :
    ((e1 = d1 ∧ e2 = d2) ∨ (d1 ≠ 0 ∧ d2 ≠ 0 ∧ ((e1 = d1 ∧ e2 = 0) ∨ (e1 = 0 ∧ e2 = d2)))) ∨ (jfcd w (x + d1) (y + d2) d1 d2).testBit (jix e1 e2) = true := by
  obtain ⟨⟨hd, hf, he, hfe, hp⟩, hn⟩ := h
  have hd : okd d1 d2 := hd
  have he : okd e1 e2 := he
  have hf : jfre w (x + d1) (y + d2) = true := hf
  have hfe : jfre w (x + d1 + e1) (y + d2 + e2) = true := hfe
  have hp : pth w (x + d1 + e1) (y + d2 + e2) ms gx gy := hp
  have c0 : cst ((d1, d2) :: (e1, e2) :: ms) = jmc d1 d2 + (jmc e1 e2 + cst ms) := rfl
  have m1 := jmc_in d1 d2
  have m2 := jmc_in e1 e2
  have hA : ¬ (d1 + e1 = 0 ∧ d2 + e2 = 0) := by
    intro q
    refine hn ms ?_ (Or.inl (by rw [c0]; omega))
    rw [show x + d1 + e1 = x by omega, show y + d2 + e2 = y by omega] at hp
    exact hp
  have hB : ¬ okd (d1 + e1) (d2 + e2) := by
    intro q
    have m3 := jmc_in (d1 + e1) (d2 + e2)
    refine hn ((d1 + e1, d2 + e2) :: ms) ⟨q, ?_, ?_⟩ (Or.inl ?_)
    · show jfre w (x + (d1 + e1)) (y + (d2 + e2)) = true
      rw [← Int.add_assoc, ← Int.add_assoc]; exact hfe
    · show pth w (x + (d1 + e1)) (y + (d2 + e2)) ms gx gy
      rw [← Int.add_assoc, ← Int.add_assoc]; exact hp
    · rw [c0]
      show jmc (d1 + e1) (d2 + e2) + cst ms < _
      omega
  unfold okd at hd he hB
  by_cases hdi : d1 ≠ 0 ∧ d2 ≠ 0
  · by_cases hs : e1 = d1 ∧ e2 = d2
    · exact Or.inl (Or.inl hs)
    by_cases h1 : e1 = d1 ∧ e2 = 0
    · exact Or.inl (Or.inr ⟨hdi.1, hdi.2, Or.inl h1⟩)
    by_cases h2 : e1 = 0 ∧ e2 = d2
    · exact Or.inl (Or.inr ⟨hdi.1, hdi.2, Or.inr h2⟩)
    right
    have hc : (e1 = d1 ∧ e2 = -d2) ∨ (e1 = -d1 ∧ e2 = d2) := by omega
    have mD := jmc_d hdi
    unfold jfcd
    rw [if_pos hdi]
    rcases hc with ⟨rfl, rfl⟩ | ⟨rfl, rfl⟩
    · refine jb_or2 (jfc1_bit (jnfre fun q => ?_) ?_)
      · rw [show x + e1 + 0 = x + e1 by omega, show y + d2 + -d2 = y + 0 by omega] at q
        refine hn ((e1, 0) :: (e1, 0) :: ms) ⟨?_, q, ?_, ?_, ?_⟩ (Or.inl ?_)
        · show okd e1 0
          unfold okd; omega
        · show okd e1 0
          unfold okd; omega
        · show jfre w (x + e1 + e1) (y + 0 + 0) = true
          rw [show y + 0 + 0 = y + d2 + -d2 by omega]; exact hfe
        · show pth w (x + e1 + e1) (y + 0 + 0) ms gx gy
          rw [show y + 0 + 0 = y + d2 + -d2 by omega]; exact hp
        · have mS : jmc e1 0 = 10 := jmc_s (by omega)
          rw [c0]
          show jmc e1 0 + (jmc e1 0 + cst ms) < _
          omega
      · exact hfe
    · refine jb_or1 (jfc1_bit (jnfre fun q => ?_) ?_)
      · rw [show x + d1 + -d1 = x + 0 by omega, show y + e2 + 0 = y + e2 by omega] at q
        refine hn ((0, e2) :: (0, e2) :: ms) ⟨?_, q, ?_, ?_, ?_⟩ (Or.inl ?_)
        · show okd 0 e2
          unfold okd; omega
        · show okd 0 e2
          unfold okd; omega
        · show jfre w (x + 0 + 0) (y + e2 + e2) = true
          rw [show x + 0 + 0 = x + d1 + -d1 by omega]; exact hfe
        · show pth w (x + 0 + 0) (y + e2 + e2) ms gx gy
          rw [show x + 0 + 0 = x + d1 + -d1 by omega]; exact hp
        · have mS : jmc 0 e2 = 10 := jmc_s (by omega)
          rw [c0]
          show jmc 0 e2 + (jmc 0 e2 + cst ms) < _
          omega
      · exact hfe
  · by_cases hs : e1 = d1 ∧ e2 = d2
    · exact Or.inl (Or.inl hs)
    right
    have hei : e1 ≠ 0 ∧ e2 ≠ 0 := by omega
    have hc : (d2 = 0 ∧ d1 ≠ 0 ∧ e1 = d1 ∧ (e2 = -1 ∨ e2 = 1)) ∨ (d1 = 0 ∧ d2 ≠ 0 ∧ e2 = d2 ∧ (e1 = -1 ∨ e1 = 1)) := by omega
    have hwall : jfre w (x + e1) (y + e2) = false := by
      refine jnfre fun q => ?_
      refine hn ((e1, e2) :: (d1, d2) :: ms) ⟨?_, q, ?_, ?_, ?_⟩ (Or.inr ⟨?_, ?_, ?_⟩)
      · show okd e1 e2
        unfold okd; omega
      · show okd d1 d2
        unfold okd; omega
      · show jfre w (x + e1 + d1) (y + e2 + d2) = true
        rw [show x + e1 + d1 = x + d1 + e1 by omega, show y + e2 + d2 = y + d2 + e2 by omega]; exact hfe
      · show pth w (x + e1 + d1) (y + e2 + d2) ms gx gy
        rw [show x + e1 + d1 = x + d1 + e1 by omega, show y + e2 + d2 = y + d2 + e2 by omega]; exact hp
      · rw [c0]
        show jmc e1 e2 + (jmc d1 d2 + cst ms) = _
        omega
      · show (if e1 ≠ 0 ∧ e2 ≠ 0 then 1 else 0) + ((if d1 ≠ 0 ∧ d2 ≠ 0 then 1 else 0) + dgs ms) = (if d1 ≠ 0 ∧ d2 ≠ 0 then 1 else 0) + ((if e1 ≠ 0 ∧ e2 ≠ 0 then 1 else 0) + dgs ms)
        omega
      · show (if e1 ≠ 0 ∧ e2 ≠ 0 then 0 else ((if d1 ≠ 0 ∧ d2 ≠ 0 then 1 else 0) + dgs ms)) + ((if d1 ≠ 0 ∧ d2 ≠ 0 then 0 else dgs ms) + phi ms) < (if d1 ≠ 0 ∧ d2 ≠ 0 then 0 else ((if e1 ≠ 0 ∧ e2 ≠ 0 then 1 else 0) + dgs ms)) + ((if e1 ≠ 0 ∧ e2 ≠ 0 then 0 else dgs ms) + phi ms)
        rw [if_pos hei, if_neg hdi, if_neg hdi, if_pos hei, if_pos hei]
        omega
    unfold jfcd
    rw [if_neg hdi]
    rcases hc with ⟨rfl, h1, rfl, h2⟩ | ⟨rfl, h1, rfl, h2⟩
    · have s1 : ∀ s : Int, jsd e1 s = 0 := fun s => if_neg h1
      have s2 : ∀ s : Int, jsd 0 s = s := fun s => if_pos rfl
      rw [s1, s1, s2, s2]
      rcases h2 with rfl | rfl
      · refine jb_or1 ?_
        have q := jfc1_bit (w := w) (x := x + e1) (y := y + 0) (sx := 0) (sy := -1) (tx := e1 + 0) (ty := 0 + -1) (by rw [show x + e1 + 0 = x + e1 by omega, show y + 0 + -1 = y + -1 by omega]; exact hwall) (by rw [show x + e1 + (e1 + 0) = x + e1 + e1 by omega, show y + 0 + (0 + -1) = y + 0 + -1 by omega]; exact hfe)
        rw [show jix e1 (-1) = jix (e1 + 0) (0 + -1) by rw [Int.add_zero, Int.zero_add]]
        exact q
      · refine jb_or2 ?_
        have q := jfc1_bit (w := w) (x := x + e1) (y := y + 0) (sx := 0) (sy := 1) (tx := e1 + 0) (ty := 0 + 1) (by rw [show x + e1 + 0 = x + e1 by omega, show y + 0 + 1 = y + 1 by omega]; exact hwall) (by rw [show x + e1 + (e1 + 0) = x + e1 + e1 by omega, show y + 0 + (0 + 1) = y + 0 + 1 by omega]; exact hfe)
        rw [show jix e1 1 = jix (e1 + 0) (0 + 1) by rw [Int.add_zero, Int.zero_add]]
        exact q
    · have s1 : ∀ s : Int, jsd e2 s = 0 := fun s => if_neg h1
      have s2 : ∀ s : Int, jsd 0 s = s := fun s => if_pos rfl
      rw [s1, s1, s2, s2]
      rcases h2 with rfl | rfl
      · refine jb_or1 ?_
        have q := jfc1_bit (w := w) (x := x + 0) (y := y + e2) (sx := -1) (sy := 0) (tx := 0 + -1) (ty := e2 + 0) (by rw [show x + 0 + -1 = x + -1 by omega, show y + e2 + 0 = y + e2 by omega]; exact hwall) (by rw [show x + 0 + (0 + -1) = x + 0 + -1 by omega, show y + e2 + (e2 + 0) = y + e2 + e2 by omega]; exact hfe)
        rw [show jix (-1) e2 = jix (0 + -1) (e2 + 0) by rw [Int.add_zero, Int.zero_add]]
        exact q
      · refine jb_or2 ?_
        have q := jfc1_bit (w := w) (x := x + 0) (y := y + e2) (sx := 1) (sy := 0) (tx := 0 + 1) (ty := e2 + 0) (by rw [show x + 0 + 1 = x + 1 by omega, show y + e2 + 0 = y + e2 by omega]; exact hwall) (by rw [show x + 0 + (0 + 1) = x + 0 + 1 by omega, show y + e2 + (e2 + 0) = y + e2 + e2 by omega]; exact hfe)
        rw [show jix 1 e2 = jix (0 + 1) (e2 + 0) by rw [Int.add_zero, Int.zero_add]]
        exact q
/-- a turn's direction is among those to go on in -/
theorem jturn_nx {w : Nat → Bool} {x y d1 d2 e1 e2 : Int} (h : ((e1 = d1 ∧ e2 = d2) ∨ (d1 ≠ 0 ∧ d2 ≠ 0 ∧ ((e1 = d1 ∧ e2 = 0) ∨ (e1 = 0 ∧ e2 = d2)))) ∨ (jfcd w x y d1 d2).testBit (jix e1 e2) = true) : (jnx w x y d1 d2).testBit (jix e1 e2) = true := by
  have hb : ∀ a b : Int, (jbit a b).testBit (jix a b) = true := fun a b => by unfold jbit; exact Nat.testBit_two_pow_self
  unfold jnx
  split
  · rcases h with (⟨rfl, rfl⟩ | ⟨_, _, ⟨rfl, rfl⟩ | ⟨rfl, rfl⟩⟩) | h
    · exact jb_or1 (jb_or1 (hb _ _))
    · exact jb_or2 (jb_or1 (hb _ _))
    · exact jb_or2 (jb_or2 (hb _ _))
    · exact jb_or1 (jb_or2 h)
  · rename_i hdi
    rcases h with (⟨rfl, rfl⟩ | ⟨h1, h2, _⟩) | h
    · exact jb_or1 (hb _ _)
    · exact absurd ⟨h1, h2⟩ hdi
    · exact jb_or2 h
/-- what a jump along a best way comes to -/
def jalong (w : Nat → Bool) (dx dy gx gy : Int) (k : Nat) (tot : Nat) (o : Option (Nat × Int × Int)) : Prop := ∃ (k' : Nat) (x' y' : Int) (ms' : List (Int × Int)), o = some (k', x', y') ∧ k < k' ∧ nb w x' y' ms' gx gy ∧ tot = (k' - k) * jmc dx dy + cst ms' ∧ (ms' = [] ∨ ∃ e ms'', ms' = e :: ms'' ∧ (jnx w x' y' dx dy).testBit (jix e.1 e.2) = true)
theorem jst_along {w : Nat → Bool} {d1 d2 gx gy : Int} (hs : ¬ (d1 ≠ 0 ∧ d2 ≠ 0)) : ∀ (n k : Nat) (x y : Int) (ms : List (Int × Int)), (0 ≤ x ∧ x < 12 ∧ 0 ≤ y ∧ y < 12) → jlft d1 d2 x y < (n : Int) → nb w x y ((d1, d2) :: ms) gx gy → jalong w d1 d2 gx gy k (cst ((d1, d2) :: ms)) (jst w (12 * gy + gx) d1 d2 n k x y) := by
  intro n
  induction n with
  | zero =>
    intro k x y ms hin hl
    have := (jlft_in (dx := d1) (dy := d2) hin).1
    omega
  | succ n ih =>
    intro k x y ms hin hl h
    have hf : jfre w (x + d1) (y + d2) = true := h.1.2.1
    have hd : okd d1 d2 := h.1.1
    have ht := nb_tail h
    have hin' := (jfre_iff.mp hf).1
    unfold jst
    rw [if_pos hf]
    by_cases hc : 12 * (y + d2) + (x + d1) = 12 * gy + gx ∨ jfcd w (x + d1) (y + d2) d1 d2 ≠ 0
    · rw [if_pos hc]
      refine ⟨k + 1, x + d1, y + d2, ms, rfl, by omega, ht, ?_, ?_⟩
      · rw [show k + 1 - k = 1 by omega, Nat.one_mul]; rfl
      · match ms, h with
        | [], _ => exact Or.inl rfl
        | (e1, e2) :: ms'', h => exact Or.inr ⟨(e1, e2), ms'', rfl, jturn_nx (jturn h)⟩
    · rw [if_neg hc]
      match ms, h, ht with
      | [], h, ht =>
        obtain ⟨q1, q2⟩ := ht.1
        have q1 : x + d1 = gx := q1
        have q2 : y + d2 = gy := q2
        exact absurd (Or.inl (by rw [q1, q2])) hc
      | (e1, e2) :: ms'', h, ht =>
        have hfz : jfcd w (x + d1) (y + d2) d1 d2 = 0 := by
          rcases Nat.eq_zero_or_pos (jfcd w (x + d1) (y + d2) d1 d2) with q | q
          · exact q
          · exact absurd (Or.inr (by omega)) hc
        have hee : e1 = d1 ∧ e2 = d2 := by
          rcases jturn h with (q | ⟨q1, q2, _⟩) | q
          · exact q
          · exact absurd ⟨q1, q2⟩ hs
          · rw [hfz, Nat.zero_testBit] at q; cases q
        obtain ⟨rfl, rfl⟩ := hee
        have hl' := jlft_step (x := x) (y := y) hd
        obtain ⟨k', x', y', ms', r1, r2, r3, r4, r5⟩ := ih (k + 1) (x + e1) (y + e2) ms'' hin' (by omega) ht
        refine ⟨k', x', y', ms', r1, by omega, r3, ?_, r5⟩
        show jmc e1 e2 + cst ((e1, e2) :: ms'') = _
        rw [r4, show k' - k = (k' - (k + 1)) + 1 by omega, Nat.add_mul]
        omega
theorem jdg_along {w : Nat → Bool} {d1 d2 gx gy : Int} (hs : d1 ≠ 0 ∧ d2 ≠ 0) : ∀ (n k : Nat) (x y : Int) (ms : List (Int × Int)), (0 ≤ x ∧ x < 12 ∧ 0 ≤ y ∧ y < 12) → jlft d1 d2 x y < (n : Int) → nb w x y ((d1, d2) :: ms) gx gy → jalong w d1 d2 gx gy k (cst ((d1, d2) :: ms)) (jdg w (12 * gy + gx) d1 d2 n k x y) := by
  intro n
  induction n with
  | zero =>
    intro k x y ms hin hl
    have := (jlft_in (dx := d1) (dy := d2) hin).1
    omega
  | succ n ih =>
    intro k x y ms hin hl h
    have hf : jfre w (x + d1) (y + d2) = true := h.1.2.1
    have hd : okd d1 d2 := h.1.1
    have ht := nb_tail h
    have hin' := (jfre_iff.mp hf).1
    unfold jdg
    rw [if_pos hf]
    by_cases hc : (12 * (y + d2) + (x + d1) = 12 * gy + gx ∨ jfcd w (x + d1) (y + d2) d1 d2 ≠ 0) ∨ ((jst w (12 * gy + gx) d1 0 12 0 (x + d1) (y + d2)).isSome = true ∨ (jst w (12 * gy + gx) 0 d2 12 0 (x + d1) (y + d2)).isSome = true)
    · rw [if_pos hc]
      refine ⟨k + 1, x + d1, y + d2, ms, rfl, by omega, ht, ?_, ?_⟩
      · rw [show k + 1 - k = 1 by omega, Nat.one_mul]; rfl
      · match ms, h with
        | [], _ => exact Or.inl rfl
        | (e1, e2) :: ms'', h => exact Or.inr ⟨(e1, e2), ms'', rfl, jturn_nx (jturn h)⟩
    · rw [if_neg hc]
      match ms, h, ht with
      | [], h, ht =>
        obtain ⟨q1, q2⟩ := ht.1
        have q1 : x + d1 = gx := q1
        have q2 : y + d2 = gy := q2
        exact absurd (Or.inl (Or.inl (by rw [q1, q2]))) hc
      | (e1, e2) :: ms'', h, ht =>
        have hfz : jfcd w (x + d1) (y + d2) d1 d2 = 0 := by
          rcases Nat.eq_zero_or_pos (jfcd w (x + d1) (y + d2) d1 d2) with q | q
          · exact q
          · exact absurd (Or.inl (Or.inr (by omega))) hc
        have hlt : ∀ a b : Int, jlft a b (x + d1) (y + d2) < ((12 : Nat) : Int) := fun a b => by
          have := (jlft_in (dx := a) (dy := b) hin').2
          omega
        have hee : e1 = d1 ∧ e2 = d2 := by
          rcases jturn h with (q | ⟨q1, q2, ⟨q3, q4⟩ | ⟨q3, q4⟩⟩) | q
          · exact q
          · exfalso
            subst q3; subst q4
            obtain ⟨k', x', y', ms', r1, _⟩ := jst_along (d1 := e1) (d2 := 0) (by omega) 12 0 (x + e1) (y + d2) ms'' hin' (hlt _ _) ht
            exact hc (Or.inr (Or.inl (by rw [r1]; rfl)))
          · exfalso
            subst q3; subst q4
            obtain ⟨k', x', y', ms', r1, _⟩ := jst_along (d1 := 0) (d2 := e2) (by omega) 12 0 (x + d1) (y + e2) ms'' hin' (hlt _ _) ht
            exact hc (Or.inr (Or.inr (by rw [r1]; rfl)))
          · rw [hfz, Nat.zero_testBit] at q; cases q
        obtain ⟨rfl, rfl⟩ := hee
        have hl' := jlft_step (x := x) (y := y) hd
        obtain ⟨k', x', y', ms', r1, r2, r3, r4, r5⟩ := ih (k + 1) (x + e1) (y + e2) ms'' hin' (by omega) ht
        refine ⟨k', x', y', ms', r1, by omega, r3, ?_, r5⟩
        show jmc e1 e2 + cst ((e1, e2) :: ms'') = _
        rw [r4, show k' - k = (k' - (k + 1)) + 1 by omega, Nat.add_mul]
        omega
theorem jmp_along {w : Nat → Bool} {d1 d2 gx gy x y : Int} {ms : List (Int × Int)} (hin : 0 ≤ x ∧ x < 12 ∧ 0 ≤ y ∧ y < 12) (h : nb w x y ((d1, d2) :: ms) gx gy) : jalong w d1 d2 gx gy 0 (cst ((d1, d2) :: ms)) (jmp w (12 * gy + gx) x y d1 d2) := by
  have hlt : jlft d1 d2 x y < ((12 : Nat) : Int) := by
    have := (jlft_in (dx := d1) (dy := d2) hin).2
    omega
  unfold jmp
  split
  · rename_i hs
    exact jdg_along hs 12 0 x y ms hin hlt h
  · rename_i hs
    exact jst_along hs 12 0 x y ms hin hlt h
/-- a jump is a way -/
def jway (w : Nat → Bool) (dx dy x y : Int) (k : Nat) (o : Option (Nat × Int × Int)) : Prop := ∀ (k' : Nat) (x' y' : Int), o = some (k', x', y') → k < k' ∧ jfre w x' y' = true ∧ jlft dx dy x' y' = jlft dx dy x y - ((k' - k : Nat) : Int) ∧ ∃ ms, pth w x y ms x' y' ∧ cst ms = (k' - k) * jmc dx dy
theorem jway_one {w : Nat → Bool} {dx dy x y : Int} {k : Nat} (hd : okd dx dy) (hf : jfre w (x + dx) (y + dy) = true) : jway w dx dy x y k (some (k + 1, x + dx, y + dy)) := by
  intro k' x' y' h
  cases h
  refine ⟨by omega, hf, ?_, [(dx, dy)], ⟨hd, hf, rfl, rfl⟩, ?_⟩
  · rw [jlft_step hd]; omega
  · show jmc dx dy + 0 = _
    rw [show k + 1 - k = 1 by omega]; omega
theorem jway_more {w : Nat → Bool} {dx dy x y : Int} {k : Nat} {o : Option (Nat × Int × Int)} (hd : okd dx dy) (hf : jfre w (x + dx) (y + dy) = true) (h : jway w dx dy (x + dx) (y + dy) (k + 1) o) : jway w dx dy x y k o := by
  intro k' x' y' ho
  obtain ⟨h1, h2, h3, ms, h4, h5⟩ := h k' x' y' ho
  refine ⟨by omega, h2, ?_, (dx, dy) :: ms, ⟨hd, hf, h4⟩, ?_⟩
  · rw [h3, jlft_step hd]; omega
  · show jmc dx dy + cst ms = _
    rw [h5, show k' - k = (k' - (k + 1)) + 1 by omega, Nat.add_mul]
    omega
theorem jst_way {w : Nat → Bool} {g dx dy : Int} (hd : okd dx dy) : ∀ (n k : Nat) (x y : Int), jway w dx dy x y k (jst w g dx dy n k x y) := by
  intro n
  induction n with
  | zero => intro k x y k' x' y' h; cases h
  | succ n ih =>
    intro k x y
    unfold jst
    split
    · rename_i hf
      split
      · exact jway_one hd hf
      · exact jway_more hd hf (ih (k + 1) (x + dx) (y + dy))
    · intro k' x' y' h; cases h
theorem jdg_way {w : Nat → Bool} {g dx dy : Int} (hd : okd dx dy) : ∀ (n k : Nat) (x y : Int), jway w dx dy x y k (jdg w g dx dy n k x y) := by
  intro n
  induction n with
  | zero => intro k x y k' x' y' h; cases h
  | succ n ih =>
    intro k x y
    unfold jdg
    split
    · rename_i hf
      split
      · exact jway_one hd hf
      · exact jway_more hd hf (ih (k + 1) (x + dx) (y + dy))
    · intro k' x' y' h; cases h
theorem jmp_way {w : Nat → Bool} {g x y dx dy : Int} (hd : okd dx dy) : jway w dx dy x y 0 (jmp w g x y dx dy) := by
  unfold jmp
  split
  · exact jdg_way hd 12 0 x y
  · exact jst_way hd 12 0 x y
/-- no way costs less than jal says -/
theorem jal_le {w : Nat → Bool} {gx gy : Int} : ∀ (ms : List (Int × Int)) (x y : Int), pth w x y ms gx gy → jal x y gx gy ≤ (cst ms : Int) := by
  intro ms
  induction ms with
  | nil =>
    intro x y h
    obtain ⟨rfl, rfl⟩ := h
    unfold jal jab
    show _ ≤ ((0 : Nat) : Int)
    repeat' split
    all_goals omega
  | cons d ms ih =>
    intro x y h
    obtain ⟨d1, d2⟩ := d
    have hd : okd d1 d2 := h.1
    have h1 := ih _ _ h.2.2
    have h1 : jal (x + d1) (y + d2) gx gy ≤ (cst ms : Int) := h1
    show jal x y gx gy ≤ ((jmc d1 d2 + cst ms : Nat) : Int)
    have h2 : jal x y gx gy ≤ (jmc d1 d2 : Int) + jal (x + d1) (y + d2) gx gy := by
      unfold okd at hd
      by_cases hdi : d1 ≠ 0 ∧ d2 ≠ 0
      · rw [jmc_d hdi]
        unfold jal jab
        repeat' split
        all_goals omega
      · rw [jmc_s hdi]
        unfold jal jab
        repeat' split
        all_goals omega
    omega
end
section
/-! the search, plain: its invariant, the offer, the best of the list, what the end says -/
def sm (f : Nat → Nat) : Nat → Nat
  | 0 => 0
  | n + 1 => sm f n + f n
theorem sm_eq {f g : Nat → Nat} : ∀ n : Nat, (∀ j, j < n → f j = g j) → sm f n = sm g n := by
  intro n
  induction n with
  | zero => intro _; rfl
  | succ n ih =>
    intro h
    show sm f n + f n = sm g n + g n
    rw [ih (fun j hj => h j (by omega)), h n (by omega)]
theorem sm_swap {f g : Nat → Nat} {s : Nat} (h : ∀ j, j ≠ s → f j = g j) : ∀ n : Nat, s < n → sm f n + g s = sm g n + f s := by
  intro n
  induction n with
  | zero => intro hs; omega
  | succ n ih =>
    intro hs
    show sm f n + f n + g s = sm g n + g n + f s
    by_cases hq : s = n
    · subst hq
      have h1 : sm f s = sm g s := sm_eq s (fun j hj => h j (by omega))
      omega
    · have h1 := ih (by omega)
      have h2 := h n (by omega)
      omega
theorem sm_le {f : Nat → Nat} (h : ∀ j, f j ≤ 1) : ∀ n : Nat, sm f n ≤ n := by
  intro n
  induction n with
  | zero => exact Nat.le_refl 0
  | succ n ih =>
    have h1 := h n
    show sm f n + f n ≤ n + 1
    omega
theorem sm_zero : ∀ n : Nat, sm (fun _ => 0) n = 0 := by
  intro n
  induction n with
  | zero => rfl
  | succ n ih => show sm (fun _ => 0) n + 0 = 0; omega
def i1 (ma : Nat → Nat) (j : Nat) : Nat := if ma j = 1 then 1 else 0
def im (ma : Nat → Nat) (j : Nat) : Nat := if ma j = 0 then 0 else 1
def cnt1 (ma : Nat → Nat) : Nat := sm (i1 ma) 144
def cntm (ma : Nat → Nat) : Nat := sm (im ma) 144
def jv (le dr ma : Nat → Nat) (c : Nat) : Nat := if ma c = 0 then 30000000 else (le c * 512 + (511 - dr c)) * 2 + i1 ma c
/-- what falls at every turn of the search -/
def jmu (le dr ma : Nat → Nat) : Nat := sm (jv le dr ma) 144
def jlen (w : Nat → Bool) (fr c n : Nat) : Prop := ∃ ms, pth w (jcx fr) (jcy fr) ms (jcx c) (jcy c) ∧ cst ms = n
/-- the cell c is done in the direction d -/
def clo (w : Nat → Bool) (gl : Nat) (le dr ma : Nat → Nat) (c d : Nat) : Prop := ∀ (k : Nat) (x' y' : Int), jmp w (gl : Int) (jcx c) (jcy c) (jdx d) (jdy d) = some (k, x', y') → ma (jcl x' y') ≠ 0 ∧ (le (jcl x' y') < le c + k * jmc (jdx d) (jdy d) ∨ (le (jcl x' y') = le c + k * jmc (jdx d) (jdy d) ∧ dr (jcl x' y') ||| jnx w x' y' (jdx d) (jdy d) = dr (jcl x' y')))
def jL (ma op : Nat → Nat) (oc : Nat) : Prop := cnt1 ma = oc ∧ (∀ i, i < oc → op i < 144 ∧ ma (op i) = 1) ∧ (∀ i j, i < oc → j < oc → op i = op j → i = j) ∧ (∀ c, c < 144 → ma c = 1 → ∃ i, i < oc ∧ op i = c)
def jC (w : Nat → Bool) (fr : Nat) (le dr ma : Nat → Nat) : Prop := ∀ c, c < 144 → ma c ≠ 0 → w c = false ∧ dr c < 512 ∧ jlen w fr c (le c) ∧ le c + 154 ≤ 154 * cntm ma
/-- the invariant; the cell c0 is done in the directions ahead of d0 alone -/
def jI (w : Nat → Bool) (fr gl : Nat) (le dr ma op : Nat → Nat) (oc c0 d0 : Nat) : Prop :=
  (∀ c, c < 144 → ma c ≤ 2) ∧ (fr < 144 ∧ gl < 144 ∧ w fr = false ∧ ma fr ≠ 0 ∧ le fr = 0 ∧ dr fr = 511) ∧ jC w fr le dr ma ∧ jL ma op oc ∧
  (∀ c d, c < 144 → ma c = 2 → d < 9 → d ≠ 4 → (dr c).testBit d = true → (c ≠ c0 ∨ d < d0) → clo w gl le dr ma c d) ∧ ma gl ≠ 2
theorem i1_le (ma : Nat → Nat) (j : Nat) : i1 ma j ≤ 1 := by unfold i1; split <;> omega
theorem im_le (ma : Nat → Nat) (j : Nat) : im ma j ≤ 1 := by unfold im; split <;> omega
theorem cntm_le (ma : Nat → Nat) : cntm ma ≤ 144 := sm_le (im_le ma) 144
theorem jC_le {w : Nat → Bool} {fr : Nat} {le dr ma : Nat → Nat} (h : jC w fr le dr ma) {c : Nat} (hc : c < 144) (hm : ma c ≠ 0) : le c ≤ 22022 := by
  have h1 := (h c hc hm).2.2.2
  have h2 := cntm_le ma
  omega
theorem jL_room {ma op : Nat → Nat} {oc s : Nat} (h : jL ma op oc) (hs : s < 144) (hm : ma s ≠ 1) : oc < 144 := by
  have h1 := sm_swap (f := i1 ma) (g := va_up (i1 ma) s 1) (s := s) (fun j hj => (va_up_ne _ _ hj).symm) 144 hs
  rw [va_up_self] at h1
  have h2 : sm (va_up (i1 ma) s 1) 144 ≤ 144 := sm_le (fun j => by
    by_cases hj : j = s
    · subst hj; rw [va_up_self]; exact Nat.le_refl 1
    · rw [va_up_ne _ _ hj]; exact i1_le ma j) 144
  have h3 : i1 ma s = 0 := if_neg hm
  have h4 : cnt1 ma = oc := h.1
  unfold cnt1 at h4
  omega
theorem va_up_id {α : Type} (f : Nat → α) (k : Nat) : va_up f k (f k) = f := by
  funext j
  by_cases hj : j = k
  · subst hj; rw [va_up_self]
  · rw [va_up_ne _ _ hj]
theorem jcl_in {x y : Int} (h : 0 ≤ x ∧ x < 12 ∧ 0 ≤ y ∧ y < 12) : jcl x y < 144 ∧ jcx (jcl x y) = x ∧ jcy (jcl x y) = y ∧ ((jcl x y : Nat) : Int) = 12 * y + x := by
  unfold jcl jcx jcy
  omega
theorem jcxy {c : Nat} (h : c < 144) : (0 ≤ jcx c ∧ jcx c < 12 ∧ 0 ≤ jcy c ∧ jcy c < 12) ∧ 12 * jcy c + jcx c = (c : Int) ∧ jcl (jcx c) (jcy c) = c := by
  unfold jcl jcx jcy
  omega
theorem jdxy {d : Nat} (h : d < 9) (h4 : d ≠ 4) : okd (jdx d) (jdy d) ∧ jix (jdx d) (jdy d) = d := by
  unfold okd jix jdx jdy
  omega
theorem jix_in {e1 e2 : Int} (h : okd e1 e2) : jix e1 e2 < 9 ∧ jix e1 e2 ≠ 4 ∧ jdx (jix e1 e2) = e1 ∧ jdy (jix e1 e2) = e2 := by
  unfold okd at h
  unfold jix jdx jdy
  omega
/-- the list behind a push -/
def jmk (ma : Nat → Nat) (s : Nat) : Nat → Nat := if ma s = 1 then ma else va_up ma s 1
theorem jpush_eq (le dr ma op : Nat → Nat) (oc s : Nat) : jpush le dr ma op oc s = (le, dr, jmk ma s, (if ma s = 1 then op else va_up op oc s), (if ma s = 1 then oc else oc + 1)) := by
  unfold jpush jmk
  split <;> rfl
theorem jmk_self (ma : Nat → Nat) (s : Nat) : jmk ma s s = 1 := by
  unfold jmk
  split
  · rename_i h; exact h
  · exact va_up_self _ _ _
theorem jmk_ne (ma : Nat → Nat) {s j : Nat} (h : j ≠ s) : jmk ma s j = ma j := by
  unfold jmk
  split
  · rfl
  · exact va_up_ne _ _ h
theorem jL_push {ma op : Nat → Nat} {oc s : Nat} (h : jL ma op oc) (hs : s < 144) : jL (jmk ma s) (if ma s = 1 then op else va_up op oc s) (if ma s = 1 then oc else oc + 1) := by
  by_cases hm : ma s = 1
  · unfold jmk
    rw [if_pos hm, if_pos hm, if_pos hm]; exact h
  · rw [if_neg hm, if_neg hm]
    obtain ⟨h1, h2, h3, h4⟩ := h
    have hne : ∀ i, i < oc → op i ≠ s := fun i hi q => hm (by rw [← q]; exact (h2 i hi).2)
    refine ⟨?_, ?_, ?_, ?_⟩
    · have q := sm_swap (f := i1 ma) (g := i1 (jmk ma s)) (s := s) (fun j hj => by unfold i1; rw [jmk_ne ma hj]) 144 hs
      have q1 : i1 ma s = 0 := if_neg hm
      have q2 : i1 (jmk ma s) s = 1 := if_pos (jmk_self ma s)
      unfold cnt1 at h1 ⊢
      omega
    · intro i hi
      by_cases hq : i = oc
      · subst hq; rw [va_up_self]; exact ⟨hs, jmk_self ma s⟩
      · rw [va_up_ne _ _ hq, jmk_ne ma (hne i (by omega))]; exact h2 i (by omega)
    · intro i j hi hj he
      by_cases hqi : i = oc
      · by_cases hqj : j = oc
        · omega
        · subst hqi
          rw [va_up_self, va_up_ne _ _ hqj] at he
          exact absurd he.symm (hne j (by omega))
      · by_cases hqj : j = oc
        · subst hqj
          rw [va_up_self, va_up_ne _ _ hqi] at he
          exact absurd he (hne i (by omega))
        · rw [va_up_ne _ _ hqi, va_up_ne _ _ hqj] at he
          exact h3 i j (by omega) (by omega) he
    · intro c hc hm1
      by_cases hq : c = s
      · subst hq; exact ⟨oc, by omega, va_up_self _ _ _⟩
      · rw [jmk_ne ma hq] at hm1
        obtain ⟨i, hi, he⟩ := h4 c hc hm1
        exact ⟨i, by omega, by rw [va_up_ne _ _ (by omega)]; exact he⟩
/-- a cell's length and directions made better -/
theorem jI_up {w : Nat → Bool} {fr gl : Nat} {le dr ma op : Nat → Nat} {oc c0 d0 s ln dn : Nat} (h : jI w fr gl le dr ma op oc c0 d0) (hs : s < 144) (hfr : s ≠ fr) (hw : w s = false) (hdn : dn < 512) (hlen : jlen w fr s ln) (hln : ln ≤ 154 * cntm ma)
    (himp : ma s = 0 ∨ (ma s ≠ 0 ∧ ln < le s) ∨ (ma s ≠ 0 ∧ ln = le s ∧ dr s ||| dn = dn ∧ dn ≠ dr s)) :
    jI w fr gl (va_up le s ln) (va_up dr s dn) (jmk ma s) (if ma s = 1 then op else va_up op oc s) (if ma s = 1 then oc else oc + 1) c0 d0 ∧ jmu (va_up le s ln) (va_up dr s dn) (jmk ma s) < jmu le dr ma := by
  obtain ⟨h1, ⟨f1, f2, f3, f4, f5, f6⟩, h3, h4, h5, h6⟩ := h
  have hcm : cntm (jmk ma s) + im ma s = cntm ma + 1 := by
    have q := sm_swap (f := im (jmk ma s)) (g := im ma) (s := s) (fun j hj => by unfold im; rw [jmk_ne ma hj]) 144 hs
    have q2 : im (jmk ma s) s = 1 := if_neg (by rw [jmk_self]; decide)
    rw [q2] at q
    exact q
  have him := im_le ma s
  refine ⟨⟨?_, ⟨f1, f2, f3, ?_, ?_, ?_⟩, ?_, jL_push h4 hs, ?_, ?_⟩, ?_⟩
  · intro c hc
    by_cases hq : c = s
    · subst hq; rw [jmk_self]; decide
    · rw [jmk_ne ma hq]; exact h1 c hc
  · rw [jmk_ne ma (Ne.symm hfr)]; exact f4
  · rw [va_up_ne _ _ (Ne.symm hfr)]; exact f5
  · rw [va_up_ne _ _ (Ne.symm hfr)]; exact f6
  · intro c hc hm
    by_cases hq : c = s
    · subst hq
      rw [va_up_self, va_up_self]
      refine ⟨hw, hdn, hlen, ?_⟩
      by_cases hz : ma c = 0
      · have q : im ma c = 0 := if_pos hz
        omega
      · have q := (h3 c hs hz).2.2.2
        omega
    · rw [jmk_ne ma hq] at hm
      rw [va_up_ne _ _ hq, va_up_ne _ _ hq]
      obtain ⟨q1, q2, q3, q4⟩ := h3 c hc hm
      exact ⟨q1, q2, q3, by omega⟩
  · intro c d hc hm hd hd4 hb hcd
    have hq : c ≠ s := fun q => by rw [q, jmk_self] at hm; omega
    rw [jmk_ne ma hq] at hm
    rw [va_up_ne _ _ hq] at hb
    have hcl := h5 c d hc hm hd hd4 hb hcd
    intro k x' y' hj
    obtain ⟨g1, g2⟩ := hcl k x' y' hj
    rw [va_up_ne le _ hq]
    generalize jcl x' y' = t at g1 g2 ⊢
    generalize le c + k * jmc (jdx d) (jdy d) = L at g2 ⊢
    generalize jnx w x' y' (jdx d) (jdy d) = N at g2 ⊢
    by_cases ht : t = s
    · subst ht
      rw [jmk_self, va_up_self, va_up_self]
      refine ⟨by decide, ?_⟩
      rcases himp with q | ⟨_, q⟩ | ⟨_, q1, q2, _⟩
      · exact absurd q g1
      · left; omega
      · rcases g2 with g2 | ⟨g2, g3⟩
        · left; omega
        · right
          refine ⟨by omega, ?_⟩
          rw [← q2, Nat.or_assoc, Nat.or_comm dn N, ← Nat.or_assoc, g3]
    · rw [jmk_ne ma ht, va_up_ne _ _ ht, va_up_ne _ _ ht]
      exact ⟨g1, g2⟩
  · by_cases hq : gl = s
    · rw [hq, jmk_self]; decide
    · rw [jmk_ne ma hq]; exact h6
  · have q := sm_swap (f := jv (va_up le s ln) (va_up dr s dn) (jmk ma s)) (g := jv le dr ma) (s := s) (fun j hj => by unfold jv i1; rw [jmk_ne ma hj, va_up_ne _ _ hj, va_up_ne _ _ hj]) 144 hs
    have q1 : jv (va_up le s ln) (va_up dr s dn) (jmk ma s) s = (ln * 512 + (511 - dn)) * 2 + 1 := by
      unfold jv i1
      rw [jmk_self, va_up_self, va_up_self]
      rfl
    have hcn := cntm_le ma
    have q2 : (ln * 512 + (511 - dn)) * 2 + 1 < jv le dr ma s := by
      unfold jv
      rcases himp with z | ⟨z0, z⟩ | ⟨z0, z1, z2, z3⟩
      · rw [if_pos z]; omega
      · rw [if_neg z0]; omega
      · rw [if_neg z0]
        have z4 : dr s ≤ dn := by
          have := Nat.left_le_or (n := dr s) (m := dn)
          omega
        omega
    unfold jmu
    omega
/-- an offer keeps the invariant -/
theorem jI_offer {w : Nat → Bool} {fr gl : Nat} {le dr ma op : Nat → Nat} {oc c0 d0 s L N : Nat} (h : jI w fr gl le dr ma op oc c0 d0) (hs : s < 144) (hw : w s = false) (hN : N < 512) (hlen : jlen w fr s L) (hL : L ≤ 154 * cntm ma) (hL0 : 0 < L) :
    ∃ le' dr' ma' op' oc', jofr le dr ma op oc s L N = (le', dr', ma', op', oc') ∧ jI w fr gl le' dr' ma' op' oc' c0 d0 ∧ jmu le' dr' ma' ≤ jmu le dr ma ∧ (ma' s ≠ 0 ∧ (le' s < L ∨ (le' s = L ∧ dr' s ||| N = dr' s))) ∧ ∀ j, j ≠ s → le' j = le j ∧ dr' j = dr j ∧ ma' j = ma j := by
  have hfr : ¬ (ma s ≠ 0 ∧ le s < L) → s ≠ fr := by
    intro q e
    obtain ⟨-, ⟨f1, f2, f3, f4, f5, f6⟩, -⟩ := h
    rw [e] at q
    exact q ⟨f4, by omega⟩
  unfold jofr
  by_cases h1 : ma s ≠ 0 ∧ le s < L
  · rw [if_pos h1]
    exact ⟨le, dr, ma, op, oc, rfl, h, Nat.le_refl _, ⟨h1.1, Or.inl h1.2⟩, fun j _ => ⟨rfl, rfl, rfl⟩⟩
  · rw [if_neg h1]
    by_cases h2 : ma s ≠ 0 ∧ le s = L
    · rw [if_pos h2]
      by_cases h3 : dr s ||| N = dr s
      · rw [if_pos h3]
        exact ⟨le, dr, ma, op, oc, rfl, h, Nat.le_refl _, ⟨h2.1, Or.inr ⟨h2.2, h3⟩⟩, fun j _ => ⟨rfl, rfl, rfl⟩⟩
      · rw [if_neg h3, jpush_eq]
        have hd0 := (h.2.2.1 s hs h2.1).2.1
        obtain ⟨g1, g2⟩ := jI_up (ln := le s) (dn := dr s ||| N) h hs (hfr h1) hw (jor_lt hd0 hN) (by rw [h2.2]; exact hlen) (by omega) (Or.inr (Or.inr ⟨h2.1, rfl, by rw [← Nat.or_assoc, Nat.or_self], h3⟩))
        rw [va_up_id] at g1 g2
        refine ⟨_, _, _, _, _, rfl, g1, by omega, ⟨by rw [jmk_self]; decide, Or.inr ⟨h2.2, ?_⟩⟩, fun j hj => ⟨rfl, va_up_ne _ _ hj, jmk_ne ma hj⟩⟩
        rw [va_up_self, Nat.or_assoc, Nat.or_self]
    · rw [if_neg h2, jpush_eq]
      have himp : ma s = 0 ∨ (ma s ≠ 0 ∧ L < le s) ∨ (ma s ≠ 0 ∧ L = le s ∧ dr s ||| N = N ∧ N ≠ dr s) := by
        by_cases hz : ma s = 0
        · exact Or.inl hz
        · refine Or.inr (Or.inl ⟨hz, ?_⟩)
          have q1 : ¬ le s < L := fun q => h1 ⟨hz, q⟩
          have q2 : ¬ le s = L := fun q => h2 ⟨hz, q⟩
          omega
      obtain ⟨g1, g2⟩ := jI_up (ln := L) (dn := N) h hs (hfr h1) hw hN hlen hL himp
      refine ⟨_, _, _, _, _, rfl, g1, by omega, ⟨by rw [jmk_self]; decide, Or.inr ⟨va_up_self _ _ _, ?_⟩⟩, fun j hj => ⟨va_up_ne _ _ hj, va_up_ne _ _ hj, jmk_ne ma hj⟩⟩
      rw [va_up_self, Nat.or_self]
theorem jlen_app {w : Nat → Bool} {fr c : Nat} {n : Nat} {x' y' : Int} {ms : List (Int × Int)} (h : jlen w fr c n) (hp : pth w (jcx c) (jcy c) ms x' y') (hin : 0 ≤ x' ∧ x' < 12 ∧ 0 ≤ y' ∧ y' < 12) : jlen w fr (jcl x' y') (n + cst ms) := by
  obtain ⟨m0, h0, h1⟩ := h
  have q := jcl_in hin
  refine ⟨m0 ++ ms, ?_, by rw [cst_app, h1]⟩
  rw [q.2.1, q.2.2.1]
  exact pth_app m0 ms _ _ _ _ _ _ h0 hp
/-- a direction that isn't to be looked at -/
theorem jI_skip {w : Nat → Bool} {fr gl : Nat} {le dr ma op : Nat → Nat} {oc c d : Nat} (h : jI w fr gl le dr ma op oc c d) (hs : (dr c).testBit d = false ∨ d = 4 ∨ clo w gl le dr ma c d) : jI w fr gl le dr ma op oc c (d + 1) := by
  obtain ⟨h1, h2, h3, h4, h5, h6⟩ := h
  refine ⟨h1, h2, h3, h4, fun c' d' hc hm hd hd4 hb hcd => ?_, h6⟩
  by_cases hq : c' = c
  · by_cases hqd : d' = d
    · subst hq; subst hqd
      rcases hs with q | q | q
      · rw [q] at hb; cases hb
      · exact absurd q hd4
      · exact q
    · exact h5 c' d' hc hm hd hd4 hb (by omega)
  · exact h5 c' d' hc hm hd hd4 hb (Or.inl hq)
/-- what a jump's stop is good for -/
theorem jI_stop {w : Nat → Bool} {fr gl : Nat} {le dr ma op : Nat → Nat} {oc c0 d0 c d k : Nat} {x' y' : Int} (h : jI w fr gl le dr ma op oc c0 d0) (hc : c < 144) (hm : ma c ≠ 0) (hd : d < 9) (hd4 : d ≠ 4) (hj : jmp w (gl : Int) (jcx c) (jcy c) (jdx d) (jdy d) = some (k, x', y')) :
    (0 ≤ x' ∧ x' < 12 ∧ 0 ≤ y' ∧ y' < 12) ∧ w (jcl x' y') = false ∧ 0 < k ∧ k ≤ 11 ∧ jcl x' y' ≠ c ∧ jlen w fr (jcl x' y') (le c + k * jmc (jdx d) (jdy d)) ∧ le c + k * jmc (jdx d) (jdy d) ≤ 154 * cntm ma ∧ le c + k * jmc (jdx d) (jdy d) < 32768 := by
  have hok := (jdxy hd hd4).1
  obtain ⟨a1, a2, a3, ms, a4, a5⟩ := jmp_way hok k x' y' hj
  obtain ⟨b1, b2⟩ := jfre_iff.mp a2
  obtain ⟨c1, c2, c3⟩ := jcxy hc
  have l1 := jlft_in (dx := jdx d) (dy := jdy d) b1
  have l2 := jlft_in (dx := jdx d) (dy := jdy d) c1
  obtain ⟨g1, g2, g3, g4⟩ := h.2.2.1 c hc hm
  have hcn := cntm_le ma
  have hmc := jmc_in (jdx d) (jdy d)
  have hk : k ≤ 11 := by omega
  have hkm : k * jmc (jdx d) (jdy d) ≤ 154 := Nat.le_trans (Nat.mul_le_mul hk hmc.2) (by decide)
  have q := jlen_app g3 a4 b1
  rw [a5] at q
  refine ⟨b1, b2, a1, hk, ?_, q, by omega, by omega⟩
  intro e
  have e1 := jcl_in b1
  rw [e] at e1
  rw [e1.2.1, e1.2.2.1] at a3
  omega
/-- one direction gone on in -/
theorem jI_go {w : Nat → Bool} {fr gl : Nat} {le dr ma op : Nat → Nat} {oc c d k : Nat} {x' y' : Int} (h : jI w fr gl le dr ma op oc c d) (hc : c < 144) (hm : ma c = 2) (hd : d < 9) (hd4 : d ≠ 4) (hj : jmp w (gl : Int) (jcx c) (jcy c) (jdx d) (jdy d) = some (k, x', y')) :
    ∃ le' dr' ma' op' oc', jofr le dr ma op oc (jcl x' y') (le c + k * jmc (jdx d) (jdy d)) (jnx w x' y' (jdx d) (jdy d)) = (le', dr', ma', op', oc') ∧ jI w fr gl le' dr' ma' op' oc' c (d + 1) ∧ jmu le' dr' ma' ≤ jmu le dr ma ∧ ma' c = 2 ∧ dr' c = dr c := by
  obtain ⟨s1, s2, s3, s4, s5, s6, s7, s8⟩ := jI_stop h hc (by omega) hd hd4 hj
  have hmc := jmc_in (jdx d) (jdy d)
  have hkm : 1 * 10 ≤ k * jmc (jdx d) (jdy d) := Nat.mul_le_mul s3 hmc.1
  obtain ⟨le', dr', ma', op', oc', r1, r2, r3, r4, r5⟩ := jI_offer (N := jnx w x' y' (jdx d) (jdy d)) h (jcl_in s1).1 s2 (jnx_lt (jdxy hd hd4).1) s6 s7 (by omega)
  obtain ⟨e1, e2, e3⟩ := r5 c (Ne.symm s5)
  refine ⟨le', dr', ma', op', oc', r1, jI_skip r2 (Or.inr (Or.inr ?_)), r3, by rw [e3]; exact hm, e2⟩
  intro k2 x2 y2 hj2
  rw [hj] at hj2
  cases hj2
  rw [e1]
  exact r4
/-- the best of the list taken off -/
theorem jI_take {w : Nat → Bool} {fr gl : Nat} {le dr ma op : Nat → Nat} {oc b : Nat} (h : jI w fr gl le dr ma op oc 144 0) (hb : b < oc) (hg : op b ≠ gl) :
    jI w fr gl le dr (va_up ma (op b) 2) (va_up op b (op (oc - 1))) (oc - 1) (op b) 0 ∧ jmu le dr (va_up ma (op b) 2) < jmu le dr ma := by
  obtain ⟨h1, ⟨f1, f2, f3, f4, f5, f6⟩, h3, ⟨h41, h42, h43, h44⟩, h5, h6⟩ := h
  obtain ⟨hc, hm⟩ := h42 b hb
  have hz : ∀ j, im (va_up ma (op b) 2) j = im ma j := by
    intro j
    by_cases hj : j = op b
    · subst hj; unfold im; rw [va_up_self, hm]; rfl
    · unfold im; rw [va_up_ne _ _ hj]
  have hcm : cntm (va_up ma (op b) 2) = cntm ma := sm_eq 144 (fun j _ => hz j)
  have hnz : ∀ j, va_up ma (op b) 2 j ≠ 0 → ma j ≠ 0 := by
    intro j hj
    by_cases hq : j = op b
    · subst hq; omega
    · rw [va_up_ne _ _ hq] at hj; exact hj
  have hlt : oc - 1 < oc := by omega
  have hop : ∀ i, i < oc - 1 → ∃ i', i' < oc ∧ va_up op b (op (oc - 1)) i = op i' ∧ i' ≠ b ∧ (i' = i ∨ (i = b ∧ i' = oc - 1)) := by
    intro i hi
    by_cases hq : i = b
    · subst hq; exact ⟨oc - 1, hlt, va_up_self _ _ _, by omega, Or.inr ⟨rfl, rfl⟩⟩
    · exact ⟨i, by omega, va_up_ne _ _ hq, hq, Or.inl rfl⟩
  refine ⟨⟨?_, ⟨f1, f2, f3, ?_, f5, f6⟩, ?_, ⟨?_, ?_, ?_, ?_⟩, ?_, ?_⟩, ?_⟩
  · intro c hc'
    by_cases hq : c = op b
    · subst hq; rw [va_up_self]; decide
    · rw [va_up_ne _ _ hq]; exact h1 c hc'
  · by_cases hq : fr = op b
    · rw [hq, va_up_self]; decide
    · rw [va_up_ne _ _ hq]; exact f4
  · intro c hc' hm'
    rw [hcm]
    exact h3 c hc' (hnz c hm')
  · have q := sm_swap (f := i1 (va_up ma (op b) 2)) (g := i1 ma) (s := op b) (fun j hj => by unfold i1; rw [va_up_ne _ _ hj]) 144 hc
    have q1 : i1 ma (op b) = 1 := if_pos hm
    have q2 : i1 (va_up ma (op b) 2) (op b) = 0 := if_neg (by rw [va_up_self]; decide)
    unfold cnt1 at h41 ⊢
    omega
  · intro i hi
    obtain ⟨i', g1, g2, g3, _⟩ := hop i hi
    rw [g2]
    refine ⟨(h42 i' g1).1, ?_⟩
    rw [va_up_ne _ _ (fun q => g3 (h43 i' b g1 hb q))]
    exact (h42 i' g1).2
  · intro i j hi hj he
    obtain ⟨i', g1, g2, g3, g4⟩ := hop i hi
    obtain ⟨j', k1, k2, k3, k4⟩ := hop j hj
    rw [g2, k2] at he
    have := h43 i' j' g1 k1 he
    omega
  · intro c hc' hm'
    have hq : c ≠ op b := fun q => by rw [q, va_up_self] at hm'; omega
    rw [va_up_ne _ _ hq] at hm'
    obtain ⟨i, hi, he⟩ := h44 c hc' hm'
    have hib : i ≠ b := fun q => hq (by rw [← he, q])
    by_cases hio : i = oc - 1
    · exact ⟨b, by omega, by rw [va_up_self, ← hio]; exact he⟩
    · exact ⟨i, by omega, by rw [va_up_ne _ _ hib]; exact he⟩
  · intro c d hc' hm' hd hd4 hbt hcd
    have hq : c ≠ op b := by
      rcases hcd with q | q
      · exact q
      · omega
    rw [va_up_ne _ _ hq] at hm'
    have hcl := h5 c d hc' hm' hd hd4 hbt (Or.inl (by omega))
    intro k x' y' hj
    obtain ⟨g1, g2⟩ := hcl k x' y' hj
    refine ⟨?_, g2⟩
    by_cases ht : jcl x' y' = op b
    · rw [ht, va_up_self]; decide
    · rw [va_up_ne _ _ ht]; exact g1
  · rw [va_up_ne _ _ (Ne.symm hg)]; exact h6
  · have q := sm_swap (f := jv le dr (va_up ma (op b) 2)) (g := jv le dr ma) (s := op b) (fun j hj => by unfold jv i1; rw [va_up_ne _ _ hj]) 144 hc
    have q1 : jv le dr (va_up ma (op b) 2) (op b) = (le (op b) * 512 + (511 - dr (op b))) * 2 + 0 := by
      unfold jv i1
      rw [va_up_self]; rfl
    have q2 : jv le dr ma (op b) = (le (op b) * 512 + (511 - dr (op b))) * 2 + 1 := by
      unfold jv i1
      rw [hm]; rfl
    unfold jmu
    omega
/-- a cell gone on from in all directions is done -/
theorem jI_done {w : Nat → Bool} {fr gl : Nat} {le dr ma op : Nat → Nat} {oc c : Nat} (h : jI w fr gl le dr ma op oc c 9) : jI w fr gl le dr ma op oc 144 0 := by
  obtain ⟨h1, h2, h3, h4, h5, h6⟩ := h
  exact ⟨h1, h2, h3, h4, fun c' d hc hm hd hd4 hb _ => h5 c' d hc hm hd hd4 hb (Or.inr hd), h6⟩
/-- the start -/
theorem jI_init {w : Nat → Bool} {fr gl : Nat} {le dr ma op : Nat → Nat} (hz : ∀ c, c < 144 → ma c = 0) (hfr : fr < 144) (hgl : gl < 144) (hw : w fr = false) :
    jofr le dr ma op 0 fr 0 511 = (va_up le fr 0, va_up dr fr 511, va_up ma fr 1, va_up op 0 fr, 1) ∧ jI w fr gl (va_up le fr 0) (va_up dr fr 511) (va_up ma fr 1) (va_up op 0 fr) 1 144 0 := by
  have h0 := hz fr hfr
  refine ⟨?_, ?_⟩
  · unfold jofr jpush
    rw [if_neg (by omega), if_neg (by omega), if_neg (by omega)]
  · have hmk : ∀ c, c < 144 → va_up ma fr 1 c ≠ 0 → c = fr := by
      intro c hc hm
      by_cases hq : c = fr
      · exact hq
      · rw [va_up_ne _ _ hq] at hm; exact absurd (hz c hc) hm
    have s1 : sm (i1 ma) 144 = 0 := (sm_eq (f := i1 ma) (g := fun _ => 0) 144 (fun j hj => if_neg (by rw [hz j hj]; decide))).trans (sm_zero 144)
    have s2 : sm (im ma) 144 = 0 := (sm_eq (f := im ma) (g := fun _ => 0) 144 (fun j hj => if_pos (hz j hj))).trans (sm_zero 144)
    have c1 : cnt1 (va_up ma fr 1) = 1 := by
      have q := sm_swap (f := i1 (va_up ma fr 1)) (g := i1 ma) (s := fr) (fun j hj => by unfold i1; rw [va_up_ne _ _ hj]) 144 hfr
      have q1 : i1 ma fr = 0 := if_neg (by omega)
      have q2 : i1 (va_up ma fr 1) fr = 1 := if_pos (va_up_self _ _ _)
      unfold cnt1
      omega
    have c2 : cntm (va_up ma fr 1) = 1 := by
      have q := sm_swap (f := im (va_up ma fr 1)) (g := im ma) (s := fr) (fun j hj => by unfold im; rw [va_up_ne _ _ hj]) 144 hfr
      have q1 : im ma fr = 0 := if_pos h0
      have q2 : im (va_up ma fr 1) fr = 1 := if_neg (by rw [va_up_self]; decide)
      unfold cntm
      omega
    refine ⟨?_, ⟨hfr, hgl, hw, ?_, va_up_self _ _ _, va_up_self _ _ _⟩, ?_, ⟨c1, ?_, ?_, ?_⟩, ?_, ?_⟩
    · intro c hc
      by_cases hq : c = fr
      · subst hq; rw [va_up_self]; decide
      · rw [va_up_ne _ _ hq, hz c hc]; decide
    · rw [va_up_self]; decide
    · intro c hc hm
      have := hmk c hc hm
      subst this
      rw [va_up_self, va_up_self, c2]
      exact ⟨hw, by decide, ⟨[], ⟨rfl, rfl⟩, rfl⟩, by decide⟩
    · intro i hi
      rw [show i = 0 by omega, va_up_self]
      exact ⟨hfr, va_up_self _ _ _⟩
    · intro i j hi hj _
      omega
    · intro c hc hm
      exact ⟨0, by omega, by rw [va_up_self]; exact (hmk c hc (by omega)).symm⟩
    · intro c d hc hm
      have := hmk c hc (by omega)
      subst this
      rw [va_up_self] at hm
      omega
    · by_cases hq : gl = fr
      · rw [hq, va_up_self]; decide
      · rw [va_up_ne _ _ hq, hz gl hgl]; decide
/-- along a best way there is a cell of the list that is cheap enough -/
theorem jprog {w : Nat → Bool} {fr gl : Nat} {le dr ma op : Nat → Nat} {oc Dg : Nat} (h : jI w fr gl le dr ma op oc 144 0) (hD : ∀ n, jlen w fr gl n → Dg ≤ n) : ∀ (M : Nat) (ms : List (Int × Int)) (c : Nat), cst ms < M → c < 144 → ma c ≠ 0 → le c + cst ms ≤ Dg → nb w (jcx c) (jcy c) ms (jcx gl) (jcy gl) → (ms = [] ∨ ∃ e ms', ms = e :: ms' ∧ (dr c).testBit (jix e.1 e.2) = true) → ∃ b, b < 144 ∧ ma b = 1 ∧ jf le gl b ≤ (Dg : Int) := by
  intro M
  induction M with
  | zero => intro ms c hM; omega
  | succ M ih =>
    intro ms c hM hc hm hle hnb hdir
    obtain ⟨h1, ⟨f1, f2, f3, f4, f5, f6⟩, h3, h4, h5, h6⟩ := h
    have hm2 := h1 c hc
    by_cases hm1 : ma c = 1
    · refine ⟨c, hc, hm1, ?_⟩
      have := jal_le ms _ _ hnb.1
      unfold jf
      omega
    · have hm2 : ma c = 2 := by omega
      obtain ⟨g1, g2, g3⟩ := jcxy f2
      obtain ⟨k1, k2, k3⟩ := jcxy hc
      rcases hdir with rfl | ⟨⟨e1, e2⟩, ms', rfl, hb⟩
      · obtain ⟨q1, q2⟩ := hnb.1
        have : c = gl := by rw [← k3, ← g3, q1, q2]
        rw [this] at hm2
        exact absurd hm2 h6
      · have hok : okd e1 e2 := hnb.1.1
        obtain ⟨i1, i2, i3, i4⟩ := jix_in hok
        have hcl := h5 c (jix e1 e2) hc hm2 i1 i2 hb (Or.inl (by omega))
        obtain ⟨k', x', y', ms'', r1, r2, r3, r4, r5⟩ := jmp_along k1 hnb
        rw [g2] at r1
        have hj : jmp w (gl : Int) (jcx c) (jcy c) (jdx (jix e1 e2)) (jdy (jix e1 e2)) = some (k', x', y') := by rw [i3, i4]; exact r1
        obtain ⟨a1, a2⟩ := hcl k' x' y' hj
        rw [i3, i4] at a2
        obtain ⟨b1, b2, _⟩ := jmp_way hok k' x' y' r1
        have b3 := (jfre_iff.mp b2).1
        obtain ⟨c1, c2, c3, c4⟩ := jcl_in b3
        obtain ⟨-, -, ⟨m0, p1, p2⟩, -⟩ := h3 (jcl x' y') c1 a1
        have hlow : Dg ≤ le (jcl x' y') + cst ms'' := by
          refine hD _ ⟨m0 ++ ms'', ?_, by rw [cst_app, p2]⟩
          refine pth_app m0 ms'' _ _ _ _ _ _ p1 ?_
          rw [c2, c3]; exact r3.1
        rw [Nat.sub_zero] at r4
        have hmcp := (jmc_in e1 e2).1
        have hkp : 1 * 10 ≤ k' * jmc e1 e2 := Nat.mul_le_mul r2 hmcp
        have heq : le (jcl x' y') = le c + k' * jmc e1 e2 ∧ dr (jcl x' y') ||| jnx w x' y' e1 e2 = dr (jcl x' y') := by
          rcases a2 with q | q
          · omega
          · exact q
        refine ih ms'' (jcl x' y') (by omega) c1 a1 (by omega) (by rw [c2, c3]; exact r3) ?_
        rcases r5 with q | ⟨e, ms3, q1, q2⟩
        · exact Or.inl q
        · refine Or.inr ⟨e, ms3, q1, ?_⟩
          rw [← heq.2]
          exact jb_or2 q2
theorem jbit511 : ∀ i, i < 9 → (511 : Nat).testBit i = true := by decide
theorem jprog0 {w : Nat → Bool} {fr gl : Nat} {le dr ma op : Nat → Nat} {oc n : Nat} (h : jI w fr gl le dr ma op oc 144 0) (hn : jlen w fr gl n) : ∃ b, b < 144 ∧ ma b = 1 ∧ jf le gl b ≤ (n : Int) := by
  obtain ⟨m0, h0, h1⟩ := hn
  obtain ⟨ms, hnb, hmin⟩ := nb_ex ⟨m0, h0⟩
  have hle := hmin m0 h0
  obtain ⟨-, ⟨f1, f2, f3, f4, f5, f6⟩, -⟩ := id h
  obtain ⟨b, b1, b2, b3⟩ := jprog (Dg := cst ms) h (fun n ⟨m1, p1, p2⟩ => by rw [← p2]; exact hmin m1 p1) (cst ms + 1) ms fr (by omega) f1 f4 (by omega) hnb (by
    match ms, hnb with
    | [], _ => exact Or.inl rfl
    | (e1, e2) :: ms', hnb => exact Or.inr ⟨(e1, e2), ms', rfl, by rw [f6]; exact jbit511 _ (jix_in hnb.1.1).1⟩)
  exact ⟨b, b1, b2, by omega⟩
theorem jal_self (x y : Int) : jal x y x y = 0 := by
  unfold jal jab
  repeat' split
  all_goals omega
/-- the goal is the best of the list: its length is the least -/
theorem jI_found {w : Nat → Bool} {fr gl : Nat} {le dr ma op : Nat → Nat} {oc b : Nat} (h : jI w fr gl le dr ma op oc 144 0) (hb : b < oc) (hbest : ∀ j, j < oc → jf le gl (op b) ≤ jf le gl (op j)) (hg : op b = gl) : jlen w fr gl (le gl) ∧ ∀ n, jlen w fr gl n → le gl ≤ n := by
  have h0 := h
  obtain ⟨h1, ⟨f1, f2, f3, f4, f5, f6⟩, h3, ⟨h41, h42, h43, h44⟩, h5, h6⟩ := h
  have hm := (h42 b hb).2
  rw [hg] at hm
  refine ⟨(h3 gl f2 (by omega)).2.2.1, fun n hn => ?_⟩
  obtain ⟨b', b1, b2, b3⟩ := jprog0 h0 hn
  obtain ⟨i, i1, i2⟩ := h44 b' b1 b2
  have q := hbest i i1
  rw [i2, hg] at q
  have q2 : jf le gl gl = (le gl : Int) := by
    unfold jf
    rw [jal_self]; omega
  omega
/-- nothing left in the list: there is no way -/
theorem jI_none {w : Nat → Bool} {fr gl : Nat} {le dr ma op : Nat → Nat} (h : jI w fr gl le dr ma op 0 144 0) : ∀ n, ¬ jlen w fr gl n := by
  intro n hn
  obtain ⟨b', b1, b2, b3⟩ := jprog0 h hn
  obtain ⟨-, -, -, ⟨h41, h42, h43, h44⟩, -⟩ := h
  obtain ⟨i, i1, i2⟩ := h44 b' b1 b2
  omega
/-- the distance, -2 where there is no way -/
noncomputable def jdist (w : Nat → Bool) (fr gl : Nat) : Int := by
  classical
  exact if h : ∃ n, jlen w fr gl n then ((Classical.choose (pk_least _ h) : Nat) : Int) else -2
theorem jdist_some {w : Nat → Bool} {fr gl n : Nat} (h1 : jlen w fr gl n) (h2 : ∀ m, jlen w fr gl m → n ≤ m) : jdist w fr gl = (n : Int) := by
  unfold jdist
  have h : ∃ n, jlen w fr gl n := ⟨n, h1⟩
  rw [dif_pos h]
  have q := Classical.choose_spec (pk_least _ h)
  have q1 := h2 _ q.1
  rcases Nat.lt_or_ge n (Classical.choose (pk_least _ h)) with z | z
  · exact absurd h1 (q.2 n z)
  · have : Classical.choose (pk_least _ h) = n := by omega
    rw [this]
theorem jdist_none {w : Nat → Bool} {fr gl : Nat} (h : ∀ n, ¬ jlen w fr gl n) : jdist w fr gl = -2 := by
  unfold jdist
  rw [dif_neg (fun ⟨n, q⟩ => h n q)]
theorem jdist_cases (w : Nat → Bool) (fr gl : Nat) : (∃ n : Nat, jdist w fr gl = (n : Int) ∧ jlen w fr gl n ∧ ∀ m, jlen w fr gl m → n ≤ m) ∨ (jdist w fr gl = -2 ∧ ∀ n, ¬ jlen w fr gl n) := by
  by_cases h : ∃ n, jlen w fr gl n
  · left
    obtain ⟨n, h1, h2⟩ := pk_least _ h
    have h2' : ∀ m, jlen w fr gl m → n ≤ m := fun m hm => by
      rcases Nat.lt_or_ge m n with z | z
      · exact absurd hm (h2 m z)
      · exact z
    exact ⟨n, jdist_some h1 h2', h1, h2'⟩
  · right
    have h' : ∀ n, ¬ jlen w fr gl n := fun n q => h ⟨n, q⟩
    exact ⟨jdist_none h', h'⟩
end
section
/-! what the public methods answer, plain: for both sides -/
theorem pth_end {w : Nat → Bool} {gx gy : Int} : ∀ (ms : List (Int × Int)) (x y : Int), pth w x y ms gx gy → (x = gx ∧ y = gy) ∨ jfre w gx gy = true := by
  intro ms
  induction ms with
  | nil => intro x y h; exact Or.inl h
  | cons d ms ih =>
    intro x y h
    rcases ih _ _ h.2.2 with ⟨q1, q2⟩ | q
    · right
      rw [← q1, ← q2]; exact h.2.1
    · exact Or.inr q
theorem jdist_wall {w : Nat → Bool} {f c : Nat} (hf : f < 144) (hwf : w f = false) (hc : c < 144) (hwc : w c = true) : jdist w f c = -2 := by
  refine jdist_none (fun n => ?_)
  rintro ⟨ms, hp, _⟩
  obtain ⟨f1, f2, f3⟩ := jcxy hf
  obtain ⟨c1, c2, c3⟩ := jcxy hc
  rcases pth_end ms _ _ hp with ⟨q1, q2⟩ | q
  · have : f = c := by rw [← f3, ← c3, q1, q2]
    rw [this, hwc] at hwf
    cases hwf
  · have q2 := (jfre_iff.mp q).2
    rw [c2, Int.toNat_natCast, hwc] at q2
    cases q2
theorem jdist_ge (w : Nat → Bool) (f c : Nat) : jdist w f c = -2 ∨ 0 ≤ jdist w f c := by
  rcases jdist_cases w f c with ⟨n, h, _⟩ | ⟨h, _⟩
  · right; omega
  · exact Or.inl h
noncomputable def jqd (w : Nat → Bool) (zf zt : Int) : Int := if jisf w zf = true ∧ jisf w zt = true then jdist w zf.toNat zt.toNat else -1
noncomputable def jqn (w : Nat → Bool) (zf za zb : Int) : Int := if jisf w zf = true ∧ jisf w za = true ∧ jisf w zb = true then (if 0 ≤ jdist w zf.toNat zb.toNat ∧ (jdist w zf.toNat za.toNat < 0 ∨ jdist w zf.toNat zb.toNat < jdist w zf.toNat za.toNat) then 1 else 0) else -1
noncomputable def jqv (w : Nat → Bool) (zf zt zc : Int) : Bool := if jisf w zf = true ∧ jisf w zt = true ∧ jisf w zc = true ∧ zc ≠ zf ∧ zc ≠ zt then (if jdist w zf.toNat zt.toNat < 0 then false else decide (jdist (va_up w zc.toNat true) zf.toNat zt.toNat < 0 ∨ jdist w zf.toNat zt.toNat < jdist (va_up w zc.toNat true) zf.toNat zt.toNat)) else false
noncomputable def jmx (w : Nat → Bool) (f : Nat) : Nat → Int
  | 0 => 0
  | n + 1 => if jmx w f n < jdist w f n then jdist w f n else jmx w f n
noncomputable def jct (w : Nat → Bool) (f : Nat) : Nat → Nat
  | 0 => 0
  | n + 1 => if 0 ≤ jdist w f n then jct w f n + 1 else jct w f n
noncomputable def jat (w : Nat → Bool) (f : Nat) (z : Int) : Nat → Nat → Int
  | 0, _ => -2
  | n + 1, i => if 0 ≤ jdist w f i ∧ jdist w f i = z then (i : Int) else jat w f z n (i + 1)
noncomputable def jqf (w : Nat → Bool) (zf : Int) : Int := if jisf w zf = true then jmx w zf.toNat 144 else -1
noncomputable def jqr (w : Nat → Bool) (zf : Int) : Int := if jisf w zf = true then (jct w zf.toNat 144 : Int) else -1
noncomputable def jqa (w : Nat → Bool) (zf z : Int) : Int := if jisf w zf = true then jat w zf.toNat z 144 0 else -1
theorem jmx_ge (w : Nat → Bool) (f : Nat) : ∀ n, 0 ≤ jmx w f n := by
  intro n
  induction n with
  | zero => exact Int.le_refl 0
  | succ n ih =>
    unfold jmx
    split <;> omega
theorem jct_le (w : Nat → Bool) (f : Nat) : ∀ n, jct w f n ≤ n := by
  intro n
  induction n with
  | zero => exact Nat.le_refl 0
  | succ n ih =>
    unfold jct
    split <;> omega
theorem jisf_nat {w : Nat → Bool} {c : Nat} (hc : c < 144) (hw : w c = false) : jisf w (c : Int) = true := by
  rw [jisf_in (by omega), Int.toNat_natCast, hw]
  rfl
/-- a box of walls, row by row -/
def jbx (on : Bool) (y : Nat) : Nat → Nat → (Nat → Bool) → Nat → (Nat → Bool) × Nat
  | 0, _, w, ch => (w, ch)
  | n + 1, x, w, ch => jbx on y n (x + 1) (va_up w (12 * y + x) on) (if w (12 * y + x) = on then ch else ch + 1)
def jby (on : Bool) (lf rt : Nat) : Nat → Nat → (Nat → Bool) → Nat → (Nat → Bool) × Nat
  | 0, _, w, ch => (w, ch)
  | n + 1, y, w, ch => jby on lf rt n (y + 1) (jbx on y (rt + 1 - lf) lf w ch).1 (jbx on y (rt + 1 - lf) lf w ch).2
def jbad (z : Int) : Prop := z < 0 ∨ z / 256 % 16 < z / 4096 ∨ 11 < z / 256 % 16 ∨ z % 16 < z / 16 % 16 ∨ 11 < z % 16
def jblk (w : Nat → Bool) (z : Int) (on : Bool) : (Nat → Bool) × Int := if z < 0 ∨ z / 256 % 16 < z / 4096 ∨ 11 < z / 256 % 16 ∨ z % 16 < z / 16 % 16 ∨ 11 < z % 16 then (w, -1) else ((jby on (z / 4096).toNat (z / 256 % 16).toNat ((z % 16).toNat + 1 - (z / 16 % 16).toNat) (z / 16 % 16).toNat w 0).1, ((jby on (z / 4096).toNat (z / 256 % 16).toNat ((z % 16).toNat + 1 - (z / 16 % 16).toNat) (z / 16 % 16).toNat w 0).2 : Int))
theorem jblk_no {w : Nat → Bool} {z : Int} {on : Bool} (h : z < 0 ∨ z / 256 % 16 < z / 4096 ∨ 11 < z / 256 % 16 ∨ z % 16 < z / 16 % 16 ∨ 11 < z % 16) : jblk w z on = (w, -1) := if_pos h
theorem jblk_yes {w : Nat → Bool} {z : Int} {on : Bool} {lf rt lo hi : Nat} (h : 0 ≤ z) (h1 : z / 4096 = (lf : Int)) (h2 : z / 256 % 16 = (rt : Int)) (h3 : z / 16 % 16 = (lo : Int)) (h4 : z % 16 = (hi : Int)) (g1 : lf ≤ rt) (g2 : rt ≤ 11) (g3 : lo ≤ hi) (g4 : hi ≤ 11) : jblk w z on = ((jby on lf rt (hi + 1 - lo) lo w 0).1, ((jby on lf rt (hi + 1 - lo) lo w 0).2 : Int)) := by
  unfold jblk
  rw [h1, h2, h3, h4, if_neg (by omega), Int.toNat_natCast, Int.toNat_natCast, Int.toNat_natCast, Int.toNat_natCast]
theorem bz_inj {a b : Bool} (h : bz a = bz b) : a = b := by
  cases a <;> cases b <;> first | rfl | (exact absurd h (by decide))
theorem jshr_iI {a b : Int} (k : Nat) (hs : ((iI b &&& 31).toBitVec.smod 32).toNat = k) (h : 0 ≤ a ∧ a < 2147483648) : iI a >>> (iI b &&& 31) = iI (a / ((2 ^ k : Nat) : Int)) := by
  obtain ⟨n, rfl⟩ : ∃ n : Nat, a = n := ⟨a.toNat, by omega⟩
  rw [iI_nat, pk_shrN (by omega) _ k hs, ← iI_nat]
  rfl
theorem jand_iI {a : Int} (h : 0 ≤ a ∧ a < 2147483648) : iI a &&& iI 15 = iI (a % 16) := by
  obtain ⟨n, rfl⟩ : ∃ n : Nat, a = n := ⟨a.toNat, by omega⟩
  rw [iI_nat, pk_andN (by omega) 4 (by decide +kernel), ← iI_nat]
  rfl
section JBB
variable {p : Program} {l : Launch} {e : Env} {R : Room} {s : State} {m : MethodId} {args : Array Value} {below : List Frame} {meth : Method} {c : Code} {H : Heap} {locs : List Loc} {cells slots : Nat} {Q : State → Prop}
variable {cc : ByteArray} {pc : Nat} {ls : Array Slot} {rest : List Value} {nL : Nat} {own : String}
theorem j_ishr (F : CallFix p m c cc nL s args lw_all own) {a b : Int} (k : Nat) (z : Int) (hs : ((iI b &&& 31).toBitVec.smod 32).toNat = k) (h : 0 ≤ a ∧ a < 2147483648) (hz : a / ((2 ^ k : Nat) : Int) = z) (hdg : decode cc pc = .ok (.ishr, 1)) (kk : W p l e R s m args below meth c H locs cells slots Q (F0 m (pc + 1) ls (.int (iI z) :: rest))) : W p l e R s m args below meth c H locs cells slots Q (F0 m pc ls (.int (iI b) :: .int (iI a) :: rest)) :=
  lv_ishr F.1 F.2.1 hdg (by rw [jshr_iI k hs h, hz]; exact kk)
theorem j_iand15 (F : CallFix p m c cc nL s args lw_all own) {a : Int} (z : Int) (h : 0 ≤ a ∧ a < 2147483648) (hz : a % 16 = z) (hdg : decode cc pc = .ok (.iand, 1)) (kk : W p l e R s m args below meth c H locs cells slots Q (F0 m (pc + 1) ls (.int (iI z) :: rest))) : W p l e R s m args below meth c H locs cells slots Q (F0 m pc ls (.int (iI 15) :: .int (iI a) :: rest)) :=
  lv_iand F.1 F.2.1 hdg (by rw [jand_iI h, hz]; exact kk)
end JBB
end
section
/-! the reference's search, plain: lowering a cell, a pass, a round makes one more cell right -/
def mkc (k : Nat) : Int := if k % 2 = 0 then 14 else 10
def inb (c k : Nat) : Prop := 0 ≤ jcx c + jdx k ∧ jcx c + jdx k < 12 ∧ 0 ≤ jcy c + jdy k ∧ jcy c + jdy k < 12
def nbr (c k : Nat) : Nat := jcl (jcx c + jdx k) (jcy c + jdy k)
noncomputable def menc (w : Nat → Bool) (fr c : Nat) : Int := if jdist w fr c < 0 then -1 else jdist w fr c
def mval (w : Nat → Bool) (fr c : Nat) (v : Int) : Prop := v = -1 ∨ ∃ n : Nat, v = (n : Int) ∧ jlen w fr c n
def mS (w : Nat → Bool) (fr : Nat) (B : Int) (fa : Nat → Int) : Prop := fr < 144 ∧ w fr = false ∧ fa fr = 0 ∧ ∀ c, c < 144 → mval w fr c (fa c) ∧ fa c ≤ B
def fle (a b : Int) : Prop := b < 0 ∨ (0 ≤ a ∧ a ≤ b)
def mLo (w : Nat → Bool) (fr : Nat) (B : Int) (fa : Nat → Int) (c k : Nat) (fa1 : Nat → Int) (lo : Bool) : Prop :=
  (∀ j, j ≠ c → fa1 j = fa j) ∧ fle (fa1 c) (fa c) ∧ mval w fr c (fa1 c) ∧ fa1 c ≤ B + 14 ∧
  (∀ k', k' < k → k' ≠ 4 → inb c k' → 0 ≤ fa (nbr c k') → 0 ≤ fa1 c ∧ fa1 c ≤ fa (nbr c k') + mkc k') ∧ (lo = false → fa1 = fa)
theorem mkc_jmc : ∀ k, k < 9 → k ≠ 4 → mkc k = (jmc (-(jdx k)) (-(jdy k)) : Int) := by decide +kernel
theorem mkc_in (k : Nat) : 10 ≤ mkc k ∧ mkc k ≤ 14 := by
  unfold mkc
  split <;> omega
theorem nbr_ne {c k : Nat} (hc : c < 144) (hk : k < 9) (h4 : k ≠ 4) (hi : inb c k) : nbr c k < 144 ∧ nbr c k ≠ c ∧ jcx (nbr c k) = jcx c + jdx k ∧ jcy (nbr c k) = jcy c + jdy k := by
  obtain ⟨q1, q2, q3, q4⟩ := jcl_in hi
  refine ⟨q1, ?_, q2, q3⟩
  intro e
  have hok := (jdxy hk h4).1
  unfold okd at hok
  have e2 : jcl (jcx c + jdx k) (jcy c + jdy k) = c := e
  rw [e2] at q2 q3
  omega
/-- one step more to a free cell -/
theorem jlen_step {w : Nat → Bool} {fr c k n : Nat} (hc : c < 144) (hw : w c = false) (hk : k < 9) (h4 : k ≠ 4) (hi : inb c k) (h : jlen w fr (nbr c k) n) : jlen w fr c (n + jmc (-(jdx k)) (-(jdy k))) := by
  obtain ⟨q1, q2, q3, q4⟩ := nbr_ne hc hk h4 hi
  obtain ⟨ms, hp, hs⟩ := h
  obtain ⟨c1, c2, c3⟩ := jcxy hc
  have hok := (jdxy hk h4).1
  unfold okd at hok
  rw [q3, q4] at hp
  refine ⟨ms ++ [(-(jdx k), -(jdy k))], pth_app ms _ _ _ _ _ _ _ hp ⟨?_, ?_, ?_, ?_⟩, ?_⟩
  · show okd (-(jdx k)) (-(jdy k))
    unfold okd; omega
  · show jfre w (jcx c + jdx k + -(jdx k)) (jcy c + jdy k + -(jdy k)) = true
    rw [show jcx c + jdx k + -(jdx k) = jcx c by omega, show jcy c + jdy k + -(jdy k) = jcy c by omega]
    exact jfre_iff.mpr ⟨c1, by rw [c2, Int.toNat_natCast]; exact hw⟩
  · show jcx c + jdx k + -(jdx k) = jcx c
    omega
  · show jcy c + jdy k + -(jdy k) = jcy c
    omega
  · rw [cst_app, hs]
    rfl
theorem fle_rf {w : Nat → Bool} {fr c : Nat} {v : Int} (h : mval w fr c v) : fle v v := by
  rcases h with h | ⟨n, h, _⟩
  · left; omega
  · right; omega
theorem fle_tr {a b c : Int} (h1 : fle a b) (h2 : fle b c) : fle a c := by
  unfold fle at *
  omega
theorem mLo_0 {w : Nat → Bool} {fr c : Nat} {B : Int} {fa : Nat → Int} (h : mS w fr B fa) (hc : c < 144) : mLo w fr B fa c 0 fa false := by
  obtain ⟨h1, h2⟩ := h.2.2.2 c hc
  exact ⟨fun _ _ => rfl, fle_rf h1, h1, by omega, fun k' hk => by omega, fun _ => rfl⟩
theorem mLo_skip {w : Nat → Bool} {fr c k : Nat} {B : Int} {fa fa1 : Nat → Int} {lo : Bool} (h : mLo w fr B fa c k fa1 lo) (hs : k = 4 ∨ ¬ inb c k ∨ fa (nbr c k) < 0 ∨ (0 ≤ fa1 c ∧ fa1 c ≤ fa (nbr c k) + mkc k)) : mLo w fr B fa c (k + 1) fa1 lo := by
  obtain ⟨h1, h2, h3, h4, h5, h6⟩ := h
  refine ⟨h1, h2, h3, h4, fun k' hk hk4 hi hn => ?_, h6⟩
  by_cases hq : k' = k
  · subst hq
    rcases hs with q | q | q | q
    · exact absurd q hk4
    · exact absurd hi q
    · omega
    · exact q
  · exact h5 k' (by omega) hk4 hi hn
theorem mLo_low {w : Nat → Bool} {fr c k : Nat} {B : Int} {fa fa1 : Nat → Int} {lo : Bool} (hS : mS w fr B fa) (h : mLo w fr B fa c k fa1 lo) (hc : c < 144) (hw : w c = false) (hk : k < 9) (hk4 : k ≠ 4) (hi : inb c k) (hn : 0 ≤ fa (nbr c k)) (hl : fa1 c < 0 ∨ fa (nbr c k) + mkc k < fa1 c) : mLo w fr B fa c (k + 1) (va_up fa1 c (fa (nbr c k) + mkc k)) true := by
  obtain ⟨h1, h2, h3, h4, h5, h6⟩ := h
  obtain ⟨q1, q2, q3, q4⟩ := nbr_ne hc hk hk4 hi
  have hm := mkc_in k
  obtain ⟨g1, g2⟩ := hS.2.2.2 (nbr c k) q1
  refine ⟨fun j hj => ?_, ?_, ?_, ?_, fun k' hk' hk4' hi' hn' => ?_, fun q => by cases q⟩
  · rw [va_up_ne _ _ hj]; exact h1 j hj
  · rw [va_up_self]
    unfold fle at *
    omega
  · rw [va_up_self]
    rcases g1 with g1 | ⟨n, g1, g3⟩
    · omega
    · refine Or.inr ⟨n + jmc (-(jdx k)) (-(jdy k)), ?_, jlen_step hc hw hk hk4 hi g3⟩
      rw [g1, mkc_jmc k hk hk4]
      omega
  · rw [va_up_self]; omega
  · rw [va_up_self]
    by_cases hq : k' = k
    · subst hq; omega
    · have := h5 k' (by omega) hk4' hi' hn'
      omega
/-- what lower does at c -/
def mLw (w : Nat → Bool) (fr : Nat) (B : Int) (fa : Nat → Int) (c : Nat) (fa1 : Nat → Int) (lo : Bool) : Prop := (w c = true ∧ fa1 = fa ∧ lo = false) ∨ (w c = false ∧ mLo w fr B fa c 9 fa1 lo)
def mRx (w : Nat → Bool) (fr : Nat) (fa0 fa : Nat → Int) (q : Nat) : Prop := w q = false → ∀ k, k < 9 → k ≠ 4 → inb q k → 0 ≤ jdist w fr (nbr q k) → fa0 (nbr q k) = jdist w fr (nbr q k) → 0 ≤ fa q ∧ fa q ≤ jdist w fr (nbr q k) + mkc k
/-- within a round: fa0 at its begin, the cells ahead of c lowered -/
def mPs (w : Nat → Bool) (fr : Nat) (B : Int) (fa0 : Nat → Int) (c : Nat) (fa : Nat → Int) (mo : Bool) : Prop := mS w fr B fa ∧ (∀ j, j < 144 → fle (fa j) (fa0 j)) ∧ (∀ q, q < c → q < 144 → mRx w fr fa0 fa q) ∧ (mo = false → fa = fa0)
theorem mval_ge {w : Nat → Bool} {fr c : Nat} {v : Int} (h : mval w fr c v) (hv : 0 ≤ v) : 0 ≤ jdist w fr c ∧ jdist w fr c ≤ v := by
  rcases h with h | ⟨n, h, hl⟩
  · omega
  · rcases jdist_cases w fr c with ⟨m, h1, h2, h3⟩ | ⟨_, h2⟩
    · have := h3 n hl
      omega
    · exact absurd hl (h2 n)
theorem mS_low {w : Nat → Bool} {fr e : Nat} {B : Int} {fa fa1 : Nat → Int} {lo : Bool} (hS : mS w fr B fa) (he : e < 144) (h : mLw w fr B fa e fa1 lo) : mS w fr (B + 14) fa1 ∧ (∀ j, j < 144 → fle (fa1 j) (fa j)) := by
  obtain ⟨s1, s2, s3, s4⟩ := hS
  rcases h with ⟨_, rfl, _⟩ | ⟨hw, h1, h2, h3, h4, h5, h6⟩
  · exact ⟨⟨s1, s2, s3, fun c hc => ⟨(s4 c hc).1, by have := (s4 c hc).2; omega⟩⟩, fun j hj => fle_rf (s4 j hj).1⟩
  · refine ⟨⟨s1, s2, ?_, fun c hc => ?_⟩, fun j hj => ?_⟩
    · by_cases hq : fr = e
      · subst hq
        rw [s3] at h2
        unfold fle at h2
        omega
      · rw [h1 fr hq]; exact s3
    · by_cases hq : c = e
      · subst hq; exact ⟨h3, h4⟩
      · rw [h1 c hq]
        exact ⟨(s4 c hc).1, by have := (s4 c hc).2; omega⟩
    · by_cases hq : j = e
      · subst hq; exact h2
      · rw [h1 j hq]; exact fle_rf (s4 j hj).1
theorem mPs_step {w : Nat → Bool} {fr c e : Nat} {B : Int} {fa0 fa fa1 : Nat → Int} {mo lo mo' : Bool} (h : mPs w fr B fa0 c fa mo) (he : e < 144) (hl : mLw w fr B fa e fa1 lo) (hmo : mo' = false → mo = false ∧ lo = false) : mPs w fr (B + 14) fa0 c fa1 mo' ∧ (e = c → mPs w fr (B + 14) fa0 (c + 1) fa1 mo') := by
  obtain ⟨h1, h2, h3, h4⟩ := h
  obtain ⟨g1, g2⟩ := mS_low h1 he hl
  have hmono : ∀ j, j < 144 → fle (fa1 j) (fa0 j) := fun j hj => fle_tr (g2 j hj) (h2 j hj)
  have hmo2 : mo' = false → fa1 = fa0 := by
    intro q
    obtain ⟨q1, q2⟩ := hmo q
    rcases hl with ⟨_, z, _⟩ | ⟨_, z⟩
    · rw [z]; exact h4 q1
    · rw [z.2.2.2.2.2 q2]; exact h4 q1
  have hold : ∀ q, q < c → q < 144 → mRx w fr fa0 fa1 q := by
    intro q hq hq2 hw k hk hk4 hi hd hr
    obtain ⟨z1, z2⟩ := h3 q hq hq2 hw k hk hk4 hi hd hr
    have z3 := g2 q hq2
    unfold fle at z3
    omega
  refine ⟨⟨g1, hmono, hold, hmo2⟩, fun hec => ⟨g1, hmono, fun q hq hq2 => ?_, hmo2⟩⟩
  by_cases hqc : q = c
  · intro hw k hk hk4 hi hd hr
    rcases hl with ⟨z, _, _⟩ | ⟨_, z⟩
    · rw [hec, ← hqc, hw] at z; cases z
    · have hn := nbr_ne hq2 hk hk4 hi
      have y1 := h2 (nbr q k) hn.1
      rw [hr] at y1
      have y2 := (h1.2.2.2 (nbr q k) hn.1).1
      have y3 : 0 ≤ fa (nbr q k) ∧ fa (nbr q k) ≤ jdist w fr (nbr q k) := by
        unfold fle at y1
        omega
      have y4 := z.2.2.2.2.1 k hk hk4 (by rw [hec, ← hqc]; exact hi) (by rw [hec, ← hqc]; exact y3.1)
      rw [hec, ← hqc] at y4
      omega
  · exact hold q (by omega) hq2
theorem menc_ok {w : Nat → Bool} {fr c : Nat} {v : Int} (h : mval w fr c v) (hd : 0 ≤ jdist w fr c → 0 ≤ v ∧ v ≤ jdist w fr c) : v = menc w fr c := by
  unfold menc
  by_cases hq : jdist w fr c < 0
  · rw [if_pos hq]
    rcases h with h | ⟨n, h, hl⟩
    · exact h
    · have := mval_ge (Or.inr ⟨n, h, hl⟩) (by omega)
      omega
  · rw [if_neg hq]
    have h1 := hd (by omega)
    have h2 := mval_ge h h1.1
    omega
theorem sm_lt {f g : Nat → Nat} : ∀ n : Nat, (∀ j, j < n → f j ≤ g j) → (∃ q, q < n ∧ f q < g q) → sm f n < sm g n := by
  intro n
  induction n with
  | zero => rintro _ ⟨q, hq, _⟩; omega
  | succ n ih =>
    rintro h ⟨q, hq, hl⟩
    show sm f n + f n < sm g n + g n
    have hle : ∀ m, m ≤ n → sm f m ≤ sm g m := by
      intro m
      induction m with
      | zero => intro _; exact Nat.le_refl 0
      | succ m ihm =>
        intro hm
        have := ihm (by omega)
        have := h m (by omega)
        show sm f m + f m ≤ sm g m + g m
        omega
    by_cases hqn : q = n
    · subst hqn
      have := hle q (Nat.le_refl q)
      omega
    · have := ih (fun j hj => h j (by omega)) ⟨q, by omega, hl⟩
      have := h n (by omega)
      omega
noncomputable def mwr (w : Nat → Bool) (fr : Nat) (fa : Nat → Int) (j : Nat) : Nat := if fa j = menc w fr j then 0 else 1
/-- how many cells are wrong -/
noncomputable def mwc (w : Nat → Bool) (fr : Nat) (fa : Nat → Int) : Nat := sm (mwr w fr fa) 144
def mAll (w : Nat → Bool) (fr : Nat) (fa : Nat → Int) : Prop := ∀ j, j < 144 → fa j = menc w fr j
theorem mwc_le (w : Nat → Bool) (fr : Nat) (fa : Nat → Int) : mwc w fr fa ≤ 144 := sm_le (fun j => by unfold mwr; split <;> omega) 144
theorem jdist_self {w : Nat → Bool} {fr : Nat} : jdist w fr fr = 0 := jdist_some (n := 0) ⟨[], ⟨rfl, rfl⟩, rfl⟩ (fun m _ => Nat.zero_le m)
/-- along a best way: the first cell that isn't right -/
theorem mfind {w : Nat → Bool} {fr c : Nat} {fa : Nat → Int} (hc : c < 144) (hwrong : ¬ fa c = menc w fr c) {D : Nat} (hD : ∀ n, jlen w fr c n → D ≤ n) : ∀ (ms : List (Int × Int)) (p n : Nat), p < 144 → jdist w fr p = (n : Int) → jlen w fr p n → fa p = menc w fr p → pth w (jcx p) (jcy p) ms (jcx c) (jcy c) → n + cst ms = D →
    ∃ q k, q < 144 ∧ w q = false ∧ k < 9 ∧ k ≠ 4 ∧ inb q k ∧ 0 ≤ jdist w fr (nbr q k) ∧ fa (nbr q k) = jdist w fr (nbr q k) ∧ jdist w fr q = jdist w fr (nbr q k) + mkc k ∧ ¬ fa q = menc w fr q := by
  intro ms
  induction ms with
  | nil =>
    intro p n hp hd hl hr hpt hs
    obtain ⟨q1, q2⟩ := hpt
    have e : p = c := by
      rw [← (jcxy hp).2.2, ← (jcxy hc).2.2, q1, q2]
    rw [e] at hr
    exact absurd hr hwrong
  | cons d ms ih =>
    intro p n hp hd hl hr hpt hs
    obtain ⟨d1, d2⟩ := d
    have hok : okd d1 d2 := hpt.1
    have hf : jfre w (jcx p + d1) (jcy p + d2) = true := hpt.2.1
    have hpt2 : pth w (jcx p + d1) (jcy p + d2) ms (jcx c) (jcy c) := hpt.2.2
    obtain ⟨f1, f2⟩ := jfre_iff.mp hf
    obtain ⟨c1, c2, c3, c4⟩ := jcl_in f1
    have hs2 : n + (jmc d1 d2 + cst ms) = D := hs
    have hlq : jlen w fr (jcl (jcx p + d1) (jcy p + d2)) (n + jmc d1 d2) := by
      have := jlen_app (ms := [(d1, d2)]) hl ⟨hok, hf, rfl, rfl⟩ f1
      exact this
    generalize jcl (jcx p + d1) (jcy p + d2) = q at c1 c2 c3 c4 hlq
    have hdq : jdist w fr q = ((n + jmc d1 d2 : Nat) : Int) := by
      refine jdist_some hlq (fun m hm => ?_)
      obtain ⟨m0, a1, a2⟩ := hm
      have := hD (m + cst ms) ⟨m0 ++ ms, pth_app m0 ms _ _ _ _ _ _ a1 (by rw [c2, c3]; exact hpt2), by rw [cst_app, a2]⟩
      omega
    by_cases hrq : fa q = menc w fr q
    · exact ih q (n + jmc d1 d2) c1 hdq hlq hrq (by rw [c2, c3]; exact hpt2) (by omega)
    · have hok2 : okd (-d1) (-d2) := by
        unfold okd at hok ⊢
        omega
      obtain ⟨i1, i2, i3, i4⟩ := jix_in hok2
      have hp1 := jcxy hp
      have hin : inb q (jix (-d1) (-d2)) := by
        unfold inb
        rw [i3, i4, c2, c3]
        omega
      have hnb : nbr q (jix (-d1) (-d2)) = p := by
        unfold nbr
        rw [i3, i4, c2, c3, show jcx p + d1 + -d1 = jcx p by omega, show jcy p + d2 + -d2 = jcy p by omega]
        exact hp1.2.2
      have hmk := mkc_jmc (jix (-d1) (-d2)) i1 i2
      rw [i3, i4, Int.neg_neg, Int.neg_neg] at hmk
      refine ⟨q, jix (-d1) (-d2), c1, ?_, i1, i2, hin, ?_, ?_, ?_, hrq⟩
      · rw [← c4, Int.toNat_natCast] at f2; exact f2
      · rw [hnb, hd]; omega
      · rw [hnb, hr]
        unfold menc
        rw [if_neg (by omega)]
      · rw [hnb, hdq, hd, hmk]; omega
/-- a round: all is right at its begin, or fewer cells are wrong at its end -/
theorem mround {w : Nat → Bool} {fr : Nat} {B B0 : Int} {fa0 fa : Nat → Int} {mo : Bool} (h0 : mS w fr B0 fa0) (h : mPs w fr B fa0 144 fa mo) : mAll w fr fa0 ∨ mwc w fr fa < mwc w fr fa0 := by
  by_cases hall : mAll w fr fa0
  · exact Or.inl hall
  right
  obtain ⟨c, hc, hwr⟩ : ∃ c, c < 144 ∧ ¬ fa0 c = menc w fr c := by
    by_cases hq : ∃ c, c < 144 ∧ ¬ fa0 c = menc w fr c
    · exact hq
    · exfalso
      refine hall (fun j hj => ?_)
      by_cases hz : fa0 j = menc w fr j
      · exact hz
      · exact absurd ⟨j, hj, hz⟩ hq
  obtain ⟨h1, h2, h3, h4⟩ := h
  have hkeep : ∀ j, j < 144 → fa0 j = menc w fr j → fa j = menc w fr j := by
    intro j hj hr
    refine menc_ok (h1.2.2.2 j hj).1 (fun hd => ?_)
    have := h2 j hj
    unfold menc at hr
    rw [if_neg (by omega)] at hr
    unfold fle at this
    omega
  have hD : 0 ≤ jdist w fr c := by
    rcases (show jdist w fr c < 0 ∨ 0 ≤ jdist w fr c by omega) with q | q
    · exfalso
      exact hwr (menc_ok (h0.2.2.2 c hc).1 (fun z => by omega))
    · exact q
  rcases jdist_cases w fr c with ⟨n, d1, ⟨ms, d2, d2c⟩, d3⟩ | ⟨d1, _⟩
  · have hself : fa0 fr = menc w fr fr := by
      unfold menc
      rw [jdist_self, h0.2.2.1]
      rfl
    obtain ⟨q, k, q1, q2, q3, q4, q5, q6, q7, q8, q9⟩ := mfind hc hwr d3 ms fr 0 h0.1 jdist_self ⟨[], ⟨rfl, rfl⟩, rfl⟩ hself d2 (by omega)
    have hx := h3 q q1 q1 q2 k q3 q4 q5 q6 q7
    have hqr : fa q = menc w fr q := menc_ok (h1.2.2.2 q q1).1 (fun _ => by omega)
    refine sm_lt 144 (fun j hj => ?_) ⟨q, q1, ?_⟩
    · unfold mwr
      by_cases hz : fa0 j = menc w fr j
      · rw [if_pos hz, if_pos (hkeep j hj hz)]; exact Nat.le_refl 0
      · rw [if_neg hz]; split <;> omega
    · unfold mwr
      rw [if_pos hqr, if_neg q9]; exact Nat.zero_lt_one
  · omega
/-- between rounds -/
def mRd (w : Nat → Bool) (fr r : Nat) (fa : Nat → Int) (mo : Bool) : Prop := mS w fr (4032 * (r : Int)) fa ∧ (mo = false → mAll w fr fa) ∧ (mAll w fr fa ∨ mwc w fr fa + r ≤ 144)
theorem mRd_next {w : Nat → Bool} {fr r : Nat} {fa0 fa : Nat → Int} {mo mo0 : Bool} (h0 : mRd w fr r fa0 mo0) (h : mPs w fr (4032 * (r : Int) + 4032) fa0 144 fa mo) : mRd w fr (r + 1) fa mo := by
  have hr := mround h0.1 h
  obtain ⟨h1, h2, h3, h4⟩ := h
  have hkeep : mAll w fr fa0 → mAll w fr fa := by
    intro ha j hj
    refine menc_ok (h1.2.2.2 j hj).1 (fun hd => ?_)
    have h5 := h2 j hj
    have h6 := ha j hj
    unfold menc at h6
    rw [if_neg (by omega)] at h6
    unfold fle at h5
    omega
  refine ⟨?_, fun q => ?_, ?_⟩
  · rw [show 4032 * ((r + 1 : Nat) : Int) = 4032 * (r : Int) + 4032 by omega]
    exact h1
  · have e := h4 q
    rcases hr with z | z
    · exact hkeep z
    · rw [e] at z; omega
  · rcases hr with z | z
    · exact Or.inl (hkeep z)
    · rcases h0.2.2 with y | y
      · exact Or.inl (hkeep y)
      · right; omega
theorem mRd_end {w : Nat → Bool} {fr r : Nat} {fa : Nat → Int} {mo : Bool} (h : mRd w fr r fa mo) (he : 145 ≤ r ∨ mo = false) : mAll w fr fa := by
  rcases he with q | q
  · rcases h.2.2 with z | z
    · exact z
    · omega
  · exact h.2.1 q
theorem mRd_0 {w : Nat → Bool} {fr : Nat} {fa : Nat → Int} (hfr : fr < 144) (hw : w fr = false) (h : ∀ c, c < 144 → fa c = -1) : mRd w fr 0 (va_up fa fr 0) true := by
  refine ⟨⟨hfr, hw, va_up_self _ _ _, fun c hc => ?_⟩, (fun q => by cases q), Or.inr ?_⟩
  · by_cases hq : c = fr
    · subst hq
      rw [va_up_self]
      exact ⟨Or.inr ⟨0, rfl, [], ⟨rfl, rfl⟩, rfl⟩, by omega⟩
    · rw [va_up_ne _ _ hq, h c hc]
      exact ⟨Or.inl rfl, by omega⟩
  · have := mwc_le w fr (va_up fa fr 0)
    omega
theorem mPs_0 {w : Nat → Bool} {fr : Nat} {B : Int} {fa : Nat → Int} (h : mS w fr B fa) : mPs w fr B fa 0 fa false := ⟨h, fun j hj => fle_rf (h.2.2.2 j hj).1, fun q hq => by omega, fun _ => rfl⟩
end
section
theorem jdg_gt {w : Nat → Bool} {g dx dy : Int} : ∀ (n k : Nat) (x y : Int) (k' : Nat) (x' y' : Int), jdg w g dx dy n k x y = some (k', x', y') → k < k' ∧ k' ≤ k + n := by
  intro n
  induction n with
  | zero => intro k x y k' x' y' h; cases h
  | succ n ih =>
    intro k x y k' x' y' h
    unfold jdg at h
    split at h
    · split at h
      · cases h; omega
      · have := ih _ _ _ _ _ _ h
        omega
    · cases h
theorem jdg_stp_in {w : Nat → Bool} {g dx dy x y : Int} {n : Nat} : 0 ≤ jstp (jdg w g dx dy n 0 x y) ∧ jstp (jdg w g dx dy n 0 x y) ≤ (n : Int) := by
  rcases h : jdg w g dx dy n 0 x y with _ | ⟨k, x', y'⟩
  · simp [jstp]
  · have := jdg_gt n 0 x y k x' y' h
    simp [jstp]
    omega
theorem stp0d {w : Nat → Bool} {g dx dy x y : Int} {n : Nat} (h : jstp (jdg w g dx dy n 0 x y) = 0) : jdg w g dx dy n 0 x y = none := by
  rcases hq : jdg w g dx dy n 0 x y with _ | ⟨k, x', y'⟩
  · rfl
  · have := (jdg_gt n 0 x y k x' y' hq).1
    rw [hq] at h
    have h : (k : Int) = 0 := h
    omega
theorem stp0s {w : Nat → Bool} {g dx dy x y : Int} {n : Nat} (h : jstp (jst w g dx dy n 0 x y) = 0) : jst w g dx dy n 0 x y = none := by
  rcases hq : jst w g dx dy n 0 x y with _ | ⟨k, x', y'⟩
  · rfl
  · have := jst_gt n 0 x y k x' y' hq
    rw [hq] at h
    have h : (k : Int) = 0 := h
    omega
theorem stp1 {o : Option (Nat × Int × Int)} (h : ¬ jstp o = 0) : ∃ (k : Nat) (x y : Int), o = some (k, x, y) := by
  rcases o with _ | ⟨k, x, y⟩
  · exact absurd rfl h
  · exact ⟨k, x, y, rfl⟩
theorem jI_offpre {w : Nat → Bool} {fr gl : Nat} {le dr ma op : Nat → Nat} {oc c0 d0 s : Nat} (h : jI w fr gl le dr ma op oc c0 d0) (hs : s < 144) : ma s ≤ 2 ∧ (ma s ≠ 0 → le s < 32768 ∧ dr s < 512) ∧ (ma s ≠ 1 → oc < 144) := by
  obtain ⟨h1, h2, h3, h4, h5, h6⟩ := h
  refine ⟨h1 s hs, fun hm => ⟨?_, (h3 s hs hm).2.1⟩, fun hm => jL_room h4 hs hm⟩
  have := jC_le h3 hs hm
  omega
theorem jL_oc {ma op : Nat → Nat} {oc : Nat} (h : jL ma op oc) : oc ≤ 144 := by
  have h1 : sm (i1 ma) 144 ≤ 144 := sm_le (i1_le ma) 144
  have h2 : sm (i1 ma) 144 = oc := h.1
  omega
theorem jI_tkpre {w : Nat → Bool} {fr gl : Nat} {le dr ma op : Nat → Nat} {oc c0 d0 : Nat} (h : jI w fr gl le dr ma op oc c0 d0) (ho : 0 < oc) : 1 ≤ oc ∧ oc ≤ 144 ∧ gl < 144 ∧ (∀ i, i < oc → op i < 144 ∧ le (op i) < 32768) := by
  obtain ⟨h1, h2, h3, h4, h5, h6⟩ := h
  refine ⟨ho, jL_oc h4, h2.2.1, fun i hi => ?_⟩
  obtain ⟨q1, q2⟩ := h4.2.1 i hi
  have := jC_le h3 q1 (by omega)
  exact ⟨q1, by omega⟩
set_option maxHeartbeats 4000000 in
set_option maxRecDepth 100000 in
theorem c0_goOn (l : Launch) (D : va_G) (a : Nat → Nat) (k : Nat → ClassId) (w : Nat → Bool) (le dr ma op : Nat → Nat) (oc gl : Nat) (la : Int) (fr f : Nat) (h : f < 144 ∧ ma f = 2 ∧ jI w fr gl le dr ma op oc f 0) : gMv l yX0_goOn cX0_goOn 10 ({ frames := 5, cells := 0, slots := 0, locals := 126 }) D (JT k) (JW a k) [.ref (a 0), .int (iI (f : Int))] (w, le, dr, ma, op, oc, gl, la) (fun X => ∃ (le' dr' ma' op' : Nat → Nat) (oc' : Nat) (la' : Int), X = (w, le', dr', ma', op', oc', gl, la') ∧ jI w fr gl le' dr' ma' op' oc' 144 0 ∧ jmu le' dr' ma' ≤ jmu le dr ma) := by
  refine gMv_of (by decide) (Nat.le_of_ble_eq_true rfl) ?_
  intro p e s m below meth c A ls F hr hlk hA G hl
  have F : CallFix p m c cX0_goOn 10 s ([.ref (a 0), .int (iI (f : Int))] : List Value).toArray lw_all RX0 := F
  have hl : lv_has ls 10 [(0, .ref (a 0)), (1, .int (iI (f : Int)))] := hl
  obtain ⟨hf, hm, hI0⟩ := h
  have hdf : dr f < 512 := (hI0.2.2.1 f hf (by omega)).2.1
  have hgl : gl < 144 := hI0.2.1.2.1
  obtain ⟨hfx, hfc, _⟩ := jcxy hf
  have hcell : (f : Int) = 12 * jcy f + jcx f := hfc.symm
  have LP : ∀ (n : Nat) (d : Nat) (le' : Nat → Nat) (dr' : Nat → Nat) (ma' : Nat → Nat) (op' : Nat → Nat) (oc' : Nat) (la' : Int) (H : Heap) (locs : List Loc) (ls : Array Slot), 9 < d + n → d ≤ 9 → ma' f = 2 → dr' f = dr f → jI w fr gl le' dr' ma' op' oc' f d → jmu le' dr' ma' ≤ jmu le dr ma → jG D a k A s (w, le', dr', ma', op', oc', gl, la') H locs → lv_has ls 10 [(3, .int (iI (((d : Nat) : Int)))), (2, .int (iI (((dr f : Nat) : Int)))), (1, .int (iI ((f : Int)))), (0, .ref (a 0))] → W p l e ({ frames := 5, cells := 0, slots := 0, locals := 126 }) s m ([.ref (a 0), .int (iI (f : Int))] : List Value).toArray below meth c H locs 0 0 (gQv below (fun X => ∃ (le' dr' ma' op' : Nat → Nat) (oc' : Nat) (la' : Int), X = (w, le', dr', ma', op', oc', gl, la') ∧ jI w fr gl le' dr' ma' op' oc' 144 0 ∧ jmu le' dr' ma' ≤ jmu le dr ma) D (JT k) (JW a k) A ([.ref (a 0), .int (iI (f : Int))] : List Value).toArray s) (F0 m 9 ls []) := by
    intro n
    induction n with
    | zero =>
      intro d le' dr' ma' op' oc' la' H locs ls hn hd
      omega
    | succ n ih =>
      intro d le' dr' ma' op' oc' la' H locs ls hn hd hm2 hds hI hmu G hl
      refine j_iload_n F dX0_goOn_9 rfl (lv_at hl 0 rfl) ?_
      refine j_bipush F dX0_goOn_10 (by decide +kernel) ?_
      refine j_icmp_ge F 186 dX0_goOn_12 (by decide) (by omega) (fun c_12 => ?_) (fun c_12 => ?_)
      · skip
        have hd9 : d = 9 := by omega
        subst hd9
        exact g_vret F hr hlk G ⟨le', dr', ma', op', oc', la', rfl, jI_done hI, hmu⟩ dX0_goOn_186
      · skip
        refine j_iload_n F dX0_goOn_15 rfl (lv_at hl 1 rfl) ?_
        refine j_iload_n F dX0_goOn_16 rfl (lv_at hl 0 rfl) ?_
        refine lv_ishr F.1 F.2.1 dX0_goOn_17 ?_
        refine j_iconst F dX0_goOn_18 ?_
        refine lv_iand F.1 F.2.1 dX0_goOn_19 ?_
        refine lv_if_eq (tgt := 180) F.1 F.2.1 dX0_goOn_20 (by decide) (fun c_20 => ?_) (fun c_20 => ?_)
        · skip
          refine j_iinc F (((d + 1 : Nat) : Int)) [(3, .int (iI (((d + 1 : Nat) : Int)))), (2, .int (iI (((dr f : Nat) : Int)))), (1, .int (iI ((f : Int)))), (0, .ref (a 0))] (k := 0) dX0_goOn_180 hl rfl (by omega) (by decide) rfl (fun ls hl => ?_)
          refine j_goto F 9 dX0_goOn_183 (by decide) ?_
          exact ih (d + 1) le' dr' ma' op' oc' la' _ _ ls (by omega) (by omega) hm2 hds (jI_skip hI (Or.inl (by rw [hds]; exact (jtst_iI (dr f) hdf d (by omega)).mp c_20))) hmu G (lv_sub hl [0, 1, 2, 3] rfl)
        · skip
          refine j_iload_n F dX0_goOn_23 rfl (lv_at hl 0 rfl) ?_
          refine j_iconst F dX0_goOn_24 ?_
          refine j_icmp_ne F 31 dX0_goOn_25 (by decide) (by omega) (fun c_25 => ?_) (fun c_25 => ?_)
          · skip
            have hok := (jdxy (d := d) (by omega) (by omega)).1
            have hok1 := hok
            unfold okd at hok1
            refine j_iload_n F dX0_goOn_31 rfl (lv_at hl 0 rfl) ?_
            refine j_iconst F dX0_goOn_32 ?_
            refine j_irem F ((d : Int) % 3) (by omega) rfl dX0_goOn_33 ?_
            refine j_iconst F dX0_goOn_34 ?_
            refine j_isub F dX0_goOn_35 ?_
            refine j_eq (jdx d) rfl ?_
            refine j_istore F [(4, .int (iI (jdx d))), (3, .int (iI (((d : Nat) : Int)))), (2, .int (iI (((dr f : Nat) : Int)))), (1, .int (iI ((f : Int)))), (0, .ref (a 0))] dX0_goOn_36 hl (by decide) rfl (fun ls hl => ?_)
            refine j_iload_n F dX0_goOn_38 rfl (lv_at hl 1 rfl) ?_
            refine j_iconst F dX0_goOn_39 ?_
            refine j_idiv F ((d : Int) / 3) (by omega) rfl dX0_goOn_40 ?_
            refine j_iconst F dX0_goOn_41 ?_
            refine j_isub F dX0_goOn_42 ?_
            refine j_eq (jdy d) rfl ?_
            refine j_istore F [(5, .int (iI (jdy d))), (4, .int (iI (jdx d))), (3, .int (iI (((d : Nat) : Int)))), (2, .int (iI (((dr f : Nat) : Int)))), (1, .int (iI ((f : Int)))), (0, .ref (a 0))] dX0_goOn_43 hl (by decide) rfl (fun ls hl => ?_)
            refine j_iload F dX0_goOn_45 (lv_at hl 1 rfl) ?_
            refine j_if_eq F 59 dX0_goOn_47 (by decide) (by omega) (fun c_47 => ?_) (fun c_47 => ?_)
            · skip
              refine j_iconst F dX0_goOn_59 ?_
              have hdi : ¬ (jdx d ≠ 0 ∧ jdy d ≠ 0) := by omega
              refine j_istore F [(6, .int (iI (0))), (5, .int (iI (jdy d))), (4, .int (iI (jdx d))), (3, .int (iI (((d : Nat) : Int)))), (2, .int (iI (((dr f : Nat) : Int)))), (1, .int (iI ((f : Int)))), (0, .ref (a 0))] dX0_goOn_60 hl (by decide) rfl (fun ls hl => ?_)
              refine j_iload F dX0_goOn_62 (lv_at hl 0 rfl) ?_
              refine j_if_eq F 79 dX0_goOn_64 (by decide) (by omega) (fun c_64 => ?_) (fun c_64 => ?_)
              · skip
                refine j_aload_n F dX0_goOn_79 rfl (lv_at hl 6 rfl) ?_
                refine j_iload_n F dX0_goOn_80 rfl (lv_at hl 5 rfl) ?_
                refine j_eq (12 * jcy f + jcx f) hcell ?_
                refine j_iload F dX0_goOn_81 (lv_at hl 2 rfl) ?_
                refine j_iload F dX0_goOn_83 (lv_at hl 1 rfl) ?_
                refine k0_jumpStraight F hA G (jcx f) (jcy f) (jdx d) (jdy d) ⟨hfx.1, hfx.2.1, hfx.2.2.1, hfx.2.2.2, hok, hgl⟩ (by decide) hl.1 (Nat.le_of_ble_eq_true rfl) dX0_goOn_85 (fun H locs G => ?_)
                have hst := jst_stp_in (w := w) (g := (gl : Int)) (dx := jdx d) (dy := jdy d) (x := jcx f) (y := jcy f) (n := 12)
                refine j_istore F [(7, .int (iI (jstp (jst w (gl : Int) (jdx d) (jdy d) 12 0 (jcx f) (jcy f))))), (6, .int (iI (0))), (5, .int (iI (jdy d))), (4, .int (iI (jdx d))), (3, .int (iI (((d : Nat) : Int)))), (2, .int (iI (((dr f : Nat) : Int)))), (1, .int (iI ((f : Int)))), (0, .ref (a 0))] dX0_goOn_88 hl (by decide) rfl (fun ls hl => ?_)
                refine j_iload F dX0_goOn_90 (lv_at hl 0 rfl) ?_
                refine j_if_ne F 98 dX0_goOn_92 (by decide) (by omega) (fun c_92 => ?_) (fun c_92 => ?_)
                · skip
                  obtain ⟨kn, x', y', ho⟩ := stp1 c_92
                  rw [ho] at G hl
                  have G : jG D a k A s (w, le', dr', ma', op', oc', gl, 12 * y' + x') H locs := G
                  have hl : lv_has ls 10 [(7, .int (iI (((kn : Nat) : Int)))), (6, .int (iI (0))), (5, .int (iI (jdy d))), (4, .int (iI (jdx d))), (3, .int (iI (((d : Nat) : Int)))), (2, .int (iI (((dr f : Nat) : Int)))), (1, .int (iI ((f : Int)))), (0, .ref (a 0))] := hl
                  have hj : jmp w (gl : Int) (jcx f) (jcy f) (jdx d) (jdy d) = some (kn, x', y') := by
                    unfold jmp; rw [if_neg hdi]; exact ho
                  obtain ⟨s1, s2, s3, s4, s5, s6, s7, s8⟩ := jI_stop hI hf (by omega) (by omega) (by omega) hj
                  have s9 := jcl_in s1
                  have hok2 := hok
                  unfold okd at hok2
                  refine j_aload_n F dX0_goOn_98 rfl (lv_at hl 7 rfl) ?_
                  refine j0_landed F G dX0_goOn_99 ?_
                  refine j_istore F [(8, .int (iI (12 * y' + x'))), (7, .int (iI (((kn : Nat) : Int)))), (6, .int (iI (0))), (5, .int (iI (jdy d))), (4, .int (iI (jdx d))), (3, .int (iI (((d : Nat) : Int)))), (2, .int (iI (((dr f : Nat) : Int)))), (1, .int (iI ((f : Int)))), (0, .ref (a 0))] dX0_goOn_102 hl (by decide) rfl (fun ls hl => ?_)
                  refine j_aload_n F dX0_goOn_104 rfl (lv_at hl 8 rfl) ?_
                  refine j_iload F dX0_goOn_105 (lv_at hl 4 rfl) ?_
                  refine j_iload F dX0_goOn_107 (lv_at hl 3 rfl) ?_
                  refine k0_bitOf F hA G (jdx d) (jdy d) (by omega) (by decide) hl.1 (Nat.le_of_ble_eq_true rfl) dX0_goOn_109 (fun H locs G => ?_)
                  refine j_aload_n F dX0_goOn_112 rfl (lv_at hl 8 rfl) ?_
                  refine j_iload F dX0_goOn_113 (lv_at hl 0 rfl) ?_
                  refine j_iload F dX0_goOn_115 (lv_at hl 4 rfl) ?_
                  refine j_iload F dX0_goOn_117 (lv_at hl 3 rfl) ?_
                  refine k0_forced F hA G x' y' (jdx d) (jdy d) (by omega) (by decide) hl.1 (Nat.le_of_ble_eq_true rfl) dX0_goOn_119 (fun H locs G => ?_)
                  refine j_ior F (jbit (jdx d) (jdy d)) (jfcd w x' y' (jdx d) (jdy d)) rfl rfl dX0_goOn_122 ?_
                  refine j_istore F [(9, .int (iI (((jbit (jdx d) (jdy d) ||| jfcd w x' y' (jdx d) (jdy d) : Nat) : Int)))), (8, .int (iI (12 * y' + x'))), (7, .int (iI (((kn : Nat) : Int)))), (6, .int (iI (0))), (5, .int (iI (jdy d))), (4, .int (iI (jdx d))), (3, .int (iI (((d : Nat) : Int)))), (2, .int (iI (((dr f : Nat) : Int)))), (1, .int (iI ((f : Int)))), (0, .ref (a 0))] dX0_goOn_123 hl (by decide) rfl (fun ls hl => ?_)
                  refine j_iload F dX0_goOn_125 (lv_at hl 3 rfl) ?_
                  refine j_if_eq F 150 dX0_goOn_127 (by decide) (by omega) (fun c_127 => ?_) (fun c_127 => ?_)
                  · skip
                    refine j_aload_n F dX0_goOn_150 rfl (lv_at hl 9 rfl) ?_
                    refine j_iload F dX0_goOn_151 (lv_at hl 1 rfl) ?_
                    refine j_eq (((jcl x' y' : Nat) : Int)) s9.2.2.2.symm ?_
                    refine j_aload_n F dX0_goOn_153 rfl (lv_at hl 9 rfl) ?_
                    refine j0_length F G dX0_goOn_154 ?_
                    refine j_iload_n F dX0_goOn_157 rfl (lv_at hl 8 rfl) ?_
                    refine j0_ldL F G (f) (by omega) (by omega) dX0_goOn_158 ?_
                    refine j_iload F dX0_goOn_159 (lv_at hl 2 rfl) ?_
                    refine j_iload F dX0_goOn_161 (lv_at hl 3 rfl) ?_
                    refine j_if_eq F 171 dX0_goOn_163 (by decide) (by omega) (fun c_163 => ?_) (fun c_163 => ?_)
                    · skip
                      refine j_bipush F dX0_goOn_171 (by decide +kernel) ?_
                      refine j_imul F dX0_goOn_173 ?_
                      refine j_iadd F dX0_goOn_174 ?_
                      refine j_eq (((le' f + kn * jmc (jdx d) (jdy d) : Nat) : Int)) (by rw [jmc_s hdi]; omega) ?_
                      refine j_iload F dX0_goOn_175 (lv_at hl 0 rfl) ?_
                      refine j_eq (((jnx w x' y' (jdx d) (jdy d) : Nat) : Int)) (by unfold jnx; rw [if_neg hdi]) ?_
                      refine k0_offer F hA G (jcl x' y') (le' f + kn * jmc (jdx d) (jdy d)) (jnx w x' y' (jdx d) (jdy d)) ⟨s9.1, s8, jnx_lt hok, jI_offpre hI s9.1⟩ (by decide) hl.1 (Nat.le_of_ble_eq_true rfl) dX0_goOn_177 (fun H locs G => ?_)
                      obtain ⟨le2, dr2, ma2, op2, oc2, r1, r2, r3, r4, r5⟩ := jI_go hI hf hm2 (by omega) (by omega) hj
                      rw [r1] at G
                      have G : jG D a k A s (w, le2, dr2, ma2, op2, oc2, gl, 12 * y' + x') H locs := G
                      refine j_iinc F (((d + 1 : Nat) : Int)) [(3, .int (iI (((d + 1 : Nat) : Int)))), (9, .int (iI (((jbit (jdx d) (jdy d) ||| jfcd w x' y' (jdx d) (jdy d) : Nat) : Int)))), (8, .int (iI (12 * y' + x'))), (7, .int (iI (((kn : Nat) : Int)))), (6, .int (iI (0))), (5, .int (iI (jdy d))), (4, .int (iI (jdx d))), (2, .int (iI (((dr f : Nat) : Int)))), (1, .int (iI ((f : Int)))), (0, .ref (a 0))] (k := 6) dX0_goOn_180 hl rfl (by omega) (by decide) rfl (fun ls hl => ?_)
                      refine j_goto F 9 dX0_goOn_183 (by decide) ?_
                      exact ih (d + 1) le2 dr2 ma2 op2 oc2 _ _ _ ls (by omega) (by omega) r4 (r5.trans hds) r2 (Nat.le_trans r3 hmu) G (lv_sub hl [0, 7, 8, 9] rfl)
                    · skip
                      exact absurd rfl c_163
                  · skip
                    exact absurd rfl c_127
                · skip
                  refine j_goto F 180 dX0_goOn_95 (by decide) ?_
                  refine j_iinc F (((d + 1 : Nat) : Int)) [(3, .int (iI (((d + 1 : Nat) : Int)))), (7, .int (iI (jstp (jst w (gl : Int) (jdx d) (jdy d) 12 0 (jcx f) (jcy f))))), (6, .int (iI (0))), (5, .int (iI (jdy d))), (4, .int (iI (jdx d))), (2, .int (iI (((dr f : Nat) : Int)))), (1, .int (iI ((f : Int)))), (0, .ref (a 0))] (k := 4) dX0_goOn_180 hl rfl (by omega) (by decide) rfl (fun ls hl => ?_)
                  refine j_goto F 9 dX0_goOn_183 (by decide) ?_
                  exact ih (d + 1) le' dr' ma' op' oc' _ _ _ ls (by omega) (by omega) hm2 hds (jI_skip hI (Or.inr (Or.inr (fun k2 x2 y2 hj => by
                    unfold jmp at hj
                    rw [if_neg hdi, stp0s c_92] at hj
                    cases hj)))) hmu G (lv_sub hl [0, 5, 6, 7] rfl)
              · skip
                exact absurd rfl c_64
            · skip
              refine j_iload F dX0_goOn_50 (lv_at hl 0 rfl) ?_
              refine j_if_eq F 59 dX0_goOn_52 (by decide) (by omega) (fun c_52 => ?_) (fun c_52 => ?_)
              · skip
                refine j_iconst F dX0_goOn_59 ?_
                have hdi : ¬ (jdx d ≠ 0 ∧ jdy d ≠ 0) := by omega
                refine j_istore F [(6, .int (iI (0))), (5, .int (iI (jdy d))), (4, .int (iI (jdx d))), (3, .int (iI (((d : Nat) : Int)))), (2, .int (iI (((dr f : Nat) : Int)))), (1, .int (iI ((f : Int)))), (0, .ref (a 0))] dX0_goOn_60 hl (by decide) rfl (fun ls hl => ?_)
                refine j_iload F dX0_goOn_62 (lv_at hl 0 rfl) ?_
                refine j_if_eq F 79 dX0_goOn_64 (by decide) (by omega) (fun c_64 => ?_) (fun c_64 => ?_)
                · skip
                  refine j_aload_n F dX0_goOn_79 rfl (lv_at hl 6 rfl) ?_
                  refine j_iload_n F dX0_goOn_80 rfl (lv_at hl 5 rfl) ?_
                  refine j_eq (12 * jcy f + jcx f) hcell ?_
                  refine j_iload F dX0_goOn_81 (lv_at hl 2 rfl) ?_
                  refine j_iload F dX0_goOn_83 (lv_at hl 1 rfl) ?_
                  refine k0_jumpStraight F hA G (jcx f) (jcy f) (jdx d) (jdy d) ⟨hfx.1, hfx.2.1, hfx.2.2.1, hfx.2.2.2, hok, hgl⟩ (by decide) hl.1 (Nat.le_of_ble_eq_true rfl) dX0_goOn_85 (fun H locs G => ?_)
                  have hst := jst_stp_in (w := w) (g := (gl : Int)) (dx := jdx d) (dy := jdy d) (x := jcx f) (y := jcy f) (n := 12)
                  refine j_istore F [(7, .int (iI (jstp (jst w (gl : Int) (jdx d) (jdy d) 12 0 (jcx f) (jcy f))))), (6, .int (iI (0))), (5, .int (iI (jdy d))), (4, .int (iI (jdx d))), (3, .int (iI (((d : Nat) : Int)))), (2, .int (iI (((dr f : Nat) : Int)))), (1, .int (iI ((f : Int)))), (0, .ref (a 0))] dX0_goOn_88 hl (by decide) rfl (fun ls hl => ?_)
                  refine j_iload F dX0_goOn_90 (lv_at hl 0 rfl) ?_
                  refine j_if_ne F 98 dX0_goOn_92 (by decide) (by omega) (fun c_92 => ?_) (fun c_92 => ?_)
                  · skip
                    obtain ⟨kn, x', y', ho⟩ := stp1 c_92
                    rw [ho] at G hl
                    have G : jG D a k A s (w, le', dr', ma', op', oc', gl, 12 * y' + x') H locs := G
                    have hl : lv_has ls 10 [(7, .int (iI (((kn : Nat) : Int)))), (6, .int (iI (0))), (5, .int (iI (jdy d))), (4, .int (iI (jdx d))), (3, .int (iI (((d : Nat) : Int)))), (2, .int (iI (((dr f : Nat) : Int)))), (1, .int (iI ((f : Int)))), (0, .ref (a 0))] := hl
                    have hj : jmp w (gl : Int) (jcx f) (jcy f) (jdx d) (jdy d) = some (kn, x', y') := by
                      unfold jmp; rw [if_neg hdi]; exact ho
                    obtain ⟨s1, s2, s3, s4, s5, s6, s7, s8⟩ := jI_stop hI hf (by omega) (by omega) (by omega) hj
                    have s9 := jcl_in s1
                    have hok2 := hok
                    unfold okd at hok2
                    refine j_aload_n F dX0_goOn_98 rfl (lv_at hl 7 rfl) ?_
                    refine j0_landed F G dX0_goOn_99 ?_
                    refine j_istore F [(8, .int (iI (12 * y' + x'))), (7, .int (iI (((kn : Nat) : Int)))), (6, .int (iI (0))), (5, .int (iI (jdy d))), (4, .int (iI (jdx d))), (3, .int (iI (((d : Nat) : Int)))), (2, .int (iI (((dr f : Nat) : Int)))), (1, .int (iI ((f : Int)))), (0, .ref (a 0))] dX0_goOn_102 hl (by decide) rfl (fun ls hl => ?_)
                    refine j_aload_n F dX0_goOn_104 rfl (lv_at hl 8 rfl) ?_
                    refine j_iload F dX0_goOn_105 (lv_at hl 4 rfl) ?_
                    refine j_iload F dX0_goOn_107 (lv_at hl 3 rfl) ?_
                    refine k0_bitOf F hA G (jdx d) (jdy d) (by omega) (by decide) hl.1 (Nat.le_of_ble_eq_true rfl) dX0_goOn_109 (fun H locs G => ?_)
                    refine j_aload_n F dX0_goOn_112 rfl (lv_at hl 8 rfl) ?_
                    refine j_iload F dX0_goOn_113 (lv_at hl 0 rfl) ?_
                    refine j_iload F dX0_goOn_115 (lv_at hl 4 rfl) ?_
                    refine j_iload F dX0_goOn_117 (lv_at hl 3 rfl) ?_
                    refine k0_forced F hA G x' y' (jdx d) (jdy d) (by omega) (by decide) hl.1 (Nat.le_of_ble_eq_true rfl) dX0_goOn_119 (fun H locs G => ?_)
                    refine j_ior F (jbit (jdx d) (jdy d)) (jfcd w x' y' (jdx d) (jdy d)) rfl rfl dX0_goOn_122 ?_
                    refine j_istore F [(9, .int (iI (((jbit (jdx d) (jdy d) ||| jfcd w x' y' (jdx d) (jdy d) : Nat) : Int)))), (8, .int (iI (12 * y' + x'))), (7, .int (iI (((kn : Nat) : Int)))), (6, .int (iI (0))), (5, .int (iI (jdy d))), (4, .int (iI (jdx d))), (3, .int (iI (((d : Nat) : Int)))), (2, .int (iI (((dr f : Nat) : Int)))), (1, .int (iI ((f : Int)))), (0, .ref (a 0))] dX0_goOn_123 hl (by decide) rfl (fun ls hl => ?_)
                    refine j_iload F dX0_goOn_125 (lv_at hl 3 rfl) ?_
                    refine j_if_eq F 150 dX0_goOn_127 (by decide) (by omega) (fun c_127 => ?_) (fun c_127 => ?_)
                    · skip
                      refine j_aload_n F dX0_goOn_150 rfl (lv_at hl 9 rfl) ?_
                      refine j_iload F dX0_goOn_151 (lv_at hl 1 rfl) ?_
                      refine j_eq (((jcl x' y' : Nat) : Int)) s9.2.2.2.symm ?_
                      refine j_aload_n F dX0_goOn_153 rfl (lv_at hl 9 rfl) ?_
                      refine j0_length F G dX0_goOn_154 ?_
                      refine j_iload_n F dX0_goOn_157 rfl (lv_at hl 8 rfl) ?_
                      refine j0_ldL F G (f) (by omega) (by omega) dX0_goOn_158 ?_
                      refine j_iload F dX0_goOn_159 (lv_at hl 2 rfl) ?_
                      refine j_iload F dX0_goOn_161 (lv_at hl 3 rfl) ?_
                      refine j_if_eq F 171 dX0_goOn_163 (by decide) (by omega) (fun c_163 => ?_) (fun c_163 => ?_)
                      · skip
                        refine j_bipush F dX0_goOn_171 (by decide +kernel) ?_
                        refine j_imul F dX0_goOn_173 ?_
                        refine j_iadd F dX0_goOn_174 ?_
                        refine j_eq (((le' f + kn * jmc (jdx d) (jdy d) : Nat) : Int)) (by rw [jmc_s hdi]; omega) ?_
                        refine j_iload F dX0_goOn_175 (lv_at hl 0 rfl) ?_
                        refine j_eq (((jnx w x' y' (jdx d) (jdy d) : Nat) : Int)) (by unfold jnx; rw [if_neg hdi]) ?_
                        refine k0_offer F hA G (jcl x' y') (le' f + kn * jmc (jdx d) (jdy d)) (jnx w x' y' (jdx d) (jdy d)) ⟨s9.1, s8, jnx_lt hok, jI_offpre hI s9.1⟩ (by decide) hl.1 (Nat.le_of_ble_eq_true rfl) dX0_goOn_177 (fun H locs G => ?_)
                        obtain ⟨le2, dr2, ma2, op2, oc2, r1, r2, r3, r4, r5⟩ := jI_go hI hf hm2 (by omega) (by omega) hj
                        rw [r1] at G
                        have G : jG D a k A s (w, le2, dr2, ma2, op2, oc2, gl, 12 * y' + x') H locs := G
                        refine j_iinc F (((d + 1 : Nat) : Int)) [(3, .int (iI (((d + 1 : Nat) : Int)))), (9, .int (iI (((jbit (jdx d) (jdy d) ||| jfcd w x' y' (jdx d) (jdy d) : Nat) : Int)))), (8, .int (iI (12 * y' + x'))), (7, .int (iI (((kn : Nat) : Int)))), (6, .int (iI (0))), (5, .int (iI (jdy d))), (4, .int (iI (jdx d))), (2, .int (iI (((dr f : Nat) : Int)))), (1, .int (iI ((f : Int)))), (0, .ref (a 0))] (k := 6) dX0_goOn_180 hl rfl (by omega) (by decide) rfl (fun ls hl => ?_)
                        refine j_goto F 9 dX0_goOn_183 (by decide) ?_
                        exact ih (d + 1) le2 dr2 ma2 op2 oc2 _ _ _ ls (by omega) (by omega) r4 (r5.trans hds) r2 (Nat.le_trans r3 hmu) G (lv_sub hl [0, 7, 8, 9] rfl)
                      · skip
                        exact absurd rfl c_163
                    · skip
                      exact absurd rfl c_127
                  · skip
                    refine j_goto F 180 dX0_goOn_95 (by decide) ?_
                    refine j_iinc F (((d + 1 : Nat) : Int)) [(3, .int (iI (((d + 1 : Nat) : Int)))), (7, .int (iI (jstp (jst w (gl : Int) (jdx d) (jdy d) 12 0 (jcx f) (jcy f))))), (6, .int (iI (0))), (5, .int (iI (jdy d))), (4, .int (iI (jdx d))), (2, .int (iI (((dr f : Nat) : Int)))), (1, .int (iI ((f : Int)))), (0, .ref (a 0))] (k := 4) dX0_goOn_180 hl rfl (by omega) (by decide) rfl (fun ls hl => ?_)
                    refine j_goto F 9 dX0_goOn_183 (by decide) ?_
                    exact ih (d + 1) le' dr' ma' op' oc' _ _ _ ls (by omega) (by omega) hm2 hds (jI_skip hI (Or.inr (Or.inr (fun k2 x2 y2 hj => by
                      unfold jmp at hj
                      rw [if_neg hdi, stp0s c_92] at hj
                      cases hj)))) hmu G (lv_sub hl [0, 5, 6, 7] rfl)
                · skip
                  exact absurd rfl c_64
              · skip
                refine j_iconst F dX0_goOn_55 ?_
                refine j_goto F 60 dX0_goOn_56 (by decide) ?_
                have hdi : jdx d ≠ 0 ∧ jdy d ≠ 0 := ⟨c_47, c_52⟩
                refine j_istore F [(6, .int (iI (1))), (5, .int (iI (jdy d))), (4, .int (iI (jdx d))), (3, .int (iI (((d : Nat) : Int)))), (2, .int (iI (((dr f : Nat) : Int)))), (1, .int (iI ((f : Int)))), (0, .ref (a 0))] dX0_goOn_60 hl (by decide) rfl (fun ls hl => ?_)
                refine j_iload F dX0_goOn_62 (lv_at hl 0 rfl) ?_
                refine j_if_eq F 79 dX0_goOn_64 (by decide) (by omega) (fun c_64 => ?_) (fun c_64 => ?_)
                · skip
                  exact absurd c_64 (by decide)
                · skip
                  refine j_aload_n F dX0_goOn_67 rfl (lv_at hl 6 rfl) ?_
                  refine j_iload_n F dX0_goOn_68 rfl (lv_at hl 5 rfl) ?_
                  refine j_eq (12 * jcy f + jcx f) hcell ?_
                  refine j_iload F dX0_goOn_69 (lv_at hl 2 rfl) ?_
                  refine j_iload F dX0_goOn_71 (lv_at hl 1 rfl) ?_
                  refine k0_jumpDiagonal F hA G (jcx f) (jcy f) (jdx d) (jdy d) ⟨hfx.1, hfx.2.1, hfx.2.2.1, hfx.2.2.2, hok, hgl, hdi.1, hdi.2⟩ (by decide) hl.1 (Nat.le_of_ble_eq_true rfl) dX0_goOn_73 (fun H locs G => ?_)
                  have hst := jdg_stp_in (w := w) (g := (gl : Int)) (dx := jdx d) (dy := jdy d) (x := jcx f) (y := jcy f) (n := 12)
                  refine j_goto F 88 dX0_goOn_76 (by decide) ?_
                  refine j_istore F [(7, .int (iI (jstp (jdg w (gl : Int) (jdx d) (jdy d) 12 0 (jcx f) (jcy f))))), (6, .int (iI (1))), (5, .int (iI (jdy d))), (4, .int (iI (jdx d))), (3, .int (iI (((d : Nat) : Int)))), (2, .int (iI (((dr f : Nat) : Int)))), (1, .int (iI ((f : Int)))), (0, .ref (a 0))] dX0_goOn_88 hl (by decide) rfl (fun ls hl => ?_)
                  refine j_iload F dX0_goOn_90 (lv_at hl 0 rfl) ?_
                  refine j_if_ne F 98 dX0_goOn_92 (by decide) (by omega) (fun c_92 => ?_) (fun c_92 => ?_)
                  · skip
                    obtain ⟨kn, x', y', ho⟩ := stp1 c_92
                    rw [ho] at G hl
                    have G : jG D a k A s (w, le', dr', ma', op', oc', gl, 12 * y' + x') H locs := G
                    have hl : lv_has ls 10 [(7, .int (iI (((kn : Nat) : Int)))), (6, .int (iI (1))), (5, .int (iI (jdy d))), (4, .int (iI (jdx d))), (3, .int (iI (((d : Nat) : Int)))), (2, .int (iI (((dr f : Nat) : Int)))), (1, .int (iI ((f : Int)))), (0, .ref (a 0))] := hl
                    have hj : jmp w (gl : Int) (jcx f) (jcy f) (jdx d) (jdy d) = some (kn, x', y') := by
                      unfold jmp; rw [if_pos hdi]; exact ho
                    obtain ⟨s1, s2, s3, s4, s5, s6, s7, s8⟩ := jI_stop hI hf (by omega) (by omega) (by omega) hj
                    have s9 := jcl_in s1
                    have hok2 := hok
                    unfold okd at hok2
                    refine j_aload_n F dX0_goOn_98 rfl (lv_at hl 7 rfl) ?_
                    refine j0_landed F G dX0_goOn_99 ?_
                    refine j_istore F [(8, .int (iI (12 * y' + x'))), (7, .int (iI (((kn : Nat) : Int)))), (6, .int (iI (1))), (5, .int (iI (jdy d))), (4, .int (iI (jdx d))), (3, .int (iI (((d : Nat) : Int)))), (2, .int (iI (((dr f : Nat) : Int)))), (1, .int (iI ((f : Int)))), (0, .ref (a 0))] dX0_goOn_102 hl (by decide) rfl (fun ls hl => ?_)
                    refine j_aload_n F dX0_goOn_104 rfl (lv_at hl 8 rfl) ?_
                    refine j_iload F dX0_goOn_105 (lv_at hl 4 rfl) ?_
                    refine j_iload F dX0_goOn_107 (lv_at hl 3 rfl) ?_
                    refine k0_bitOf F hA G (jdx d) (jdy d) (by omega) (by decide) hl.1 (Nat.le_of_ble_eq_true rfl) dX0_goOn_109 (fun H locs G => ?_)
                    refine j_aload_n F dX0_goOn_112 rfl (lv_at hl 8 rfl) ?_
                    refine j_iload F dX0_goOn_113 (lv_at hl 0 rfl) ?_
                    refine j_iload F dX0_goOn_115 (lv_at hl 4 rfl) ?_
                    refine j_iload F dX0_goOn_117 (lv_at hl 3 rfl) ?_
                    refine k0_forced F hA G x' y' (jdx d) (jdy d) (by omega) (by decide) hl.1 (Nat.le_of_ble_eq_true rfl) dX0_goOn_119 (fun H locs G => ?_)
                    refine j_ior F (jbit (jdx d) (jdy d)) (jfcd w x' y' (jdx d) (jdy d)) rfl rfl dX0_goOn_122 ?_
                    refine j_istore F [(9, .int (iI (((jbit (jdx d) (jdy d) ||| jfcd w x' y' (jdx d) (jdy d) : Nat) : Int)))), (8, .int (iI (12 * y' + x'))), (7, .int (iI (((kn : Nat) : Int)))), (6, .int (iI (1))), (5, .int (iI (jdy d))), (4, .int (iI (jdx d))), (3, .int (iI (((d : Nat) : Int)))), (2, .int (iI (((dr f : Nat) : Int)))), (1, .int (iI ((f : Int)))), (0, .ref (a 0))] dX0_goOn_123 hl (by decide) rfl (fun ls hl => ?_)
                    refine j_iload F dX0_goOn_125 (lv_at hl 3 rfl) ?_
                    refine j_if_eq F 150 dX0_goOn_127 (by decide) (by omega) (fun c_127 => ?_) (fun c_127 => ?_)
                    · skip
                      exact absurd c_127 (by decide)
                    · skip
                      refine j_iload F dX0_goOn_130 (lv_at hl 0 rfl) ?_
                      refine j_aload_n F dX0_goOn_132 rfl (lv_at hl 9 rfl) ?_
                      refine j_iload F dX0_goOn_133 (lv_at hl 5 rfl) ?_
                      refine j_iconst F dX0_goOn_135 ?_
                      refine k0_bitOf F hA G (jdx d) 0 (by omega) (by decide) hl.1 (Nat.le_of_ble_eq_true rfl) dX0_goOn_136 (fun H locs G => ?_)
                      refine j_aload_n F dX0_goOn_139 rfl (lv_at hl 9 rfl) ?_
                      refine j_iconst F dX0_goOn_140 ?_
                      refine j_iload F dX0_goOn_141 (lv_at hl 4 rfl) ?_
                      refine k0_bitOf F hA G 0 (jdy d) (by omega) (by decide) hl.1 (Nat.le_of_ble_eq_true rfl) dX0_goOn_143 (fun H locs G => ?_)
                      refine j_ior F (jbit (jdx d) 0) (jbit 0 (jdy d)) rfl rfl dX0_goOn_146 ?_
                      refine j_ior F (jbit (jdx d) (jdy d) ||| jfcd w x' y' (jdx d) (jdy d)) (jbit (jdx d) 0 ||| jbit 0 (jdy d)) rfl rfl dX0_goOn_147 ?_
                      refine j_istore F [(9, .int (iI (((jbit (jdx d) (jdy d) ||| jfcd w x' y' (jdx d) (jdy d) ||| (jbit (jdx d) 0 ||| jbit 0 (jdy d)) : Nat) : Int)))), (8, .int (iI (12 * y' + x'))), (7, .int (iI (((kn : Nat) : Int)))), (6, .int (iI (1))), (5, .int (iI (jdy d))), (4, .int (iI (jdx d))), (3, .int (iI (((d : Nat) : Int)))), (2, .int (iI (((dr f : Nat) : Int)))), (1, .int (iI ((f : Int)))), (0, .ref (a 0))] dX0_goOn_148 hl (by decide) rfl (fun ls hl => ?_)
                      refine j_aload_n F dX0_goOn_150 rfl (lv_at hl 9 rfl) ?_
                      refine j_iload F dX0_goOn_151 (lv_at hl 1 rfl) ?_
                      refine j_eq (((jcl x' y' : Nat) : Int)) s9.2.2.2.symm ?_
                      refine j_aload_n F dX0_goOn_153 rfl (lv_at hl 9 rfl) ?_
                      refine j0_length F G dX0_goOn_154 ?_
                      refine j_iload_n F dX0_goOn_157 rfl (lv_at hl 8 rfl) ?_
                      refine j0_ldL F G (f) (by omega) (by omega) dX0_goOn_158 ?_
                      refine j_iload F dX0_goOn_159 (lv_at hl 2 rfl) ?_
                      refine j_iload F dX0_goOn_161 (lv_at hl 3 rfl) ?_
                      refine j_if_eq F 171 dX0_goOn_163 (by decide) (by omega) (fun c_163 => ?_) (fun c_163 => ?_)
                      · skip
                        exact absurd c_163 (by decide)
                      · skip
                        refine j_bipush F dX0_goOn_166 (by decide +kernel) ?_
                        refine j_goto F 173 dX0_goOn_168 (by decide) ?_
                        refine j_imul F dX0_goOn_173 ?_
                        refine j_iadd F dX0_goOn_174 ?_
                        refine j_eq (((le' f + kn * jmc (jdx d) (jdy d) : Nat) : Int)) (by rw [jmc_d hdi]; omega) ?_
                        refine j_iload F dX0_goOn_175 (lv_at hl 0 rfl) ?_
                        refine j_eq (((jnx w x' y' (jdx d) (jdy d) : Nat) : Int)) (by unfold jnx; rw [if_pos hdi]) ?_
                        refine k0_offer F hA G (jcl x' y') (le' f + kn * jmc (jdx d) (jdy d)) (jnx w x' y' (jdx d) (jdy d)) ⟨s9.1, s8, jnx_lt hok, jI_offpre hI s9.1⟩ (by decide) hl.1 (Nat.le_of_ble_eq_true rfl) dX0_goOn_177 (fun H locs G => ?_)
                        obtain ⟨le2, dr2, ma2, op2, oc2, r1, r2, r3, r4, r5⟩ := jI_go hI hf hm2 (by omega) (by omega) hj
                        rw [r1] at G
                        have G : jG D a k A s (w, le2, dr2, ma2, op2, oc2, gl, 12 * y' + x') H locs := G
                        refine j_iinc F (((d + 1 : Nat) : Int)) [(3, .int (iI (((d + 1 : Nat) : Int)))), (9, .int (iI (((jbit (jdx d) (jdy d) ||| jfcd w x' y' (jdx d) (jdy d) ||| (jbit (jdx d) 0 ||| jbit 0 (jdy d)) : Nat) : Int)))), (8, .int (iI (12 * y' + x'))), (7, .int (iI (((kn : Nat) : Int)))), (6, .int (iI (1))), (5, .int (iI (jdy d))), (4, .int (iI (jdx d))), (2, .int (iI (((dr f : Nat) : Int)))), (1, .int (iI ((f : Int)))), (0, .ref (a 0))] (k := 6) dX0_goOn_180 hl rfl (by omega) (by decide) rfl (fun ls hl => ?_)
                        refine j_goto F 9 dX0_goOn_183 (by decide) ?_
                        exact ih (d + 1) le2 dr2 ma2 op2 oc2 _ _ _ ls (by omega) (by omega) r4 (r5.trans hds) r2 (Nat.le_trans r3 hmu) G (lv_sub hl [0, 7, 8, 9] rfl)
                  · skip
                    refine j_goto F 180 dX0_goOn_95 (by decide) ?_
                    refine j_iinc F (((d + 1 : Nat) : Int)) [(3, .int (iI (((d + 1 : Nat) : Int)))), (7, .int (iI (jstp (jdg w (gl : Int) (jdx d) (jdy d) 12 0 (jcx f) (jcy f))))), (6, .int (iI (1))), (5, .int (iI (jdy d))), (4, .int (iI (jdx d))), (2, .int (iI (((dr f : Nat) : Int)))), (1, .int (iI ((f : Int)))), (0, .ref (a 0))] (k := 4) dX0_goOn_180 hl rfl (by omega) (by decide) rfl (fun ls hl => ?_)
                    refine j_goto F 9 dX0_goOn_183 (by decide) ?_
                    exact ih (d + 1) le' dr' ma' op' oc' _ _ _ ls (by omega) (by omega) hm2 hds (jI_skip hI (Or.inr (Or.inr (fun k2 x2 y2 hj => by
                      unfold jmp at hj
                      rw [if_pos hdi, stp0d c_92] at hj
                      cases hj)))) hmu G (lv_sub hl [0, 5, 6, 7] rfl)
          · skip
            refine j_goto F 180 dX0_goOn_28 (by decide) ?_
            refine j_iinc F (((d + 1 : Nat) : Int)) [(3, .int (iI (((d + 1 : Nat) : Int)))), (2, .int (iI (((dr f : Nat) : Int)))), (1, .int (iI ((f : Int)))), (0, .ref (a 0))] (k := 0) dX0_goOn_180 hl rfl (by omega) (by decide) rfl (fun ls hl => ?_)
            refine j_goto F 9 dX0_goOn_183 (by decide) ?_
            exact ih (d + 1) le' dr' ma' op' oc' la' _ _ ls (by omega) (by omega) hm2 hds (jI_skip hI (Or.inr (Or.inl (by omega)))) hmu G (lv_sub hl [0, 1, 2, 3] rfl)
  refine j_aload_n F dX0_goOn_0 rfl (lv_at hl 0 rfl) ?_
  refine j0_directions F G dX0_goOn_1 ?_
  refine j_iload_n F dX0_goOn_4 rfl (lv_at hl 1 rfl) ?_
  refine j0_ldD F G (f) (by omega) (by omega) dX0_goOn_5 ?_
  refine j_istore_n F [(2, .int (iI (((dr (f) : Nat) : Int)))), (0, .ref (a 0)), (1, .int (iI ((f : Int))))] dX0_goOn_6 rfl hl (by decide) rfl (fun ls hl => ?_)
  refine j_iconst F dX0_goOn_7 ?_
  refine j_eq (((0 : Nat) : Int)) rfl ?_
  refine j_istore_n F [(3, .int (iI (((0 : Nat) : Int)))), (2, .int (iI (((dr (f) : Nat) : Int)))), (0, .ref (a 0)), (1, .int (iI ((f : Int))))] dX0_goOn_8 rfl hl (by decide) rfl (fun ls hl => ?_)
  exact LP 10 0 le dr ma op oc la _ _ ls (by omega) (by omega) hm rfl hI0 (Nat.le_refl _) G (lv_sub hl [0, 1, 3, 2] rfl)

section K0goOn
variable {p : Program} {l : Launch} {e : Env} {R : Room} {s : State} {m : MethodId} {args : Array Value} {below : List Frame} {meth : Method} {c : Code} {H : Heap} {locs : List Loc} {Q : State → Prop}
variable {cc : ByteArray} {pc : Nat} {ls : Array Slot} {rest : List Value} {nL : Nat}
variable {D : va_G} {a : Nat → Nat} {k : Nat → ClassId} {A : Nat → Prop} {w : Nat → Bool} {le dr ma op : Nat → Nat} {oc gl : Nat} {la : Int}
set_option maxHeartbeats 4000000 in
set_option maxRecDepth 100000 in
theorem k0_goOn (F : CallFix p m c cc nL s args lw_all RX0) (hA : ∀ q, s.heap.size ≤ q → A q) (G : jG D a k A s (w, le, dr, ma, op, oc, gl, la) H locs) (fr f : Nat) (h : f < 144 ∧ ma f = 2 ∧ jI w fr gl le dr ma op oc f 0) (hR : 5 + 1 ≤ R.frames ∧ 8 + (10 + 11) + 126 ≤ R.locals) (hsz : ls.size = nL) (hroom : (rest.map fun v => v.category).sum ≤ 8) (hdg : decode cc pc = .ok (.invokevirtual 73, 3)) (kk : ∀ (le' dr' ma' op' : Nat → Nat) (oc' : Nat) (la' : Int) (H1 : Heap) (locs1 : List Loc), jI w fr gl le' dr' ma' op' oc' 144 0 ∧ jmu le' dr' ma' ≤ jmu le dr ma → jG D a k A s (w, le', dr', ma', op', oc', gl, la') H1 locs1 → W p l e R s m args below meth c H1 locs1 0 0 Q (F0 m (pc + 3) ls rest)) : W p l e R s m args below meth c H locs 0 0 Q (F0 m pc ls (.int (iI (f : Int)) :: .ref (a 0) :: rest)) :=
  g_callv (As := [.int (iI (f : Int))]) F hA (JW_same a k) G (c0_goOn l D a k w le dr ma op oc gl la fr f h) (cwV 1 F.2.2.2.2 (lw_V q91 q93 qs5 q17 q94) rfl rfl rfl (by decide +kernel) hR) (jrec G) hsz rfl hroom hdg (fun x' H1 locs1 hp G1 => by obtain ⟨le', dr', ma', op', oc', la', rfl, hp⟩ := hp; exact kk le' dr' ma' op' oc' la' H1 locs1 hp G1)
end K0goOn

set_option maxHeartbeats 4000000 in
set_option maxRecDepth 100000 in
theorem c0_search (l : Launch) (D : va_G) (a : Nat → Nat) (k : Nat → ClassId) (w : Nat → Bool) (le dr ma op : Nat → Nat) (oc gl : Nat) (la : Int) (fr g : Nat) (h : fr < 144 ∧ g < 144 ∧ w fr = false) : gMi l yX0_search cX0_search 4 .int ({ frames := 6, cells := 0, slots := 0, locals := 155 }) D (JT k) (JW a k) [.ref (a 0), .int (iI (fr : Int)), .int (iI (g : Int))] (w, le, dr, ma, op, oc, gl, la) (fun r X => r = iI (jdist w fr g) ∧ (-2 ≤ jdist w fr g ∧ jdist w fr g < 32768) ∧ ∃ (le' dr' ma' op' : Nat → Nat) (oc' gl' : Nat) (la' : Int), X = (w, le', dr', ma', op', oc', gl', la')) := by
  refine gMi_of (by decide) (Nat.le_of_ble_eq_true rfl) ?_
  intro p e s m below meth c A ls F hr hlk hA G hl
  have F : CallFix p m c cX0_search 4 s ([.ref (a 0), .int (iI (fr : Int)), .int (iI (g : Int))] : List Value).toArray lw_all RX0 := F
  have hl : lv_has ls 4 [(0, .ref (a 0)), (1, .int (iI (fr : Int))), (2, .int (iI (g : Int)))] := hl
  obtain ⟨h1, h2, h3⟩ := h
  have L2 : ∀ (n : Nat) (le' : Nat → Nat) (dr' : Nat → Nat) (ma' : Nat → Nat) (op' : Nat → Nat) (oc' : Nat) (la' : Int) (H : Heap) (locs : List Loc) (ls : Array Slot), jmu le' dr' ma' < n → jI w fr g le' dr' ma' op' oc' 144 0 → jG D a k A s (w, le', dr', ma', op', oc', g, la') H locs → lv_has ls 4 [(0, .ref (a 0)), (1, .int (iI ((fr : Int)))), (2, .int (iI ((g : Int))))] → W p l e ({ frames := 6, cells := 0, slots := 0, locals := 155 }) s m ([.ref (a 0), .int (iI (fr : Int)), .int (iI (g : Int))] : List Value).toArray below meth c H locs 0 0 (gQi below (fun r X => r = iI (jdist w fr g) ∧ (-2 ≤ jdist w fr g ∧ jdist w fr g < 32768) ∧ ∃ (le' dr' ma' op' : Nat → Nat) (oc' gl' : Nat) (la' : Int), X = (w, le', dr', ma', op', oc', gl', la')) D (JT k) (JW a k) A ([.ref (a 0), .int (iI (fr : Int)), .int (iI (g : Int))] : List Value).toArray s) (F0 m 41 ls []) := by
    intro n
    induction n with
    | zero =>
      intro le' dr' ma' op' oc' la' H locs ls hn
      omega
    | succ n ih =>
      intro le' dr' ma' op' oc' la' H locs ls hn hI G hl
      refine j_aload_n F dX0_search_41 rfl (lv_at hl 0 rfl) ?_
      refine j0_count F G dX0_search_42 ?_
      have hoc := jL_oc hI.2.2.2.1
      refine j_if_le F 73 dX0_search_45 (by decide) (by omega) (fun c_45 => ?_) (fun c_45 => ?_)
      · skip
        have ho0 : oc' = 0 := by omega
        subst ho0
        have hq := jdist_none (jI_none hI)
        refine j_bipush F dX0_search_73 (by decide +kernel) ?_
        exact g_iret F hr hlk rfl G ⟨by rw [hq], by omega, le', dr', ma', op', 0, g, la', rfl⟩ dX0_search_75
      · skip
        refine j_aload_n F dX0_search_48 rfl (lv_at hl 0 rfl) ?_
        refine k0_takeBest F hA G (jI_tkpre hI (by omega)) (by decide) hl.1 (Nat.le_of_ble_eq_true rfl) dX0_search_49 (fun b H locs hb G => ?_)
        obtain ⟨hb, hbest⟩ := hb
        obtain ⟨hbc, hbm⟩ := hI.2.2.2.1.2.1 b hb
        refine j_istore_n F [(3, .int (iI (((op' b : Nat) : Int)))), (0, .ref (a 0)), (1, .int (iI ((fr : Int)))), (2, .int (iI ((g : Int))))] dX0_search_52 rfl hl (by decide) rfl (fun ls hl => ?_)
        refine j_iload_n F dX0_search_53 rfl (lv_at hl 0 rfl) ?_
        refine j_iload_n F dX0_search_54 rfl (lv_at hl 3 rfl) ?_
        refine j_icmp_ne F 65 dX0_search_55 (by decide) (by omega) (fun c_55 => ?_) (fun c_55 => ?_)
        · skip
          obtain ⟨hI2, hmu2⟩ := jI_take hI hb (fun q => c_55 (by rw [q]))
          refine j_aload_n F dX0_search_65 rfl (lv_at hl 1 rfl) ?_
          refine j_iload_n F dX0_search_66 rfl (lv_at hl 0 rfl) ?_
          refine k0_goOn F hA G fr (op' b) ⟨hbc, va_up_self _ _ _, hI2⟩ (by decide) hl.1 (Nat.le_of_ble_eq_true rfl) dX0_search_67 (fun le2 dr2 ma2 op2 oc2 la2 H locs hp G => ?_)
          refine j_goto F 41 dX0_search_70 (by decide) ?_
          exact ih le2 dr2 ma2 op2 oc2 la2 H locs ls (by have := hp.2; omega) hp.1 G (lv_sub hl [1, 2, 3] rfl)
        · skip
          obtain ⟨hq1, hq2⟩ := jI_found hI hb hbest (by omega)
          have hq := jdist_some hq1 hq2
          have hq3 := jC_le hI.2.2.1 h2 (c := g) (by rw [show g = op' b by omega, hbm]; decide)
          refine j_aload_n F dX0_search_58 rfl (lv_at hl 1 rfl) ?_
          refine j0_length F G dX0_search_59 ?_
          refine j_iload_n F dX0_search_62 rfl (lv_at hl 3 rfl) ?_
          refine j0_ldL F G (g) (by omega) (by omega) dX0_search_63 ?_
          exact g_iret F hr hlk rfl G ⟨by rw [hq], by omega, _, _, _, _, _, _, _, rfl⟩ dX0_search_64
  have L1 : ∀ (n : Nat) (i : Nat) (ma' : Nat → Nat) (H : Heap) (locs : List Loc) (ls : Array Slot), 144 < i + n → i ≤ 144 → (∀ c, c < i → ma' c = 0) → jG D a k A s (w, le, dr, ma', op, oc, gl, la) H locs → lv_has ls 4 [(3, .int (iI (((i : Nat) : Int)))), (0, .ref (a 0)), (1, .int (iI ((fr : Int)))), (2, .int (iI ((g : Int))))] → W p l e ({ frames := 6, cells := 0, slots := 0, locals := 155 }) s m ([.ref (a 0), .int (iI (fr : Int)), .int (iI (g : Int))] : List Value).toArray below meth c H locs 0 0 (gQi below (fun r X => r = iI (jdist w fr g) ∧ (-2 ≤ jdist w fr g ∧ jdist w fr g < 32768) ∧ ∃ (le' dr' ma' op' : Nat → Nat) (oc' gl' : Nat) (la' : Int), X = (w, le', dr', ma', op', oc', gl', la')) D (JT k) (JW a k) A ([.ref (a 0), .int (iI (fr : Int)), .int (iI (g : Int))] : List Value).toArray s) (F0 m 2 ls []) := by
    intro n
    induction n with
    | zero =>
      intro i ma' H locs ls hn hi
      omega
    | succ n ih =>
      intro i ma' H locs ls hn hi hz G hl
      refine j_iload_n F dX0_search_2 rfl (lv_at hl 0 rfl) ?_
      refine j_sipush F dX0_search_3 (by decide +kernel) ?_
      refine j_icmp_ge F 22 dX0_search_6 (by decide) (by omega) (fun c_6 => ?_) (fun c_6 => ?_)
      · skip
        refine j_aload_n F dX0_search_22 rfl (lv_at hl 1 rfl) ?_
        refine j_iload_n F dX0_search_23 rfl (lv_at hl 3 rfl) ?_
        refine j0_pgoal F G (g) (by omega) dX0_search_24 (fun H locs G => ?_)
        refine j_aload_n F dX0_search_27 rfl (lv_at hl 1 rfl) ?_
        refine j_iconst F dX0_search_28 ?_
        refine j0_pcount F G (0) (by omega) dX0_search_29 (fun H locs G => ?_)
        refine j_aload_n F dX0_search_32 rfl (lv_at hl 1 rfl) ?_
        refine j_iload_n F dX0_search_33 rfl (lv_at hl 2 rfl) ?_
        refine j_iconst F dX0_search_34 ?_
        refine j_eq (((0 : Nat) : Int)) rfl ?_
        refine j_sipush F dX0_search_35 (by decide +kernel) ?_
        refine j_eq (((511 : Nat) : Int)) rfl ?_
        refine k0_offer F hA G fr 0 511 ⟨h1, by decide, by decide, by rw [hz fr (by omega)]; decide, fun q => absurd (hz fr (by omega)) q, fun _ => by decide⟩ (by decide) hl.1 (Nat.le_of_ble_eq_true rfl) dX0_search_38 (fun H locs G => ?_)
        obtain ⟨e1, hI⟩ := jI_init (w := w) (gl := g) (le := le) (dr := dr) (op := op) (fun c hc => hz c (by omega)) h1 h2 h3
        rw [e1] at G
        have G : jG D a k A s (w, va_up le fr 0, va_up dr fr 511, va_up ma' fr 1, va_up op 0 fr, 1, g, la) H locs := G
        exact L2 _ _ _ _ _ _ _ H locs ls (Nat.lt_succ_self _) hI G (lv_sub hl [1, 2, 3] rfl)
      · skip
        refine j_aload_n F dX0_search_9 rfl (lv_at hl 1 rfl) ?_
        refine j0_mark F G dX0_search_10 ?_
        refine j_iload_n F dX0_search_13 rfl (lv_at hl 0 rfl) ?_
        refine j_iconst F dX0_search_14 ?_
        refine j0_stM F G (i) (0) (by omega) (by omega) (by omega) (by omega) dX0_search_15 (fun H locs G => ?_)
        refine j_iinc F (((i + 1 : Nat) : Int)) [(3, .int (iI (((i + 1 : Nat) : Int)))), (0, .ref (a 0)), (1, .int (iI ((fr : Int)))), (2, .int (iI ((g : Int))))] (k := 0) dX0_search_16 hl rfl (by omega) (by decide) rfl (fun ls hl => ?_)
        refine j_goto F 2 dX0_search_19 (by decide) ?_
        exact ih (i + 1) (va_up ma' i 0) H locs ls (by omega) (by omega) (fun c hc => by
          by_cases q : c = i
          · subst q; exact va_up_self _ _ _
          · rw [va_up_ne _ _ q]; exact hz c (by omega)) G (lv_sub hl [0, 1, 2, 3] rfl)
  refine j_iconst F dX0_search_0 ?_
  refine j_eq (((0 : Nat) : Int)) rfl ?_
  refine j_istore_n F [(3, .int (iI (((0 : Nat) : Int)))), (0, .ref (a 0)), (1, .int (iI ((fr : Int)))), (2, .int (iI ((g : Int))))] dX0_search_1 rfl hl (by decide) rfl (fun ls hl => ?_)
  exact L1 145 0 ma _ _ ls (by omega) (by omega) (fun c hc => by omega) G (lv_sub hl [0, 1, 2, 3] rfl)

section K0search
variable {p : Program} {l : Launch} {e : Env} {R : Room} {s : State} {m : MethodId} {args : Array Value} {below : List Frame} {meth : Method} {c : Code} {H : Heap} {locs : List Loc} {Q : State → Prop}
variable {cc : ByteArray} {pc : Nat} {ls : Array Slot} {rest : List Value} {nL : Nat}
variable {D : va_G} {a : Nat → Nat} {k : Nat → ClassId} {A : Nat → Prop} {w : Nat → Bool} {le dr ma op : Nat → Nat} {oc gl : Nat} {la : Int}
set_option maxHeartbeats 4000000 in
set_option maxRecDepth 100000 in
theorem k0_search (F : CallFix p m c cc nL s args lw_all RX0) (hA : ∀ q, s.heap.size ≤ q → A q) (G : jG D a k A s (w, le, dr, ma, op, oc, gl, la) H locs) (fr g : Nat) (h : fr < 144 ∧ g < 144 ∧ w fr = false) (hR : 6 + 1 ≤ R.frames ∧ 8 + (4 + 11) + 155 ≤ R.locals) (hsz : ls.size = nL) (hroom : (rest.map fun v => v.category).sum ≤ 8) (hdg : decode cc pc = .ok (.invokevirtual 31, 3)) (kk : ∀ (le' dr' ma' op' : Nat → Nat) (oc' gl' : Nat) (la' : Int) (H1 : Heap) (locs1 : List Loc), (-2 ≤ jdist w fr g ∧ jdist w fr g < 32768) → jG D a k A s (w, le', dr', ma', op', oc', gl', la') H1 locs1 → W p l e R s m args below meth c H1 locs1 0 0 Q (F0 m (pc + 3) ls (.int (iI (jdist w fr g)) :: rest))) : W p l e R s m args below meth c H locs 0 0 Q (F0 m pc ls (.int (iI (g : Int)) :: .int (iI (fr : Int)) :: .ref (a 0) :: rest)) :=
  g_calli (As := [.int (iI (fr : Int)), .int (iI (g : Int))]) F hA (JW_same a k) G (c0_search l D a k w le dr ma op oc gl la fr g h) (cwV 2 F.2.2.2.2 (lw_V q75 q77 qs1 q17 q78) rfl rfl rfl (by decide +kernel) hR) (jrec G) hsz rfl hroom hdg (fun r x' H1 locs1 hp G1 => by obtain ⟨rfl, hb, le', dr', ma', op', oc', gl', la', rfl⟩ := hp; exact kk le' dr' ma' op' oc' gl' la' H1 locs1 hb G1)
end K0search
end
section
theorem jat_no {w : Nat → Bool} {f n i : Nat} {z : Int} (h : ¬ (0 ≤ jdist w f i ∧ jdist w f i = z)) : jat w f z (n + 1) i = jat w f z n (i + 1) := if_neg h
theorem jat_yes {w : Nat → Bool} {f n i : Nat} {z : Int} (h : 0 ≤ jdist w f i ∧ jdist w f i = z) : jat w f z (n + 1) i = (i : Int) := if_pos h
set_option maxHeartbeats 4000000 in
set_option maxRecDepth 100000 in
theorem c0_distance (l : Launch) (D : va_G) (a : Nat → Nat) (k : Nat → ClassId) (w : Nat → Bool) (le dr ma op : Nat → Nat) (oc gl : Nat) (la : Int) (zf zt : Int) (h : -2147483648 ≤ zf ∧ zf < 2147483648 ∧ -2147483648 ≤ zt ∧ zt < 2147483648) : gMi l yX0_distance cX0_distance 3 .int ({ frames := 7, cells := 0, slots := 0, locals := 178 }) D (JT k) (JW a k) [.ref (a 0), .int (iI zf), .int (iI zt)] (w, le, dr, ma, op, oc, gl, la) (fun r X => r = iI (jqd w zf zt) ∧ X.1 = w) := by
  refine gMi_of (by decide) (Nat.le_of_ble_eq_true rfl) ?_
  intro p e s m below meth c A ls F hr hlk hA G hl
  have F : CallFix p m c cX0_distance 3 s ([.ref (a 0), .int (iI zf), .int (iI zt)] : List Value).toArray lw_all RX0 := F
  have hl : lv_has ls 3 [(0, .ref (a 0)), (1, .int (iI zf)), (2, .int (iI zt))] := hl
  refine j_aload_n F dX0_distance_0 rfl (lv_at hl 0 rfl) ?_
  refine j_iload_n F dX0_distance_1 rfl (lv_at hl 1 rfl) ?_
  refine k0_isFree F hA G zf (by omega) (by decide) hl.1 (Nat.le_of_ble_eq_true rfl) dX0_distance_2 (fun H locs G => ?_)
  have hbzf := bz_in (jisf w zf)
  refine j_if_eq F 16 dX0_distance_5 (by decide) (by omega) (fun c_5 => ?_) (fun c_5 => ?_)
  · skip
    refine j_iconst F dX0_distance_16 ?_
    exact g_iret F hr hlk rfl G ⟨by unfold jqd; rw [if_neg (fun q => by rw [bz_false c_5] at q; cases q.1)], rfl⟩ dX0_distance_17
  · skip
    refine j_aload_n F dX0_distance_8 rfl (lv_at hl 0 rfl) ?_
    refine j_iload_n F dX0_distance_9 rfl (lv_at hl 2 rfl) ?_
    refine k0_isFree F hA G zt (by omega) (by decide) hl.1 (Nat.le_of_ble_eq_true rfl) dX0_distance_10 (fun H locs G => ?_)
    have hbzt := bz_in (jisf w zt)
    refine j_if_ne F 18 dX0_distance_13 (by decide) (by omega) (fun c_13 => ?_) (fun c_13 => ?_)
    · skip
      obtain ⟨f, hf, ef, hwf⟩ := jisf_iff (bz_true c_5)
      obtain ⟨t, ht, et, hwt⟩ := jisf_iff (bz_true c_13)
      subst ef; subst et
      refine j_aload_n F dX0_distance_18 rfl (lv_at hl 0 rfl) ?_
      refine j_iload_n F dX0_distance_19 rfl (lv_at hl 1 rfl) ?_
      refine j_iload_n F dX0_distance_20 rfl (lv_at hl 2 rfl) ?_
      refine k0_search F hA G f t ⟨hf, ht, hwf⟩ (by decide) hl.1 (Nat.le_of_ble_eq_true rfl) dX0_distance_21 (fun le1 dr1 ma1 op1 oc1 gl1 la1 H locs hd1 G => ?_)
      exact g_iret F hr hlk rfl G ⟨by unfold jqd; rw [if_pos ⟨jisf_nat hf hwf, jisf_nat ht hwt⟩, Int.toNat_natCast, Int.toNat_natCast], rfl⟩ dX0_distance_24
    · skip
      refine j_iconst F dX0_distance_16 ?_
      exact g_iret F hr hlk rfl G ⟨by unfold jqd; rw [if_neg (fun q => by rw [bz_false c_13] at q; cases q.2)], rfl⟩ dX0_distance_17

set_option maxHeartbeats 4000000 in
set_option maxRecDepth 100000 in
theorem c0_nearer (l : Launch) (D : va_G) (a : Nat → Nat) (k : Nat → ClassId) (w : Nat → Bool) (le dr ma op : Nat → Nat) (oc gl : Nat) (la : Int) (zf za zb : Int) (h : -2147483648 ≤ zf ∧ zf < 2147483648 ∧ -2147483648 ≤ za ∧ za < 2147483648 ∧ -2147483648 ≤ zb ∧ zb < 2147483648) : gMi l yX0_nearer cX0_nearer 6 .int ({ frames := 7, cells := 0, slots := 0, locals := 178 }) D (JT k) (JW a k) [.ref (a 0), .int (iI zf), .int (iI za), .int (iI zb)] (w, le, dr, ma, op, oc, gl, la) (fun r X => r = iI (jqn w zf za zb) ∧ X.1 = w) := by
  refine gMi_of (by decide) (Nat.le_of_ble_eq_true rfl) ?_
  intro p e s m below meth c A ls F hr hlk hA G hl
  have F : CallFix p m c cX0_nearer 6 s ([.ref (a 0), .int (iI zf), .int (iI za), .int (iI zb)] : List Value).toArray lw_all RX0 := F
  have hl : lv_has ls 6 [(0, .ref (a 0)), (1, .int (iI zf)), (2, .int (iI za)), (3, .int (iI zb))] := hl
  refine j_aload_n F dX0_nearer_0 rfl (lv_at hl 0 rfl) ?_
  refine j_iload_n F dX0_nearer_1 rfl (lv_at hl 1 rfl) ?_
  refine k0_isFree F hA G zf (by omega) (by decide) hl.1 (Nat.le_of_ble_eq_true rfl) dX0_nearer_2 (fun H locs G => ?_)
  have hbzf := bz_in (jisf w zf)
  refine j_if_eq F 24 dX0_nearer_5 (by decide) (by omega) (fun c_5 => ?_) (fun c_5 => ?_)
  · skip
    refine j_iconst F dX0_nearer_24 ?_
    exact g_iret F hr hlk rfl G ⟨by unfold jqn; rw [if_neg (fun q => by rw [bz_false c_5] at q; cases q.1)], rfl⟩ dX0_nearer_25
  · skip
    refine j_aload_n F dX0_nearer_8 rfl (lv_at hl 0 rfl) ?_
    refine j_iload_n F dX0_nearer_9 rfl (lv_at hl 2 rfl) ?_
    refine k0_isFree F hA G za (by omega) (by decide) hl.1 (Nat.le_of_ble_eq_true rfl) dX0_nearer_10 (fun H locs G => ?_)
    have hbza := bz_in (jisf w za)
    refine j_if_eq F 24 dX0_nearer_13 (by decide) (by omega) (fun c_13 => ?_) (fun c_13 => ?_)
    · skip
      refine j_iconst F dX0_nearer_24 ?_
      exact g_iret F hr hlk rfl G ⟨by unfold jqn; rw [if_neg (fun q => by rw [bz_false c_13] at q; cases q.2.1)], rfl⟩ dX0_nearer_25
    · skip
      refine j_aload_n F dX0_nearer_16 rfl (lv_at hl 0 rfl) ?_
      refine j_iload_n F dX0_nearer_17 rfl (lv_at hl 3 rfl) ?_
      refine k0_isFree F hA G zb (by omega) (by decide) hl.1 (Nat.le_of_ble_eq_true rfl) dX0_nearer_18 (fun H locs G => ?_)
      have hbzb := bz_in (jisf w zb)
      refine j_if_ne F 26 dX0_nearer_21 (by decide) (by omega) (fun c_21 => ?_) (fun c_21 => ?_)
      · skip
        obtain ⟨f, hf, ef, hwf⟩ := jisf_iff (bz_true c_5)
        obtain ⟨u, hu, eu, hwu⟩ := jisf_iff (bz_true c_13)
        obtain ⟨v, hv, ev, hwv⟩ := jisf_iff (bz_true c_21)
        subst ef; subst eu; subst ev
        refine j_aload_n F dX0_nearer_26 rfl (lv_at hl 0 rfl) ?_
        refine j_iload_n F dX0_nearer_27 rfl (lv_at hl 1 rfl) ?_
        refine j_iload_n F dX0_nearer_28 rfl (lv_at hl 2 rfl) ?_
        refine k0_search F hA G f u ⟨hf, hu, hwf⟩ (by decide) hl.1 (Nat.le_of_ble_eq_true rfl) dX0_nearer_29 (fun le1 dr1 ma1 op1 oc1 gl1 la1 H locs hd1 G => ?_)
        refine j_istore F [(4, .int (iI (jdist w f u))), (0, .ref (a 0)), (1, .int (iI ((f : Int)))), (2, .int (iI ((u : Int)))), (3, .int (iI ((v : Int))))] dX0_nearer_32 hl (by decide) rfl (fun ls hl => ?_)
        refine j_aload_n F dX0_nearer_34 rfl (lv_at hl 1 rfl) ?_
        refine j_iload_n F dX0_nearer_35 rfl (lv_at hl 2 rfl) ?_
        refine j_iload_n F dX0_nearer_36 rfl (lv_at hl 4 rfl) ?_
        refine k0_search F hA G f v ⟨hf, hv, hwf⟩ (by decide) hl.1 (Nat.le_of_ble_eq_true rfl) dX0_nearer_37 (fun le2 dr2 ma2 op2 oc2 gl2 la2 H locs hd2 G => ?_)
        refine j_istore F [(5, .int (iI (jdist w f v))), (4, .int (iI (jdist w f u))), (0, .ref (a 0)), (1, .int (iI ((f : Int)))), (2, .int (iI ((u : Int)))), (3, .int (iI ((v : Int))))] dX0_nearer_40 hl (by decide) rfl (fun ls hl => ?_)
        refine j_iload F dX0_nearer_42 (lv_at hl 0 rfl) ?_
        refine j_if_lt F 63 dX0_nearer_44 (by decide) (by omega) (fun c_44 => ?_) (fun c_44 => ?_)
        · skip
          refine j_iconst F dX0_nearer_63 ?_
          exact g_iret F hr hlk rfl G ⟨by unfold jqn; rw [if_pos ⟨jisf_nat hf hwf, jisf_nat hu hwu, jisf_nat hv hwv⟩, Int.toNat_natCast, Int.toNat_natCast, Int.toNat_natCast, if_neg (by omega)], rfl⟩ dX0_nearer_64
        · skip
          refine j_iload F dX0_nearer_47 (lv_at hl 1 rfl) ?_
          refine j_if_lt F 59 dX0_nearer_49 (by decide) (by omega) (fun c_49 => ?_) (fun c_49 => ?_)
          · skip
            refine j_iconst F dX0_nearer_59 ?_
            refine j_goto F 64 dX0_nearer_60 (by decide) ?_
            exact g_iret F hr hlk rfl G ⟨by unfold jqn; rw [if_pos ⟨jisf_nat hf hwf, jisf_nat hu hwu, jisf_nat hv hwv⟩, Int.toNat_natCast, Int.toNat_natCast, Int.toNat_natCast, if_pos (by omega)], rfl⟩ dX0_nearer_64
          · skip
            refine j_iload F dX0_nearer_52 (lv_at hl 0 rfl) ?_
            refine j_iload F dX0_nearer_54 (lv_at hl 1 rfl) ?_
            refine j_icmp_ge F 63 dX0_nearer_56 (by decide) (by omega) (fun c_56 => ?_) (fun c_56 => ?_)
            · skip
              refine j_iconst F dX0_nearer_63 ?_
              exact g_iret F hr hlk rfl G ⟨by unfold jqn; rw [if_pos ⟨jisf_nat hf hwf, jisf_nat hu hwu, jisf_nat hv hwv⟩, Int.toNat_natCast, Int.toNat_natCast, Int.toNat_natCast, if_neg (by omega)], rfl⟩ dX0_nearer_64
            · skip
              refine j_iconst F dX0_nearer_59 ?_
              refine j_goto F 64 dX0_nearer_60 (by decide) ?_
              exact g_iret F hr hlk rfl G ⟨by unfold jqn; rw [if_pos ⟨jisf_nat hf hwf, jisf_nat hu hwu, jisf_nat hv hwv⟩, Int.toNat_natCast, Int.toNat_natCast, Int.toNat_natCast, if_pos (by omega)], rfl⟩ dX0_nearer_64
      · skip
        refine j_iconst F dX0_nearer_24 ?_
        exact g_iret F hr hlk rfl G ⟨by unfold jqn; rw [if_neg (fun q => by rw [bz_false c_21] at q; cases q.2.2)], rfl⟩ dX0_nearer_25

set_option maxHeartbeats 4000000 in
set_option maxRecDepth 100000 in
theorem c0_vital (l : Launch) (D : va_G) (a : Nat → Nat) (k : Nat → ClassId) (w : Nat → Bool) (le dr ma op : Nat → Nat) (oc gl : Nat) (la : Int) (zf zt zc : Int) (h : -2147483648 ≤ zf ∧ zf < 2147483648 ∧ -2147483648 ≤ zt ∧ zt < 2147483648 ∧ -2147483648 ≤ zc ∧ zc < 2147483648) : gMi l yX0_vital cX0_vital 6 .boolean ({ frames := 7, cells := 0, slots := 0, locals := 178 }) D (JT k) (JW a k) [.ref (a 0), .int (iI zf), .int (iI zt), .int (iI zc)] (w, le, dr, ma, op, oc, gl, la) (fun r X => r = iI (bz (jqv w zf zt zc)) ∧ X.1 = w) := by
  refine gMi_of (by decide) (Nat.le_of_ble_eq_true rfl) ?_
  intro p e s m below meth c A ls F hr hlk hA G hl
  have F : CallFix p m c cX0_vital 6 s ([.ref (a 0), .int (iI zf), .int (iI zt), .int (iI zc)] : List Value).toArray lw_all RX0 := F
  have hl : lv_has ls 6 [(0, .ref (a 0)), (1, .int (iI zf)), (2, .int (iI zt)), (3, .int (iI zc))] := hl
  refine j_aload_n F dX0_vital_0 rfl (lv_at hl 0 rfl) ?_
  refine j_iload_n F dX0_vital_1 rfl (lv_at hl 1 rfl) ?_
  refine k0_isFree F hA G zf (by omega) (by decide) hl.1 (Nat.le_of_ble_eq_true rfl) dX0_vital_2 (fun H locs G => ?_)
  have hbzf := bz_in (jisf w zf)
  refine j_if_eq F 34 dX0_vital_5 (by decide) (by omega) (fun c_5 => ?_) (fun c_5 => ?_)
  · skip
    refine j_iconst F dX0_vital_34 ?_
    exact g_iret F hr hlk rfl G ⟨by unfold jqv; rw [if_neg (fun q => by rw [bz_false c_5] at q; cases q.1)]; rfl, rfl⟩ dX0_vital_35
  · skip
    refine j_aload_n F dX0_vital_8 rfl (lv_at hl 0 rfl) ?_
    refine j_iload_n F dX0_vital_9 rfl (lv_at hl 2 rfl) ?_
    refine k0_isFree F hA G zt (by omega) (by decide) hl.1 (Nat.le_of_ble_eq_true rfl) dX0_vital_10 (fun H locs G => ?_)
    have hbzt := bz_in (jisf w zt)
    refine j_if_eq F 34 dX0_vital_13 (by decide) (by omega) (fun c_13 => ?_) (fun c_13 => ?_)
    · skip
      refine j_iconst F dX0_vital_34 ?_
      exact g_iret F hr hlk rfl G ⟨by unfold jqv; rw [if_neg (fun q => by rw [bz_false c_13] at q; cases q.2.1)]; rfl, rfl⟩ dX0_vital_35
    · skip
      refine j_aload_n F dX0_vital_16 rfl (lv_at hl 0 rfl) ?_
      refine j_iload_n F dX0_vital_17 rfl (lv_at hl 3 rfl) ?_
      refine k0_isFree F hA G zc (by omega) (by decide) hl.1 (Nat.le_of_ble_eq_true rfl) dX0_vital_18 (fun H locs G => ?_)
      have hbzc := bz_in (jisf w zc)
      refine j_if_eq F 34 dX0_vital_21 (by decide) (by omega) (fun c_21 => ?_) (fun c_21 => ?_)
      · skip
        refine j_iconst F dX0_vital_34 ?_
        exact g_iret F hr hlk rfl G ⟨by unfold jqv; rw [if_neg (fun q => by rw [bz_false c_21] at q; cases q.2.2.1)]; rfl, rfl⟩ dX0_vital_35
      · skip
        refine j_iload_n F dX0_vital_24 rfl (lv_at hl 3 rfl) ?_
        refine j_iload_n F dX0_vital_25 rfl (lv_at hl 1 rfl) ?_
        refine j_icmp_eq F 34 dX0_vital_26 (by decide) (by omega) (fun c_26 => ?_) (fun c_26 => ?_)
        · skip
          refine j_iconst F dX0_vital_34 ?_
          exact g_iret F hr hlk rfl G ⟨by unfold jqv; rw [if_neg (fun q => q.2.2.2.1 c_26)]; rfl, rfl⟩ dX0_vital_35
        · skip
          refine j_iload_n F dX0_vital_29 rfl (lv_at hl 3 rfl) ?_
          refine j_iload_n F dX0_vital_30 rfl (lv_at hl 2 rfl) ?_
          refine j_icmp_ne F 36 dX0_vital_31 (by decide) (by omega) (fun c_31 => ?_) (fun c_31 => ?_)
          · skip
            obtain ⟨f, hf, ef, hwf⟩ := jisf_iff (bz_true c_5)
            obtain ⟨t, ht, et, hwt⟩ := jisf_iff (bz_true c_13)
            obtain ⟨v, hv, ev, hwv⟩ := jisf_iff (bz_true c_21)
            subst ef; subst et; subst ev
            refine j_aload_n F dX0_vital_36 rfl (lv_at hl 0 rfl) ?_
            refine j_iload_n F dX0_vital_37 rfl (lv_at hl 1 rfl) ?_
            refine j_iload_n F dX0_vital_38 rfl (lv_at hl 2 rfl) ?_
            refine k0_search F hA G f t ⟨hf, ht, hwf⟩ (by decide) hl.1 (Nat.le_of_ble_eq_true rfl) dX0_vital_39 (fun le1 dr1 ma1 op1 oc1 gl1 la1 H locs hd1 G => ?_)
            refine j_istore F [(4, .int (iI (jdist w f t))), (0, .ref (a 0)), (1, .int (iI ((f : Int)))), (2, .int (iI ((t : Int)))), (3, .int (iI ((v : Int))))] dX0_vital_42 hl (by decide) rfl (fun ls hl => ?_)
            refine j_iload F dX0_vital_44 (lv_at hl 0 rfl) ?_
            refine j_if_ge F 51 dX0_vital_46 (by decide) (by omega) (fun c_46 => ?_) (fun c_46 => ?_)
            · skip
              refine j_aload_n F dX0_vital_51 rfl (lv_at hl 1 rfl) ?_
              refine j0_walls F G dX0_vital_52 ?_
              refine j_iload_n F dX0_vital_55 rfl (lv_at hl 4 rfl) ?_
              refine j_iconst F dX0_vital_56 ?_
              refine j0_stW F G (v) (true) (by omega) (by omega) rfl dX0_vital_57 (fun H locs G => ?_)
              refine j_aload_n F dX0_vital_58 rfl (lv_at hl 1 rfl) ?_
              refine j_iload_n F dX0_vital_59 rfl (lv_at hl 2 rfl) ?_
              refine j_iload_n F dX0_vital_60 rfl (lv_at hl 3 rfl) ?_
              refine k0_search F hA G f t ⟨hf, ht, by rw [va_up_ne _ _ (by omega)]; exact hwf⟩ (by decide) hl.1 (Nat.le_of_ble_eq_true rfl) dX0_vital_61 (fun le2 dr2 ma2 op2 oc2 gl2 la2 H locs hd2 G => ?_)
              refine j_istore F [(5, .int (iI (jdist (va_up w v true) f t))), (4, .int (iI (jdist w f t))), (0, .ref (a 0)), (1, .int (iI ((f : Int)))), (2, .int (iI ((t : Int)))), (3, .int (iI ((v : Int))))] dX0_vital_64 hl (by decide) rfl (fun ls hl => ?_)
              refine j_aload_n F dX0_vital_66 rfl (lv_at hl 2 rfl) ?_
              refine j0_walls F G dX0_vital_67 ?_
              refine j_iload_n F dX0_vital_70 rfl (lv_at hl 5 rfl) ?_
              refine j_iconst F dX0_vital_71 ?_
              refine j0_stW F G (v) (false) (by omega) (by omega) rfl dX0_vital_72 (fun H locs G => ?_)
              refine j_iload F dX0_vital_73 (lv_at hl 0 rfl) ?_
              refine j_if_lt F 85 dX0_vital_75 (by decide) (by omega) (fun c_75 => ?_) (fun c_75 => ?_)
              · skip
                refine j_iconst F dX0_vital_85 ?_
                refine j_goto F 90 dX0_vital_86 (by decide) ?_
                have hwb : va_up (va_up w v true) v false = w := by
                  rw [bx_uu, ← hwv, va_up_id]
                exact g_iret F hr hlk rfl G ⟨by unfold jqv; rw [if_pos ⟨jisf_nat hf hwf, jisf_nat ht hwt, jisf_nat hv hwv, c_26, c_31⟩, Int.toNat_natCast, Int.toNat_natCast, Int.toNat_natCast, if_neg (by omega), decide_eq_true (by omega)]; rfl, hwb⟩ dX0_vital_90
              · skip
                refine j_iload F dX0_vital_78 (lv_at hl 0 rfl) ?_
                refine j_iload F dX0_vital_80 (lv_at hl 1 rfl) ?_
                refine j_icmp_le F 89 dX0_vital_82 (by decide) (by omega) (fun c_82 => ?_) (fun c_82 => ?_)
                · skip
                  refine j_iconst F dX0_vital_89 ?_
                  have hwb : va_up (va_up w v true) v false = w := by
                    rw [bx_uu, ← hwv, va_up_id]
                  exact g_iret F hr hlk rfl G ⟨by unfold jqv; rw [if_pos ⟨jisf_nat hf hwf, jisf_nat ht hwt, jisf_nat hv hwv, c_26, c_31⟩, Int.toNat_natCast, Int.toNat_natCast, Int.toNat_natCast, if_neg (by omega), decide_eq_false (by omega)]; rfl, hwb⟩ dX0_vital_90
                · skip
                  refine j_iconst F dX0_vital_85 ?_
                  refine j_goto F 90 dX0_vital_86 (by decide) ?_
                  have hwb : va_up (va_up w v true) v false = w := by
                    rw [bx_uu, ← hwv, va_up_id]
                  exact g_iret F hr hlk rfl G ⟨by unfold jqv; rw [if_pos ⟨jisf_nat hf hwf, jisf_nat ht hwt, jisf_nat hv hwv, c_26, c_31⟩, Int.toNat_natCast, Int.toNat_natCast, Int.toNat_natCast, if_neg (by omega), decide_eq_true (by omega)]; rfl, hwb⟩ dX0_vital_90
            · skip
              refine j_iconst F dX0_vital_49 ?_
              exact g_iret F hr hlk rfl G ⟨by unfold jqv; rw [if_pos ⟨jisf_nat hf hwf, jisf_nat ht hwt, jisf_nat hv hwv, c_26, c_31⟩, Int.toNat_natCast, Int.toNat_natCast, Int.toNat_natCast, if_pos (by omega)]; rfl, rfl⟩ dX0_vital_50
          · skip
            refine j_iconst F dX0_vital_34 ?_
            exact g_iret F hr hlk rfl G ⟨by unfold jqv; rw [if_neg (fun q => q.2.2.2.2 c_31)]; rfl, rfl⟩ dX0_vital_35

set_option maxHeartbeats 4000000 in
set_option maxRecDepth 100000 in
theorem c0_farthest (l : Launch) (D : va_G) (a : Nat → Nat) (k : Nat → ClassId) (w : Nat → Bool) (le dr ma op : Nat → Nat) (oc gl : Nat) (la : Int) (zf : Int) (h : -2147483648 ≤ zf ∧ zf < 2147483648) : gMi l yX0_farthest cX0_farthest 5 .int ({ frames := 7, cells := 0, slots := 0, locals := 178 }) D (JT k) (JW a k) [.ref (a 0), .int (iI zf)] (w, le, dr, ma, op, oc, gl, la) (fun r X => r = iI (jqf w zf) ∧ X.1 = w) := by
  refine gMi_of (by decide) (Nat.le_of_ble_eq_true rfl) ?_
  intro p e s m below meth c A ls F hr hlk hA G hl
  have F : CallFix p m c cX0_farthest 5 s ([.ref (a 0), .int (iI zf)] : List Value).toArray lw_all RX0 := F
  have hl : lv_has ls 5 [(0, .ref (a 0)), (1, .int (iI zf))] := hl
  refine j_aload_n F dX0_farthest_0 rfl (lv_at hl 0 rfl) ?_
  refine j_iload_n F dX0_farthest_1 rfl (lv_at hl 1 rfl) ?_
  refine k0_isFree F hA G zf (by omega) (by decide) hl.1 (Nat.le_of_ble_eq_true rfl) dX0_farthest_2 (fun H locs G => ?_)
  have hbzf := bz_in (jisf w zf)
  refine j_if_ne F 10 dX0_farthest_5 (by decide) (by omega) (fun c_5 => ?_) (fun c_5 => ?_)
  · skip
    obtain ⟨f, hf, ef, hwf⟩ := jisf_iff (bz_true c_5)
    subst ef
    refine j_iconst F dX0_farthest_10 ?_
    refine j_eq (jmx w f 0) rfl ?_
    refine j_istore_n F [(2, .int (iI (jmx w f 0))), (0, .ref (a 0)), (1, .int (iI ((f : Int))))] dX0_farthest_11 rfl hl (by decide) rfl (fun ls hl => ?_)
    refine j_iconst F dX0_farthest_12 ?_
    refine j_eq (((0 : Nat) : Int)) rfl ?_
    refine j_istore_n F [(3, .int (iI (((0 : Nat) : Int)))), (2, .int (iI (jmx w f 0))), (0, .ref (a 0)), (1, .int (iI ((f : Int))))] dX0_farthest_13 rfl hl (by decide) rfl (fun ls hl => ?_)
    have LP : ∀ (n : Nat) (i : Nat) (le' : Nat → Nat) (dr' : Nat → Nat) (ma' : Nat → Nat) (op' : Nat → Nat) (oc' : Nat) (gl' : Nat) (la' : Int) (H : Heap) (locs : List Loc) (ls : Array Slot), 144 < i + n → i ≤ 144 → jmx w f i < 32768 → jG D a k A s (w, le', dr', ma', op', oc', gl', la') H locs → lv_has ls 5 [(3, .int (iI (((i : Nat) : Int)))), (2, .int (iI (jmx w f i))), (0, .ref (a 0)), (1, .int (iI ((f : Int))))] → W p l e ({ frames := 7, cells := 0, slots := 0, locals := 178 }) s m ([.ref (a 0), .int (iI (f : Int))] : List Value).toArray below meth c H locs 0 0 (gQi below (fun r X => r = iI (jqf w (f : Int)) ∧ X.1 = w) D (JT k) (JW a k) A ([.ref (a 0), .int (iI (f : Int))] : List Value).toArray s) (F0 m 14 ls []) := by
      intro n
      induction n with
      | zero =>
        intro i le' dr' ma' op' oc' gl' la' H locs ls hn hi
        omega
      | succ n ih =>
        intro i le' dr' ma' op' oc' gl' la' H locs ls hn hi hm G hl
        refine j_iload_n F dX0_farthest_14 rfl (lv_at hl 0 rfl) ?_
        refine j_sipush F dX0_farthest_15 (by decide +kernel) ?_
        have hmg := jmx_ge w f i
        refine j_icmp_ge F 56 dX0_farthest_18 (by decide) (by omega) (fun c_18 => ?_) (fun c_18 => ?_)
        · skip
          refine j_iload_n F dX0_farthest_56 rfl (lv_at hl 1 rfl) ?_
          exact g_iret F hr hlk rfl G ⟨by unfold jqf; rw [if_pos (jisf_nat hf hwf), Int.toNat_natCast, show (144 : Nat) = i by omega], rfl⟩ dX0_farthest_57
        · skip
          refine j_aload_n F dX0_farthest_21 rfl (lv_at hl 2 rfl) ?_
          refine j0_walls F G dX0_farthest_22 ?_
          refine j_iload_n F dX0_farthest_25 rfl (lv_at hl 0 rfl) ?_
          refine j0_ldW F G (i) (by omega) (by omega) dX0_farthest_26 ?_
          have hb := bz_in (w i)
          refine j_if_eq F 33 dX0_farthest_27 (by decide) (by omega) (fun c_27 => ?_) (fun c_27 => ?_)
          · skip
            refine j_aload_n F dX0_farthest_33 rfl (lv_at hl 2 rfl) ?_
            refine j_iload_n F dX0_farthest_34 rfl (lv_at hl 3 rfl) ?_
            refine j_iload_n F dX0_farthest_35 rfl (lv_at hl 0 rfl) ?_
            refine k0_search F hA G f i ⟨hf, by omega, hwf⟩ (by decide) hl.1 (Nat.le_of_ble_eq_true rfl) dX0_farthest_36 (fun le1 dr1 ma1 op1 oc1 gl1 la1 H locs hd1 G => ?_)
            refine j_istore F [(4, .int (iI (jdist w f i))), (3, .int (iI (((i : Nat) : Int)))), (2, .int (iI (jmx w f i))), (0, .ref (a 0)), (1, .int (iI ((f : Int))))] dX0_farthest_39 hl (by decide) rfl (fun ls hl => ?_)
            refine j_iload F dX0_farthest_41 (lv_at hl 0 rfl) ?_
            refine j_iload_n F dX0_farthest_43 rfl (lv_at hl 2 rfl) ?_
            refine j_icmp_le F 50 dX0_farthest_44 (by decide) (by omega) (fun c_44 => ?_) (fun c_44 => ?_)
            · skip
              refine j_iinc F (((i + 1 : Nat) : Int)) [(3, .int (iI (((i + 1 : Nat) : Int)))), (4, .int (iI (jdist w f i))), (2, .int (iI (jmx w f i))), (0, .ref (a 0)), (1, .int (iI ((f : Int))))] (k := 1) dX0_farthest_50 hl rfl (by omega) (by decide) rfl (fun ls hl => ?_)
              refine j_goto F 14 dX0_farthest_53 (by decide) ?_
              have hx : jmx w f (i + 1) = jmx w f i := by
                conv => lhs; unfold jmx
                rw [if_neg (by omega)]
              rw [← hx] at hl
              exact ih (i + 1) le1 dr1 ma1 op1 oc1 gl1 la1 H locs ls (by omega) (by omega) (by rw [hx]; exact hm) G (lv_sub hl [0, 2, 3, 4] rfl)
            · skip
              refine j_iload F dX0_farthest_47 (lv_at hl 0 rfl) ?_
              refine j_istore_n F [(2, .int (iI (jdist w f i))), (4, .int (iI (jdist w f i))), (3, .int (iI (((i : Nat) : Int)))), (0, .ref (a 0)), (1, .int (iI ((f : Int))))] dX0_farthest_49 rfl hl (by decide) rfl (fun ls hl => ?_)
              refine j_iinc F (((i + 1 : Nat) : Int)) [(3, .int (iI (((i + 1 : Nat) : Int)))), (2, .int (iI (jdist w f i))), (4, .int (iI (jdist w f i))), (0, .ref (a 0)), (1, .int (iI ((f : Int))))] (k := 2) dX0_farthest_50 hl rfl (by omega) (by decide) rfl (fun ls hl => ?_)
              refine j_goto F 14 dX0_farthest_53 (by decide) ?_
              have hx : jmx w f (i + 1) = jdist w f i := by
                conv => lhs; unfold jmx
                rw [if_pos (by omega)]
              have hm2 : jmx w f (i + 1) < 32768 := by rw [hx]; omega
              rw [← hx] at hl
              exact ih (i + 1) le1 dr1 ma1 op1 oc1 gl1 la1 H locs ls (by omega) (by omega) hm2 G (lv_sub hl [0, 1, 3, 4] rfl)
          · skip
            refine j_goto F 50 dX0_farthest_30 (by decide) ?_
            refine j_iinc F (((i + 1 : Nat) : Int)) [(3, .int (iI (((i + 1 : Nat) : Int)))), (2, .int (iI (jmx w f i))), (0, .ref (a 0)), (1, .int (iI ((f : Int))))] (k := 0) dX0_farthest_50 hl rfl (by omega) (by decide) rfl (fun ls hl => ?_)
            refine j_goto F 14 dX0_farthest_53 (by decide) ?_
            have hx : jmx w f (i + 1) = jmx w f i := by
              conv => lhs; unfold jmx
              rw [if_neg (by rw [jdist_wall hf hwf (by omega) (bz_true c_27)]; omega)]
            rw [← hx] at hl
            exact ih (i + 1) le' dr' ma' op' oc' gl' la' H locs ls (by omega) (by omega) (by rw [hx]; exact hm) G (lv_sub hl [0, 1, 2, 3] rfl)
    exact LP 145 0 le dr ma op oc gl la _ _ ls (by omega) (by omega) (show jmx w f 0 < 32768 from (by decide : (0 : Int) < 32768)) G (lv_sub hl [0, 1, 2, 3] rfl)
  · skip
    refine j_iconst F dX0_farthest_8 ?_
    exact g_iret F hr hlk rfl G ⟨by unfold jqf; rw [if_neg (by rw [bz_false c_5]; decide)], rfl⟩ dX0_farthest_9

set_option maxHeartbeats 4000000 in
set_option maxRecDepth 100000 in
theorem c0_reach (l : Launch) (D : va_G) (a : Nat → Nat) (k : Nat → ClassId) (w : Nat → Bool) (le dr ma op : Nat → Nat) (oc gl : Nat) (la : Int) (zf : Int) (h : -2147483648 ≤ zf ∧ zf < 2147483648) : gMi l yX0_reach cX0_reach 5 .int ({ frames := 7, cells := 0, slots := 0, locals := 178 }) D (JT k) (JW a k) [.ref (a 0), .int (iI zf)] (w, le, dr, ma, op, oc, gl, la) (fun r X => r = iI (jqr w zf) ∧ X.1 = w) := by
  refine gMi_of (by decide) (Nat.le_of_ble_eq_true rfl) ?_
  intro p e s m below meth c A ls F hr hlk hA G hl
  have F : CallFix p m c cX0_reach 5 s ([.ref (a 0), .int (iI zf)] : List Value).toArray lw_all RX0 := F
  have hl : lv_has ls 5 [(0, .ref (a 0)), (1, .int (iI zf))] := hl
  refine j_aload_n F dX0_reach_0 rfl (lv_at hl 0 rfl) ?_
  refine j_iload_n F dX0_reach_1 rfl (lv_at hl 1 rfl) ?_
  refine k0_isFree F hA G zf (by omega) (by decide) hl.1 (Nat.le_of_ble_eq_true rfl) dX0_reach_2 (fun H locs G => ?_)
  have hbzf := bz_in (jisf w zf)
  refine j_if_ne F 10 dX0_reach_5 (by decide) (by omega) (fun c_5 => ?_) (fun c_5 => ?_)
  · skip
    obtain ⟨f, hf, ef, hwf⟩ := jisf_iff (bz_true c_5)
    subst ef
    refine j_iconst F dX0_reach_10 ?_
    refine j_eq (((jct w f 0 : Nat) : Int)) rfl ?_
    refine j_istore_n F [(2, .int (iI (((jct w f 0 : Nat) : Int)))), (0, .ref (a 0)), (1, .int (iI ((f : Int))))] dX0_reach_11 rfl hl (by decide) rfl (fun ls hl => ?_)
    refine j_iconst F dX0_reach_12 ?_
    refine j_eq (((0 : Nat) : Int)) rfl ?_
    refine j_istore_n F [(3, .int (iI (((0 : Nat) : Int)))), (2, .int (iI (((jct w f 0 : Nat) : Int)))), (0, .ref (a 0)), (1, .int (iI ((f : Int))))] dX0_reach_13 rfl hl (by decide) rfl (fun ls hl => ?_)
    have LP : ∀ (n : Nat) (i : Nat) (le' : Nat → Nat) (dr' : Nat → Nat) (ma' : Nat → Nat) (op' : Nat → Nat) (oc' : Nat) (gl' : Nat) (la' : Int) (H : Heap) (locs : List Loc) (ls : Array Slot), 144 < i + n → i ≤ 144 → jG D a k A s (w, le', dr', ma', op', oc', gl', la') H locs → lv_has ls 5 [(3, .int (iI (((i : Nat) : Int)))), (2, .int (iI (((jct w f i : Nat) : Int)))), (0, .ref (a 0)), (1, .int (iI ((f : Int))))] → W p l e ({ frames := 7, cells := 0, slots := 0, locals := 178 }) s m ([.ref (a 0), .int (iI (f : Int))] : List Value).toArray below meth c H locs 0 0 (gQi below (fun r X => r = iI (jqr w (f : Int)) ∧ X.1 = w) D (JT k) (JW a k) A ([.ref (a 0), .int (iI (f : Int))] : List Value).toArray s) (F0 m 14 ls []) := by
      intro n
      induction n with
      | zero =>
        intro i le' dr' ma' op' oc' gl' la' H locs ls hn hi
        omega
      | succ n ih =>
        intro i le' dr' ma' op' oc' gl' la' H locs ls hn hi G hl
        refine j_iload_n F dX0_reach_14 rfl (lv_at hl 0 rfl) ?_
        refine j_sipush F dX0_reach_15 (by decide +kernel) ?_
        refine j_icmp_ge F 55 dX0_reach_18 (by decide) (by omega) (fun c_18 => ?_) (fun c_18 => ?_)
        · skip
          refine j_iload_n F dX0_reach_55 rfl (lv_at hl 1 rfl) ?_
          exact g_iret F hr hlk rfl G ⟨by unfold jqr; rw [if_pos (jisf_nat hf hwf), Int.toNat_natCast, show (144 : Nat) = i by omega], rfl⟩ dX0_reach_56
        · skip
          refine j_aload_n F dX0_reach_21 rfl (lv_at hl 2 rfl) ?_
          refine j0_walls F G dX0_reach_22 ?_
          refine j_iload_n F dX0_reach_25 rfl (lv_at hl 0 rfl) ?_
          refine j0_ldW F G (i) (by omega) (by omega) dX0_reach_26 ?_
          have hb := bz_in (w i)
          refine j_if_eq F 33 dX0_reach_27 (by decide) (by omega) (fun c_27 => ?_) (fun c_27 => ?_)
          · skip
            refine j_aload_n F dX0_reach_33 rfl (lv_at hl 2 rfl) ?_
            refine j_iload_n F dX0_reach_34 rfl (lv_at hl 3 rfl) ?_
            refine j_iload_n F dX0_reach_35 rfl (lv_at hl 0 rfl) ?_
            refine k0_search F hA G f i ⟨hf, by omega, hwf⟩ (by decide) hl.1 (Nat.le_of_ble_eq_true rfl) dX0_reach_36 (fun le1 dr1 ma1 op1 oc1 gl1 la1 H locs hd1 G => ?_)
            refine j_istore F [(4, .int (iI (jdist w f i))), (3, .int (iI (((i : Nat) : Int)))), (2, .int (iI (((jct w f i : Nat) : Int)))), (0, .ref (a 0)), (1, .int (iI ((f : Int))))] dX0_reach_39 hl (by decide) rfl (fun ls hl => ?_)
            refine j_iload F dX0_reach_41 (lv_at hl 0 rfl) ?_
            refine j_if_lt F 49 dX0_reach_43 (by decide) (by omega) (fun c_43 => ?_) (fun c_43 => ?_)
            · skip
              refine j_iinc F (((i + 1 : Nat) : Int)) [(3, .int (iI (((i + 1 : Nat) : Int)))), (4, .int (iI (jdist w f i))), (2, .int (iI (((jct w f i : Nat) : Int)))), (0, .ref (a 0)), (1, .int (iI ((f : Int))))] (k := 1) dX0_reach_49 hl rfl (by omega) (by decide) rfl (fun ls hl => ?_)
              refine j_goto F 14 dX0_reach_52 (by decide) ?_
              have hx : jct w f (i + 1) = jct w f i := by
                conv => lhs; unfold jct
                rw [if_neg (by omega)]
              rw [← hx] at hl
              exact ih (i + 1) le1 dr1 ma1 op1 oc1 gl1 la1 H locs ls (by omega) (by omega) G (lv_sub hl [0, 2, 3, 4] rfl)
            · skip
              refine j_iinc F (((jct w f i + 1 : Nat) : Int)) [(2, .int (iI (((jct w f i + 1 : Nat) : Int)))), (4, .int (iI (jdist w f i))), (3, .int (iI (((i : Nat) : Int)))), (0, .ref (a 0)), (1, .int (iI ((f : Int))))] (k := 2) dX0_reach_46 hl rfl (by omega) (by decide) rfl (fun ls hl => ?_)
              refine j_iinc F (((i + 1 : Nat) : Int)) [(3, .int (iI (((i + 1 : Nat) : Int)))), (2, .int (iI (((jct w f i + 1 : Nat) : Int)))), (4, .int (iI (jdist w f i))), (0, .ref (a 0)), (1, .int (iI ((f : Int))))] (k := 2) dX0_reach_49 hl rfl (by omega) (by decide) rfl (fun ls hl => ?_)
              refine j_goto F 14 dX0_reach_52 (by decide) ?_
              have hx : jct w f (i + 1) = jct w f i + 1 := by
                conv => lhs; unfold jct
                rw [if_pos (by omega)]
              rw [← hx] at hl
              exact ih (i + 1) le1 dr1 ma1 op1 oc1 gl1 la1 H locs ls (by omega) (by omega) G (lv_sub hl [0, 1, 3, 4] rfl)
          · skip
            refine j_goto F 49 dX0_reach_30 (by decide) ?_
            refine j_iinc F (((i + 1 : Nat) : Int)) [(3, .int (iI (((i + 1 : Nat) : Int)))), (2, .int (iI (((jct w f i : Nat) : Int)))), (0, .ref (a 0)), (1, .int (iI ((f : Int))))] (k := 0) dX0_reach_49 hl rfl (by omega) (by decide) rfl (fun ls hl => ?_)
            refine j_goto F 14 dX0_reach_52 (by decide) ?_
            have hx : jct w f (i + 1) = jct w f i := by
              conv => lhs; unfold jct
              rw [if_neg (by rw [jdist_wall hf hwf (by omega) (bz_true c_27)]; omega)]
            rw [← hx] at hl
            exact ih (i + 1) le' dr' ma' op' oc' gl' la' H locs ls (by omega) (by omega) G (lv_sub hl [0, 1, 2, 3] rfl)
    exact LP 145 0 le dr ma op oc gl la _ _ ls (by omega) (by omega) G (lv_sub hl [0, 1, 2, 3] rfl)
  · skip
    refine j_iconst F dX0_reach_8 ?_
    exact g_iret F hr hlk rfl G ⟨by unfold jqr; rw [if_neg (by rw [bz_false c_5]; decide)], rfl⟩ dX0_reach_9

set_option maxHeartbeats 4000000 in
set_option maxRecDepth 100000 in
theorem c0_at (l : Launch) (D : va_G) (a : Nat → Nat) (k : Nat → ClassId) (w : Nat → Bool) (le dr ma op : Nat → Nat) (oc gl : Nat) (la : Int) (zf z : Int) (h : -2147483648 ≤ zf ∧ zf < 2147483648 ∧ -2147483648 ≤ z ∧ z < 2147483648) : gMi l yX0_at cX0_at 5 .int ({ frames := 7, cells := 0, slots := 0, locals := 178 }) D (JT k) (JW a k) [.ref (a 0), .int (iI zf), .int (iI z)] (w, le, dr, ma, op, oc, gl, la) (fun r X => r = iI (jqa w zf z) ∧ X.1 = w) := by
  refine gMi_of (by decide) (Nat.le_of_ble_eq_true rfl) ?_
  intro p e s m below meth c A ls F hr hlk hA G hl
  have F : CallFix p m c cX0_at 5 s ([.ref (a 0), .int (iI zf), .int (iI z)] : List Value).toArray lw_all RX0 := F
  have hl : lv_has ls 5 [(0, .ref (a 0)), (1, .int (iI zf)), (2, .int (iI z))] := hl
  refine j_aload_n F dX0_at_0 rfl (lv_at hl 0 rfl) ?_
  refine j_iload_n F dX0_at_1 rfl (lv_at hl 1 rfl) ?_
  refine k0_isFree F hA G zf (by omega) (by decide) hl.1 (Nat.le_of_ble_eq_true rfl) dX0_at_2 (fun H locs G => ?_)
  have hbzf := bz_in (jisf w zf)
  refine j_if_ne F 10 dX0_at_5 (by decide) (by omega) (fun c_5 => ?_) (fun c_5 => ?_)
  · skip
    obtain ⟨f, hf, ef, hwf⟩ := jisf_iff (bz_true c_5)
    subst ef
    refine j_iconst F dX0_at_10 ?_
    refine j_eq (((0 : Nat) : Int)) rfl ?_
    refine j_istore_n F [(3, .int (iI (((0 : Nat) : Int)))), (0, .ref (a 0)), (1, .int (iI ((f : Int)))), (2, .int (iI (z)))] dX0_at_11 rfl hl (by decide) rfl (fun ls hl => ?_)
    have LP : ∀ (n : Nat) (i : Nat) (le' : Nat → Nat) (dr' : Nat → Nat) (ma' : Nat → Nat) (op' : Nat → Nat) (oc' : Nat) (gl' : Nat) (la' : Int) (H : Heap) (locs : List Loc) (ls : Array Slot), 144 < i + n → i ≤ 144 → jat w f z (144 - i) i = jat w f z 144 0 → jG D a k A s (w, le', dr', ma', op', oc', gl', la') H locs → lv_has ls 5 [(3, .int (iI (((i : Nat) : Int)))), (0, .ref (a 0)), (1, .int (iI ((f : Int)))), (2, .int (iI (z)))] → W p l e ({ frames := 7, cells := 0, slots := 0, locals := 178 }) s m ([.ref (a 0), .int (iI (f : Int)), .int (iI z)] : List Value).toArray below meth c H locs 0 0 (gQi below (fun r X => r = iI (jqa w (f : Int) z) ∧ X.1 = w) D (JT k) (JW a k) A ([.ref (a 0), .int (iI (f : Int)), .int (iI z)] : List Value).toArray s) (F0 m 12 ls []) := by
      intro n
      induction n with
      | zero =>
        intro i le' dr' ma' op' oc' gl' la' H locs ls hn hi
        omega
      | succ n ih =>
        intro i le' dr' ma' op' oc' gl' la' H locs ls hn hi hj G hl
        refine j_iload_n F dX0_at_12 rfl (lv_at hl 0 rfl) ?_
        refine j_sipush F dX0_at_13 (by decide +kernel) ?_
        refine j_icmp_ge F 58 dX0_at_16 (by decide) (by omega) (fun c_16 => ?_) (fun c_16 => ?_)
        · skip
          refine j_bipush F dX0_at_58 (by decide +kernel) ?_
          have hn0 : i = 144 := by omega
          subst hn0
          exact g_iret F hr hlk rfl G ⟨by unfold jqa; rw [if_pos (jisf_nat hf hwf), Int.toNat_natCast, ← hj]; rfl, rfl⟩ dX0_at_60
        · skip
          rw [show 144 - i = (144 - (i + 1)) + 1 by omega] at hj
          refine j_aload_n F dX0_at_19 rfl (lv_at hl 1 rfl) ?_
          refine j0_walls F G dX0_at_20 ?_
          refine j_iload_n F dX0_at_23 rfl (lv_at hl 0 rfl) ?_
          refine j0_ldW F G (i) (by omega) (by omega) dX0_at_24 ?_
          have hb := bz_in (w i)
          refine j_if_eq F 31 dX0_at_25 (by decide) (by omega) (fun c_25 => ?_) (fun c_25 => ?_)
          · skip
            refine j_aload_n F dX0_at_31 rfl (lv_at hl 1 rfl) ?_
            refine j_iload_n F dX0_at_32 rfl (lv_at hl 2 rfl) ?_
            refine j_iload_n F dX0_at_33 rfl (lv_at hl 0 rfl) ?_
            refine k0_search F hA G f i ⟨hf, by omega, hwf⟩ (by decide) hl.1 (Nat.le_of_ble_eq_true rfl) dX0_at_34 (fun le1 dr1 ma1 op1 oc1 gl1 la1 H locs hd1 G => ?_)
            refine j_istore F [(4, .int (iI (jdist w f i))), (3, .int (iI (((i : Nat) : Int)))), (0, .ref (a 0)), (1, .int (iI ((f : Int)))), (2, .int (iI (z)))] dX0_at_37 hl (by decide) rfl (fun ls hl => ?_)
            refine j_iload F dX0_at_39 (lv_at hl 0 rfl) ?_
            refine j_if_lt F 52 dX0_at_41 (by decide) (by omega) (fun c_41 => ?_) (fun c_41 => ?_)
            · skip
              refine j_iinc F (((i + 1 : Nat) : Int)) [(3, .int (iI (((i + 1 : Nat) : Int)))), (4, .int (iI (jdist w f i))), (0, .ref (a 0)), (1, .int (iI ((f : Int)))), (2, .int (iI (z)))] (k := 1) dX0_at_52 hl rfl (by omega) (by decide) rfl (fun ls hl => ?_)
              refine j_goto F 12 dX0_at_55 (by decide) ?_
              exact ih (i + 1) le1 dr1 ma1 op1 oc1 gl1 la1 H locs ls (by omega) (by omega) (by rw [← hj, jat_no (by omega)]) G (lv_sub hl [0, 2, 3, 4] rfl)
            · skip
              refine j_iload F dX0_at_44 (lv_at hl 0 rfl) ?_
              refine j_iload_n F dX0_at_46 rfl (lv_at hl 4 rfl) ?_
              refine j_icmp_ne F 52 dX0_at_47 (by decide) (by omega) (fun c_47 => ?_) (fun c_47 => ?_)
              · skip
                refine j_iinc F (((i + 1 : Nat) : Int)) [(3, .int (iI (((i + 1 : Nat) : Int)))), (4, .int (iI (jdist w f i))), (0, .ref (a 0)), (1, .int (iI ((f : Int)))), (2, .int (iI (z)))] (k := 1) dX0_at_52 hl rfl (by omega) (by decide) rfl (fun ls hl => ?_)
                refine j_goto F 12 dX0_at_55 (by decide) ?_
                exact ih (i + 1) le1 dr1 ma1 op1 oc1 gl1 la1 H locs ls (by omega) (by omega) (by rw [← hj, jat_no (by omega)]) G (lv_sub hl [0, 2, 3, 4] rfl)
              · skip
                refine j_iload_n F dX0_at_50 rfl (lv_at hl 1 rfl) ?_
                exact g_iret F hr hlk rfl G ⟨by unfold jqa; rw [if_pos (jisf_nat hf hwf), Int.toNat_natCast, ← hj, jat_yes (by omega)], rfl⟩ dX0_at_51
          · skip
            refine j_goto F 52 dX0_at_28 (by decide) ?_
            refine j_iinc F (((i + 1 : Nat) : Int)) [(3, .int (iI (((i + 1 : Nat) : Int)))), (0, .ref (a 0)), (1, .int (iI ((f : Int)))), (2, .int (iI (z)))] (k := 0) dX0_at_52 hl rfl (by omega) (by decide) rfl (fun ls hl => ?_)
            refine j_goto F 12 dX0_at_55 (by decide) ?_
            exact ih (i + 1) le' dr' ma' op' oc' gl' la' H locs ls (by omega) (by omega) (by rw [← hj, jat_no (by rw [jdist_wall hf hwf (by omega) (bz_true c_25)]; omega)]) G (lv_sub hl [0, 1, 2, 3] rfl)
    exact LP 145 0 le dr ma op oc gl la _ _ ls (by omega) (by omega) rfl G (lv_sub hl [0, 1, 2, 3] rfl)
  · skip
    refine j_iconst F dX0_at_8 ?_
    exact g_iret F hr hlk rfl G ⟨by unfold jqa; rw [if_neg (by rw [bz_false c_5]; decide)], rfl⟩ dX0_at_9
end
section
set_option maxHeartbeats 4000000 in
set_option maxRecDepth 100000 in
theorem c0_block (l : Launch) (D : va_G) (a : Nat → Nat) (k : Nat → ClassId) (w : Nat → Bool) (le dr ma op : Nat → Nat) (oc gl : Nat) (la : Int) (z : Int) (on : Bool) (h : -2147483648 ≤ z ∧ z < 2147483648) : gMi l yX0_block cX0_block 10 .int ({ frames := 0, cells := 0, slots := 0, locals := 0 }) D (JT k) (JW a k) [.ref (a 0), .int (iI z), .int (iI (bz on))] (w, le, dr, ma, op, oc, gl, la) (fun r X => r = iI (jblk w z on).2 ∧ X = ((jblk w z on).1, le, dr, ma, op, oc, gl, la)) := by
  refine gMi_of (by decide) (Nat.le_of_ble_eq_true rfl) ?_
  intro p e s m below meth c A ls F hr hlk hA G hl
  have F : CallFix p m c cX0_block 10 s ([.ref (a 0), .int (iI z), .int (iI (bz on))] : List Value).toArray lw_all RX0 := F
  have hl : lv_has ls 10 [(0, .ref (a 0)), (1, .int (iI z)), (2, .int (iI (bz on)))] := hl
  refine j_iload_n F dX0_block_0 rfl (lv_at hl 1 rfl) ?_
  refine j_if_ge F 6 dX0_block_1 (by decide) (by omega) (fun c_1 => ?_) (fun c_1 => ?_)
  · skip
    have hz : 0 ≤ z := by omega
    obtain ⟨lf, e1⟩ : ∃ n : Nat, z / 4096 = (n : Int) := ⟨(z / 4096).toNat, by omega⟩
    obtain ⟨rt, e2⟩ : ∃ n : Nat, z / 256 % 16 = (n : Int) := ⟨(z / 256 % 16).toNat, by omega⟩
    obtain ⟨lo, e3⟩ : ∃ n : Nat, z / 16 % 16 = (n : Int) := ⟨(z / 16 % 16).toNat, by omega⟩
    obtain ⟨hi, e4⟩ : ∃ n : Nat, z % 16 = (n : Int) := ⟨(z % 16).toNat, by omega⟩
    refine j_iload_n F dX0_block_6 rfl (lv_at hl 1 rfl) ?_
    refine j_bipush F dX0_block_7 (by decide +kernel) ?_
    refine j_ishr F 12 ((lf : Nat) : Int) (by decide +kernel) (by omega) (by omega) dX0_block_9 ?_
    refine j_istore_n F [(3, .int (iI (((lf : Nat) : Int)))), (0, .ref (a 0)), (1, .int (iI (z))), (2, .int (iI (bz on)))] dX0_block_10 rfl hl (by decide) rfl (fun ls hl => ?_)
    refine j_iload_n F dX0_block_11 rfl (lv_at hl 2 rfl) ?_
    refine j_bipush F dX0_block_12 (by decide +kernel) ?_
    refine j_ishr F 8 (z / 256) (by decide +kernel) (by omega) (by omega) dX0_block_14 ?_
    refine j_bipush F dX0_block_15 (by decide +kernel) ?_
    refine j_iand15 F ((rt : Nat) : Int) (by omega) (by omega) dX0_block_17 ?_
    refine j_istore F [(4, .int (iI (((rt : Nat) : Int)))), (3, .int (iI (((lf : Nat) : Int)))), (0, .ref (a 0)), (1, .int (iI (z))), (2, .int (iI (bz on)))] dX0_block_18 hl (by decide) rfl (fun ls hl => ?_)
    refine j_iload_n F dX0_block_20 rfl (lv_at hl 3 rfl) ?_
    refine j_iconst F dX0_block_21 ?_
    refine j_ishr F 4 (z / 16) (by decide +kernel) (by omega) (by omega) dX0_block_22 ?_
    refine j_bipush F dX0_block_23 (by decide +kernel) ?_
    refine j_iand15 F ((lo : Nat) : Int) (by omega) (by omega) dX0_block_25 ?_
    refine j_istore F [(5, .int (iI (((lo : Nat) : Int)))), (4, .int (iI (((rt : Nat) : Int)))), (3, .int (iI (((lf : Nat) : Int)))), (0, .ref (a 0)), (1, .int (iI (z))), (2, .int (iI (bz on)))] dX0_block_26 hl (by decide) rfl (fun ls hl => ?_)
    refine j_iload_n F dX0_block_28 rfl (lv_at hl 4 rfl) ?_
    refine j_bipush F dX0_block_29 (by decide +kernel) ?_
    refine j_iand15 F ((hi : Nat) : Int) (by omega) (by omega) dX0_block_31 ?_
    refine j_istore F [(6, .int (iI (((hi : Nat) : Int)))), (5, .int (iI (((lo : Nat) : Int)))), (4, .int (iI (((rt : Nat) : Int)))), (3, .int (iI (((lf : Nat) : Int)))), (0, .ref (a 0)), (1, .int (iI (z))), (2, .int (iI (bz on)))] dX0_block_32 hl (by decide) rfl (fun ls hl => ?_)
    refine j_iload_n F dX0_block_34 rfl (lv_at hl 3 rfl) ?_
    refine j_iload F dX0_block_35 (lv_at hl 2 rfl) ?_
    refine j_icmp_gt F 61 dX0_block_37 (by decide) (by omega) (fun c_37 => ?_) (fun c_37 => ?_)
    · skip
      refine j_iconst F dX0_block_61 ?_
      have hq := jblk_no (w := w) (z := z) (on := on) (by omega)
      exact g_iret F hr hlk rfl G ⟨by rw [hq], by rw [hq]⟩ dX0_block_62
    · skip
      refine j_iload F dX0_block_40 (lv_at hl 2 rfl) ?_
      refine j_bipush F dX0_block_42 (by decide +kernel) ?_
      refine j_icmp_gt F 61 dX0_block_44 (by decide) (by omega) (fun c_44 => ?_) (fun c_44 => ?_)
      · skip
        refine j_iconst F dX0_block_61 ?_
        have hq := jblk_no (w := w) (z := z) (on := on) (by omega)
        exact g_iret F hr hlk rfl G ⟨by rw [hq], by rw [hq]⟩ dX0_block_62
      · skip
        refine j_iload F dX0_block_47 (lv_at hl 1 rfl) ?_
        refine j_iload F dX0_block_49 (lv_at hl 0 rfl) ?_
        refine j_icmp_gt F 61 dX0_block_51 (by decide) (by omega) (fun c_51 => ?_) (fun c_51 => ?_)
        · skip
          refine j_iconst F dX0_block_61 ?_
          have hq := jblk_no (w := w) (z := z) (on := on) (by omega)
          exact g_iret F hr hlk rfl G ⟨by rw [hq], by rw [hq]⟩ dX0_block_62
        · skip
          refine j_iload F dX0_block_54 (lv_at hl 0 rfl) ?_
          refine j_bipush F dX0_block_56 (by decide +kernel) ?_
          refine j_icmp_le F 63 dX0_block_58 (by decide) (by omega) (fun c_58 => ?_) (fun c_58 => ?_)
          · skip
            have IN : ∀ (n : Nat) (xx : Nat) (yy : Nat) (ch : Nat) (w' : Nat → Bool) (H : Heap) (locs : List Loc) (ls : Array Slot), rt + 1 = xx + n → yy ≤ 11 → (∀ (H : Heap) (locs : List Loc) (ls : Array Slot), jG D a k A s ((jbx on yy n xx w' ch).1, le, dr, ma, op, oc, gl, la) H locs → lv_has ls 10 [(8, .int (iI (((yy : Nat) : Int)))), (7, .int (iI ((((jbx on yy n xx w' ch).2 : Nat) : Int)))), (6, .int (iI (((hi : Nat) : Int)))), (5, .int (iI (((lo : Nat) : Int)))), (4, .int (iI (((rt : Nat) : Int)))), (3, .int (iI (((lf : Nat) : Int)))), (0, .ref (a 0)), (1, .int (iI (z))), (2, .int (iI (bz on)))] → W p l e ({ frames := 0, cells := 0, slots := 0, locals := 0 }) s m ([.ref (a 0), .int (iI z), .int (iI (bz on))] : List Value).toArray below meth c H locs 0 0 (gQi below (fun r X => r = iI (jblk w z on).2 ∧ X = ((jblk w z on).1, le, dr, ma, op, oc, gl, la)) D (JT k) (JW a k) A ([.ref (a 0), .int (iI z), .int (iI (bz on))] : List Value).toArray s) (F0 m 127 ls [])) → jG D a k A s (w', le, dr, ma, op, oc, gl, la) H locs → lv_has ls 10 [(9, .int (iI (((xx : Nat) : Int)))), (8, .int (iI (((yy : Nat) : Int)))), (7, .int (iI (((ch : Nat) : Int)))), (6, .int (iI (((hi : Nat) : Int)))), (5, .int (iI (((lo : Nat) : Int)))), (4, .int (iI (((rt : Nat) : Int)))), (3, .int (iI (((lf : Nat) : Int)))), (0, .ref (a 0)), (1, .int (iI (z))), (2, .int (iI (bz on)))] → W p l e ({ frames := 0, cells := 0, slots := 0, locals := 0 }) s m ([.ref (a 0), .int (iI z), .int (iI (bz on))] : List Value).toArray below meth c H locs 0 0 (gQi below (fun r X => r = iI (jblk w z on).2 ∧ X = ((jblk w z on).1, le, dr, ma, op, oc, gl, la)) D (JT k) (JW a k) A ([.ref (a 0), .int (iI z), .int (iI (bz on))] : List Value).toArray s) (F0 m 80 ls []) := by
              intro n
              induction n with
              | zero =>
                intro xx yy ch w' H locs ls hn hy cont G hl
                refine j_iload F dX0_block_80 (lv_at hl 0 rfl) ?_
                refine j_iload F dX0_block_82 (lv_at hl 5 rfl) ?_
                refine j_icmp_gt F 127 dX0_block_84 (by decide) (by omega) (fun c_84 => ?_) (fun c_84 => ?_)
                · skip
                  exact cont H locs ls G (lv_sub hl [1, 2, 3, 4, 5, 6, 7, 8, 9] rfl)
                · skip
                  exfalso; omega
              | succ n ih =>
                intro xx yy ch w' H locs ls hn hy cont G hl
                refine j_iload F dX0_block_80 (lv_at hl 0 rfl) ?_
                refine j_iload F dX0_block_82 (lv_at hl 5 rfl) ?_
                refine j_icmp_gt F 127 dX0_block_84 (by decide) (by omega) (fun c_84 => ?_) (fun c_84 => ?_)
                · skip
                  exfalso; omega
                · skip
                  refine j_aload_n F dX0_block_87 rfl (lv_at hl 7 rfl) ?_
                  refine j0_walls F G dX0_block_88 ?_
                  refine j_bipush F dX0_block_91 (by decide +kernel) ?_
                  refine j_iload F dX0_block_93 (lv_at hl 1 rfl) ?_
                  refine j_imul F dX0_block_95 ?_
                  refine j_iload F dX0_block_96 (lv_at hl 0 rfl) ?_
                  refine j_iadd F dX0_block_98 ?_
                  refine j0_ldW F G (12 * yy + xx) (by omega) (by omega) dX0_block_99 ?_
                  refine j_iload_n F dX0_block_100 rfl (lv_at hl 9 rfl) ?_
                  have hb1 := bz_in (w' (12 * yy + xx))
                  have hb2 := bz_in on
                  refine j_icmp_eq F 107 dX0_block_101 (by decide) (by omega) (fun c_101 => ?_) (fun c_101 => ?_)
                  · skip
                    refine j_aload_n F dX0_block_107 rfl (lv_at hl 7 rfl) ?_
                    refine j0_walls F G dX0_block_108 ?_
                    refine j_bipush F dX0_block_111 (by decide +kernel) ?_
                    refine j_iload F dX0_block_113 (lv_at hl 1 rfl) ?_
                    refine j_imul F dX0_block_115 ?_
                    refine j_iload F dX0_block_116 (lv_at hl 0 rfl) ?_
                    refine j_iadd F dX0_block_118 ?_
                    refine j_iload_n F dX0_block_119 rfl (lv_at hl 9 rfl) ?_
                    refine j0_stW F G (12 * yy + xx) (on) (by omega) (by omega) rfl dX0_block_120 (fun H locs G => ?_)
                    refine j_iinc F (((xx + 1 : Nat) : Int)) [(9, .int (iI (((xx + 1 : Nat) : Int)))), (8, .int (iI (((yy : Nat) : Int)))), (7, .int (iI (((ch : Nat) : Int)))), (6, .int (iI (((hi : Nat) : Int)))), (5, .int (iI (((lo : Nat) : Int)))), (4, .int (iI (((rt : Nat) : Int)))), (3, .int (iI (((lf : Nat) : Int)))), (0, .ref (a 0)), (1, .int (iI (z))), (2, .int (iI (bz on)))] (k := 0) dX0_block_121 hl rfl (by omega) (by decide) rfl (fun ls hl => ?_)
                    refine j_goto F 80 dX0_block_124 (by decide) ?_
                    have hx : jbx on yy (n + 1) xx w' ch = jbx on yy n (xx + 1) (va_up w' (12 * yy + xx) on) (ch) := by
                      conv => lhs; unfold jbx
                      rw [if_pos (bz_inj c_101)]
                    rw [hx] at cont
                    exact ih (xx + 1) yy (ch) (va_up w' (12 * yy + xx) on) H locs ls (by omega) (by omega) cont G (lv_sub hl [0, 1, 2, 3, 4, 5, 6, 7, 8, 9] rfl)
                  · skip
                    refine j_iinc F (((ch + 1 : Nat) : Int)) [(7, .int (iI (((ch + 1 : Nat) : Int)))), (9, .int (iI (((xx : Nat) : Int)))), (8, .int (iI (((yy : Nat) : Int)))), (6, .int (iI (((hi : Nat) : Int)))), (5, .int (iI (((lo : Nat) : Int)))), (4, .int (iI (((rt : Nat) : Int)))), (3, .int (iI (((lf : Nat) : Int)))), (0, .ref (a 0)), (1, .int (iI (z))), (2, .int (iI (bz on)))] (k := 2) dX0_block_104 hl rfl (by omega) (by decide) rfl (fun ls hl => ?_)
                    refine j_aload_n F dX0_block_107 rfl (lv_at hl 7 rfl) ?_
                    refine j0_walls F G dX0_block_108 ?_
                    refine j_bipush F dX0_block_111 (by decide +kernel) ?_
                    refine j_iload F dX0_block_113 (lv_at hl 2 rfl) ?_
                    refine j_imul F dX0_block_115 ?_
                    refine j_iload F dX0_block_116 (lv_at hl 1 rfl) ?_
                    refine j_iadd F dX0_block_118 ?_
                    refine j_iload_n F dX0_block_119 rfl (lv_at hl 9 rfl) ?_
                    refine j0_stW F G (12 * yy + xx) (on) (by omega) (by omega) rfl dX0_block_120 (fun H locs G => ?_)
                    refine j_iinc F (((xx + 1 : Nat) : Int)) [(9, .int (iI (((xx + 1 : Nat) : Int)))), (7, .int (iI (((ch + 1 : Nat) : Int)))), (8, .int (iI (((yy : Nat) : Int)))), (6, .int (iI (((hi : Nat) : Int)))), (5, .int (iI (((lo : Nat) : Int)))), (4, .int (iI (((rt : Nat) : Int)))), (3, .int (iI (((lf : Nat) : Int)))), (0, .ref (a 0)), (1, .int (iI (z))), (2, .int (iI (bz on)))] (k := 1) dX0_block_121 hl rfl (by omega) (by decide) rfl (fun ls hl => ?_)
                    refine j_goto F 80 dX0_block_124 (by decide) ?_
                    have hx : jbx on yy (n + 1) xx w' ch = jbx on yy n (xx + 1) (va_up w' (12 * yy + xx) on) (ch + 1) := by
                      conv => lhs; unfold jbx
                      rw [if_neg (fun q => c_101 (by rw [q]))]
                    rw [hx] at cont
                    exact ih (xx + 1) yy (ch + 1) (va_up w' (12 * yy + xx) on) H locs ls (by omega) (by omega) cont G (lv_sub hl [0, 2, 1, 3, 4, 5, 6, 7, 8, 9] rfl)
            have OUT : ∀ (n : Nat) (yy : Nat) (ch : Nat) (w' : Nat → Bool) (H : Heap) (locs : List Loc) (ls : Array Slot), hi + 1 = yy + n → jby on lf rt n yy w' ch = jby on lf rt (hi + 1 - lo) lo w 0 → jG D a k A s (w', le, dr, ma, op, oc, gl, la) H locs → lv_has ls 10 [(8, .int (iI (((yy : Nat) : Int)))), (7, .int (iI (((ch : Nat) : Int)))), (6, .int (iI (((hi : Nat) : Int)))), (5, .int (iI (((lo : Nat) : Int)))), (4, .int (iI (((rt : Nat) : Int)))), (3, .int (iI (((lf : Nat) : Int)))), (0, .ref (a 0)), (1, .int (iI (z))), (2, .int (iI (bz on)))] → W p l e ({ frames := 0, cells := 0, slots := 0, locals := 0 }) s m ([.ref (a 0), .int (iI z), .int (iI (bz on))] : List Value).toArray below meth c H locs 0 0 (gQi below (fun r X => r = iI (jblk w z on).2 ∧ X = ((jblk w z on).1, le, dr, ma, op, oc, gl, la)) D (JT k) (JW a k) A ([.ref (a 0), .int (iI z), .int (iI (bz on))] : List Value).toArray s) (F0 m 70 ls []) := by
              intro n
              induction n with
              | zero =>
                intro yy ch w' H locs ls hn hj G hl
                refine j_iload F dX0_block_70 (lv_at hl 0 rfl) ?_
                refine j_iload F dX0_block_72 (lv_at hl 2 rfl) ?_
                refine j_icmp_gt F 133 dX0_block_74 (by decide) (by omega) (fun c_74 => ?_) (fun c_74 => ?_)
                · skip
                  refine j_iload F dX0_block_133 (lv_at hl 1 rfl) ?_
                  have hq := jblk_yes (w := w) (on := on) hz e1 e2 e3 e4 (by omega) (by omega) (by omega) (by omega)
                  rw [← hj] at hq
                  exact g_iret F hr hlk rfl G ⟨by rw [hq]; rfl, by rw [hq]; rfl⟩ dX0_block_135
                · skip
                  exfalso; omega
              | succ n ih =>
                intro yy ch w' H locs ls hn hj G hl
                refine j_iload F dX0_block_70 (lv_at hl 0 rfl) ?_
                refine j_iload F dX0_block_72 (lv_at hl 2 rfl) ?_
                refine j_icmp_gt F 133 dX0_block_74 (by decide) (by omega) (fun c_74 => ?_) (fun c_74 => ?_)
                · skip
                  exfalso; omega
                · skip
                  refine j_iload_n F dX0_block_77 rfl (lv_at hl 5 rfl) ?_
                  refine j_istore F [(9, .int (iI (((lf : Nat) : Int)))), (8, .int (iI (((yy : Nat) : Int)))), (7, .int (iI (((ch : Nat) : Int)))), (6, .int (iI (((hi : Nat) : Int)))), (5, .int (iI (((lo : Nat) : Int)))), (4, .int (iI (((rt : Nat) : Int)))), (3, .int (iI (((lf : Nat) : Int)))), (0, .ref (a 0)), (1, .int (iI (z))), (2, .int (iI (bz on)))] dX0_block_78 hl (by decide) rfl (fun ls hl => ?_)
                  refine IN (rt + 1 - lf) lf yy ch w' H locs ls (by omega) (by omega) (fun H locs ls G hl => ?_) G (lv_sub hl [0, 1, 2, 3, 4, 5, 6, 7, 8, 9] rfl)
                  refine j_iinc F (((yy + 1 : Nat) : Int)) [(8, .int (iI ((yy + 1 : Nat) : Int))), (7, .int (iI (((jbx on yy (rt + 1 - lf) lf w' ch).2 : Nat) : Int))), (6, .int (iI (((hi : Nat) : Int)))), (5, .int (iI (((lo : Nat) : Int)))), (4, .int (iI (((rt : Nat) : Int)))), (3, .int (iI (((lf : Nat) : Int)))), (0, .ref (a 0)), (1, .int (iI (z))), (2, .int (iI (bz on)))] (k := 0) dX0_block_127 hl rfl (by omega) (by decide) rfl (fun ls hl => ?_)
                  refine j_goto F 70 dX0_block_130 (by decide) ?_
                  exact ih (yy + 1) _ _ H locs ls (by omega) hj G hl
            refine j_iconst F dX0_block_63 ?_
            refine j_eq (((0 : Nat) : Int)) rfl ?_
            refine j_istore F [(7, .int (iI (((0 : Nat) : Int)))), (6, .int (iI (((hi : Nat) : Int)))), (5, .int (iI (((lo : Nat) : Int)))), (4, .int (iI (((rt : Nat) : Int)))), (3, .int (iI (((lf : Nat) : Int)))), (0, .ref (a 0)), (1, .int (iI (z))), (2, .int (iI (bz on)))] dX0_block_64 hl (by decide) rfl (fun ls hl => ?_)
            refine j_iload F dX0_block_66 (lv_at hl 2 rfl) ?_
            refine j_istore F [(8, .int (iI (((lo : Nat) : Int)))), (7, .int (iI (((0 : Nat) : Int)))), (6, .int (iI (((hi : Nat) : Int)))), (5, .int (iI (((lo : Nat) : Int)))), (4, .int (iI (((rt : Nat) : Int)))), (3, .int (iI (((lf : Nat) : Int)))), (0, .ref (a 0)), (1, .int (iI (z))), (2, .int (iI (bz on)))] dX0_block_68 hl (by decide) rfl (fun ls hl => ?_)
            exact OUT (hi + 1 - lo) lo 0 w _ _ ls (by omega) rfl G (lv_sub hl [0, 1, 2, 3, 4, 5, 6, 7, 8] rfl)
          · skip
            refine j_iconst F dX0_block_61 ?_
            have hq := jblk_no (w := w) (z := z) (on := on) (by omega)
            exact g_iret F hr hlk rfl G ⟨by rw [hq], by rw [hq]⟩ dX0_block_62
  · skip
    refine j_iconst F dX0_block_4 ?_
    have hq := jblk_no (w := w) (z := z) (on := on) (by omega)
    exact g_iret F hr hlk rfl G ⟨by rw [hq], by rw [hq]⟩ dX0_block_5
end
section
set_option maxHeartbeats 4000000 in
set_option maxRecDepth 100000 in
theorem c1_block (l : Launch) (D : va_G) (a : Nat → Nat) (k : Nat → ClassId) (w : Nat → Bool) (fa : Nat → Int) (z : Int) (on : Bool) (h : -2147483648 ≤ z ∧ z < 2147483648) : gMi l yX1_block cX1_block 10 .int ({ frames := 0, cells := 0, slots := 0, locals := 0 }) D (MT k) (MW a k) [.ref (a 0), .int (iI z), .int (iI (bz on))] (w, fa) (fun r X => r = iI (jblk w z on).2 ∧ X = ((jblk w z on).1, fa)) := by
  refine gMi_of (by decide) (Nat.le_of_ble_eq_true rfl) ?_
  intro p e s m below meth c A ls F hr hlk hA G hl
  have F : CallFix p m c cX1_block 10 s ([.ref (a 0), .int (iI z), .int (iI (bz on))] : List Value).toArray lw_all RX1 := F
  have hl : lv_has ls 10 [(0, .ref (a 0)), (1, .int (iI z)), (2, .int (iI (bz on)))] := hl
  by_cases hzn : z < 0
  · skip
    refine j_iload_n F dX1_block_0 rfl (lv_at hl 1 rfl) ?_
    refine j_sipush F dX1_block_1 (by decide +kernel) ?_
    refine lv_idiv F.1 F.2.1 dX1_block_4 (by decide +kernel) ?_
    refine lv_topi (fun v_4 e_4 => ?_)
    refine j_istore_n F [(3, .int v_4), (0, .ref (a 0)), (1, .int (iI (z))), (2, .int (iI (bz on)))] dX1_block_5 rfl hl (by decide) rfl (fun ls hl => ?_)
    refine j_iload_n F dX1_block_6 rfl (lv_at hl 2 rfl) ?_
    refine j_sipush F dX1_block_7 (by decide +kernel) ?_
    refine lv_idiv F.1 F.2.1 dX1_block_10 (by decide +kernel) ?_
    refine lv_topi (fun v_10 e_10 => ?_)
    refine j_bipush F dX1_block_11 (by decide +kernel) ?_
    refine lv_irem F.1 F.2.1 dX1_block_13 (by decide +kernel) ?_
    refine lv_topi (fun v_13 e_13 => ?_)
    refine j_istore F [(4, .int v_13), (3, .int v_4), (0, .ref (a 0)), (1, .int (iI (z))), (2, .int (iI (bz on)))] dX1_block_14 hl (by decide) rfl (fun ls hl => ?_)
    refine j_iload_n F dX1_block_16 rfl (lv_at hl 3 rfl) ?_
    refine j_bipush F dX1_block_17 (by decide +kernel) ?_
    refine lv_idiv F.1 F.2.1 dX1_block_19 (by decide +kernel) ?_
    refine lv_topi (fun v_19 e_19 => ?_)
    refine j_bipush F dX1_block_20 (by decide +kernel) ?_
    refine lv_irem F.1 F.2.1 dX1_block_22 (by decide +kernel) ?_
    refine lv_topi (fun v_22 e_22 => ?_)
    refine j_istore F [(5, .int v_22), (4, .int v_13), (3, .int v_4), (0, .ref (a 0)), (1, .int (iI (z))), (2, .int (iI (bz on)))] dX1_block_23 hl (by decide) rfl (fun ls hl => ?_)
    refine j_iload_n F dX1_block_25 rfl (lv_at hl 4 rfl) ?_
    refine j_bipush F dX1_block_26 (by decide +kernel) ?_
    refine lv_irem F.1 F.2.1 dX1_block_28 (by decide +kernel) ?_
    refine lv_topi (fun v_28 e_28 => ?_)
    refine j_istore F [(6, .int v_28), (5, .int v_22), (4, .int v_13), (3, .int v_4), (0, .ref (a 0)), (1, .int (iI (z))), (2, .int (iI (bz on)))] dX1_block_29 hl (by decide) rfl (fun ls hl => ?_)
    refine j_iload_n F dX1_block_31 rfl (lv_at hl 5 rfl) ?_
    refine j_if_lt F 62 dX1_block_32 (by decide) (by omega) (fun c_32 => ?_) (fun c_32 => ?_)
    · skip
      refine j_iconst F dX1_block_62 ?_
      have hq := jblk_no (w := w) (z := z) (on := on) (by omega)
      exact g_iret F hr hlk rfl G ⟨by rw [hq], by rw [hq]⟩ dX1_block_63
    · skip
      exfalso; omega
  · have hz : 0 ≤ z := by omega
    obtain ⟨lf, e1⟩ : ∃ n : Nat, z / 4096 = (n : Int) := ⟨(z / 4096).toNat, by omega⟩
    obtain ⟨rt, e2⟩ : ∃ n : Nat, z / 256 % 16 = (n : Int) := ⟨(z / 256 % 16).toNat, by omega⟩
    obtain ⟨lo, e3⟩ : ∃ n : Nat, z / 16 % 16 = (n : Int) := ⟨(z / 16 % 16).toNat, by omega⟩
    obtain ⟨hi, e4⟩ : ∃ n : Nat, z % 16 = (n : Int) := ⟨(z % 16).toNat, by omega⟩
    refine j_iload_n F dX1_block_0 rfl (lv_at hl 1 rfl) ?_
    refine j_sipush F dX1_block_1 (by decide +kernel) ?_
    refine j_idiv F (((lf : Nat) : Int)) (by omega) (by omega) dX1_block_4 ?_
    refine j_istore_n F [(3, .int (iI (((lf : Nat) : Int)))), (0, .ref (a 0)), (1, .int (iI (z))), (2, .int (iI (bz on)))] dX1_block_5 rfl hl (by decide) rfl (fun ls hl => ?_)
    refine j_iload_n F dX1_block_6 rfl (lv_at hl 2 rfl) ?_
    refine j_sipush F dX1_block_7 (by decide +kernel) ?_
    refine j_idiv F (z / 256) (by omega) (by omega) dX1_block_10 ?_
    refine j_bipush F dX1_block_11 (by decide +kernel) ?_
    refine j_irem F (((rt : Nat) : Int)) (by omega) (by omega) dX1_block_13 ?_
    refine j_istore F [(4, .int (iI (((rt : Nat) : Int)))), (3, .int (iI (((lf : Nat) : Int)))), (0, .ref (a 0)), (1, .int (iI (z))), (2, .int (iI (bz on)))] dX1_block_14 hl (by decide) rfl (fun ls hl => ?_)
    refine j_iload_n F dX1_block_16 rfl (lv_at hl 3 rfl) ?_
    refine j_bipush F dX1_block_17 (by decide +kernel) ?_
    refine j_idiv F (z / 16) (by omega) (by omega) dX1_block_19 ?_
    refine j_bipush F dX1_block_20 (by decide +kernel) ?_
    refine j_irem F (((lo : Nat) : Int)) (by omega) (by omega) dX1_block_22 ?_
    refine j_istore F [(5, .int (iI (((lo : Nat) : Int)))), (4, .int (iI (((rt : Nat) : Int)))), (3, .int (iI (((lf : Nat) : Int)))), (0, .ref (a 0)), (1, .int (iI (z))), (2, .int (iI (bz on)))] dX1_block_23 hl (by decide) rfl (fun ls hl => ?_)
    refine j_iload_n F dX1_block_25 rfl (lv_at hl 4 rfl) ?_
    refine j_bipush F dX1_block_26 (by decide +kernel) ?_
    refine j_irem F (((hi : Nat) : Int)) (by omega) (by omega) dX1_block_28 ?_
    refine j_istore F [(6, .int (iI (((hi : Nat) : Int)))), (5, .int (iI (((lo : Nat) : Int)))), (4, .int (iI (((rt : Nat) : Int)))), (3, .int (iI (((lf : Nat) : Int)))), (0, .ref (a 0)), (1, .int (iI (z))), (2, .int (iI (bz on)))] dX1_block_29 hl (by decide) rfl (fun ls hl => ?_)
    refine j_iload_n F dX1_block_31 rfl (lv_at hl 5 rfl) ?_
    refine j_if_lt F 62 dX1_block_32 (by decide) (by omega) (fun c_32 => ?_) (fun c_32 => ?_)
    · skip
      exfalso; omega
    · skip
      refine j_iload_n F dX1_block_35 rfl (lv_at hl 3 rfl) ?_
      refine j_iload F dX1_block_36 (lv_at hl 2 rfl) ?_
      refine j_icmp_gt F 62 dX1_block_38 (by decide) (by omega) (fun c_38 => ?_) (fun c_38 => ?_)
      · skip
        refine j_iconst F dX1_block_62 ?_
        have hq := jblk_no (w := w) (z := z) (on := on) (by omega)
        exact g_iret F hr hlk rfl G ⟨by rw [hq], by rw [hq]⟩ dX1_block_63
      · skip
        refine j_iload F dX1_block_41 (lv_at hl 2 rfl) ?_
        refine j_bipush F dX1_block_43 (by decide +kernel) ?_
        refine j_icmp_gt F 62 dX1_block_45 (by decide) (by omega) (fun c_45 => ?_) (fun c_45 => ?_)
        · skip
          refine j_iconst F dX1_block_62 ?_
          have hq := jblk_no (w := w) (z := z) (on := on) (by omega)
          exact g_iret F hr hlk rfl G ⟨by rw [hq], by rw [hq]⟩ dX1_block_63
        · skip
          refine j_iload F dX1_block_48 (lv_at hl 1 rfl) ?_
          refine j_iload F dX1_block_50 (lv_at hl 0 rfl) ?_
          refine j_icmp_gt F 62 dX1_block_52 (by decide) (by omega) (fun c_52 => ?_) (fun c_52 => ?_)
          · skip
            refine j_iconst F dX1_block_62 ?_
            have hq := jblk_no (w := w) (z := z) (on := on) (by omega)
            exact g_iret F hr hlk rfl G ⟨by rw [hq], by rw [hq]⟩ dX1_block_63
          · skip
            refine j_iload F dX1_block_55 (lv_at hl 0 rfl) ?_
            refine j_bipush F dX1_block_57 (by decide +kernel) ?_
            refine j_icmp_le F 64 dX1_block_59 (by decide) (by omega) (fun c_59 => ?_) (fun c_59 => ?_)
            · skip
              have IN : ∀ (n : Nat) (xx : Nat) (yy : Nat) (ch : Nat) (w' : Nat → Bool) (H : Heap) (locs : List Loc) (ls : Array Slot), rt + 1 = xx + n → yy ≤ 11 → (∀ (H : Heap) (locs : List Loc) (ls : Array Slot), mG D a k A s ((jbx on yy n xx w' ch).1, fa) H locs → lv_has ls 10 [(8, .int (iI (((yy : Nat) : Int)))), (7, .int (iI ((((jbx on yy n xx w' ch).2 : Nat) : Int)))), (6, .int (iI (((hi : Nat) : Int)))), (5, .int (iI (((lo : Nat) : Int)))), (4, .int (iI (((rt : Nat) : Int)))), (3, .int (iI (((lf : Nat) : Int)))), (0, .ref (a 0)), (1, .int (iI (z))), (2, .int (iI (bz on)))] → W p l e ({ frames := 0, cells := 0, slots := 0, locals := 0 }) s m ([.ref (a 0), .int (iI z), .int (iI (bz on))] : List Value).toArray below meth c H locs 0 0 (gQi below (fun r X => r = iI (jblk w z on).2 ∧ X = ((jblk w z on).1, fa)) D (MT k) (MW a k) A ([.ref (a 0), .int (iI z), .int (iI (bz on))] : List Value).toArray s) (F0 m 128 ls [])) → mG D a k A s (w', fa) H locs → lv_has ls 10 [(9, .int (iI (((xx : Nat) : Int)))), (8, .int (iI (((yy : Nat) : Int)))), (7, .int (iI (((ch : Nat) : Int)))), (6, .int (iI (((hi : Nat) : Int)))), (5, .int (iI (((lo : Nat) : Int)))), (4, .int (iI (((rt : Nat) : Int)))), (3, .int (iI (((lf : Nat) : Int)))), (0, .ref (a 0)), (1, .int (iI (z))), (2, .int (iI (bz on)))] → W p l e ({ frames := 0, cells := 0, slots := 0, locals := 0 }) s m ([.ref (a 0), .int (iI z), .int (iI (bz on))] : List Value).toArray below meth c H locs 0 0 (gQi below (fun r X => r = iI (jblk w z on).2 ∧ X = ((jblk w z on).1, fa)) D (MT k) (MW a k) A ([.ref (a 0), .int (iI z), .int (iI (bz on))] : List Value).toArray s) (F0 m 81 ls []) := by
                intro n
                induction n with
                | zero =>
                  intro xx yy ch w' H locs ls hn hy cont G hl
                  refine j_iload F dX1_block_81 (lv_at hl 0 rfl) ?_
                  refine j_iload F dX1_block_83 (lv_at hl 5 rfl) ?_
                  refine j_icmp_gt F 128 dX1_block_85 (by decide) (by omega) (fun c_85 => ?_) (fun c_85 => ?_)
                  · skip
                    exact cont H locs ls G (lv_sub hl [1, 2, 3, 4, 5, 6, 7, 8, 9] rfl)
                  · skip
                    exfalso; omega
                | succ n ih =>
                  intro xx yy ch w' H locs ls hn hy cont G hl
                  refine j_iload F dX1_block_81 (lv_at hl 0 rfl) ?_
                  refine j_iload F dX1_block_83 (lv_at hl 5 rfl) ?_
                  refine j_icmp_gt F 128 dX1_block_85 (by decide) (by omega) (fun c_85 => ?_) (fun c_85 => ?_)
                  · skip
                    exfalso; omega
                  · skip
                    refine j_aload_n F dX1_block_88 rfl (lv_at hl 7 rfl) ?_
                    refine m0_walls F G dX1_block_89 ?_
                    refine j_bipush F dX1_block_92 (by decide +kernel) ?_
                    refine j_iload F dX1_block_94 (lv_at hl 1 rfl) ?_
                    refine j_imul F dX1_block_96 ?_
                    refine j_iload F dX1_block_97 (lv_at hl 0 rfl) ?_
                    refine j_iadd F dX1_block_99 ?_
                    refine m0_ldW F G (12 * yy + xx) (by omega) (by omega) dX1_block_100 ?_
                    refine j_iload_n F dX1_block_101 rfl (lv_at hl 9 rfl) ?_
                    have hb1 := bz_in (w' (12 * yy + xx))
                    have hb2 := bz_in on
                    refine j_icmp_eq F 108 dX1_block_102 (by decide) (by omega) (fun c_102 => ?_) (fun c_102 => ?_)
                    · skip
                      refine j_aload_n F dX1_block_108 rfl (lv_at hl 7 rfl) ?_
                      refine m0_walls F G dX1_block_109 ?_
                      refine j_bipush F dX1_block_112 (by decide +kernel) ?_
                      refine j_iload F dX1_block_114 (lv_at hl 1 rfl) ?_
                      refine j_imul F dX1_block_116 ?_
                      refine j_iload F dX1_block_117 (lv_at hl 0 rfl) ?_
                      refine j_iadd F dX1_block_119 ?_
                      refine j_iload_n F dX1_block_120 rfl (lv_at hl 9 rfl) ?_
                      refine m0_stW F G (12 * yy + xx) (on) (by omega) (by omega) rfl dX1_block_121 (fun H locs G => ?_)
                      refine j_iinc F (((xx + 1 : Nat) : Int)) [(9, .int (iI (((xx + 1 : Nat) : Int)))), (8, .int (iI (((yy : Nat) : Int)))), (7, .int (iI (((ch : Nat) : Int)))), (6, .int (iI (((hi : Nat) : Int)))), (5, .int (iI (((lo : Nat) : Int)))), (4, .int (iI (((rt : Nat) : Int)))), (3, .int (iI (((lf : Nat) : Int)))), (0, .ref (a 0)), (1, .int (iI (z))), (2, .int (iI (bz on)))] (k := 0) dX1_block_122 hl rfl (by omega) (by decide) rfl (fun ls hl => ?_)
                      refine j_goto F 81 dX1_block_125 (by decide) ?_
                      have hx : jbx on yy (n + 1) xx w' ch = jbx on yy n (xx + 1) (va_up w' (12 * yy + xx) on) (ch) := by
                        conv => lhs; unfold jbx
                        rw [if_pos (bz_inj c_102)]
                      rw [hx] at cont
                      exact ih (xx + 1) yy (ch) (va_up w' (12 * yy + xx) on) H locs ls (by omega) (by omega) cont G (lv_sub hl [0, 1, 2, 3, 4, 5, 6, 7, 8, 9] rfl)
                    · skip
                      refine j_iinc F (((ch + 1 : Nat) : Int)) [(7, .int (iI (((ch + 1 : Nat) : Int)))), (9, .int (iI (((xx : Nat) : Int)))), (8, .int (iI (((yy : Nat) : Int)))), (6, .int (iI (((hi : Nat) : Int)))), (5, .int (iI (((lo : Nat) : Int)))), (4, .int (iI (((rt : Nat) : Int)))), (3, .int (iI (((lf : Nat) : Int)))), (0, .ref (a 0)), (1, .int (iI (z))), (2, .int (iI (bz on)))] (k := 2) dX1_block_105 hl rfl (by omega) (by decide) rfl (fun ls hl => ?_)
                      refine j_aload_n F dX1_block_108 rfl (lv_at hl 7 rfl) ?_
                      refine m0_walls F G dX1_block_109 ?_
                      refine j_bipush F dX1_block_112 (by decide +kernel) ?_
                      refine j_iload F dX1_block_114 (lv_at hl 2 rfl) ?_
                      refine j_imul F dX1_block_116 ?_
                      refine j_iload F dX1_block_117 (lv_at hl 1 rfl) ?_
                      refine j_iadd F dX1_block_119 ?_
                      refine j_iload_n F dX1_block_120 rfl (lv_at hl 9 rfl) ?_
                      refine m0_stW F G (12 * yy + xx) (on) (by omega) (by omega) rfl dX1_block_121 (fun H locs G => ?_)
                      refine j_iinc F (((xx + 1 : Nat) : Int)) [(9, .int (iI (((xx + 1 : Nat) : Int)))), (7, .int (iI (((ch + 1 : Nat) : Int)))), (8, .int (iI (((yy : Nat) : Int)))), (6, .int (iI (((hi : Nat) : Int)))), (5, .int (iI (((lo : Nat) : Int)))), (4, .int (iI (((rt : Nat) : Int)))), (3, .int (iI (((lf : Nat) : Int)))), (0, .ref (a 0)), (1, .int (iI (z))), (2, .int (iI (bz on)))] (k := 1) dX1_block_122 hl rfl (by omega) (by decide) rfl (fun ls hl => ?_)
                      refine j_goto F 81 dX1_block_125 (by decide) ?_
                      have hx : jbx on yy (n + 1) xx w' ch = jbx on yy n (xx + 1) (va_up w' (12 * yy + xx) on) (ch + 1) := by
                        conv => lhs; unfold jbx
                        rw [if_neg (fun q => c_102 (by rw [q]))]
                      rw [hx] at cont
                      exact ih (xx + 1) yy (ch + 1) (va_up w' (12 * yy + xx) on) H locs ls (by omega) (by omega) cont G (lv_sub hl [0, 2, 1, 3, 4, 5, 6, 7, 8, 9] rfl)
              have OUT : ∀ (n : Nat) (yy : Nat) (ch : Nat) (w' : Nat → Bool) (H : Heap) (locs : List Loc) (ls : Array Slot), hi + 1 = yy + n → jby on lf rt n yy w' ch = jby on lf rt (hi + 1 - lo) lo w 0 → mG D a k A s (w', fa) H locs → lv_has ls 10 [(8, .int (iI (((yy : Nat) : Int)))), (7, .int (iI (((ch : Nat) : Int)))), (6, .int (iI (((hi : Nat) : Int)))), (5, .int (iI (((lo : Nat) : Int)))), (4, .int (iI (((rt : Nat) : Int)))), (3, .int (iI (((lf : Nat) : Int)))), (0, .ref (a 0)), (1, .int (iI (z))), (2, .int (iI (bz on)))] → W p l e ({ frames := 0, cells := 0, slots := 0, locals := 0 }) s m ([.ref (a 0), .int (iI z), .int (iI (bz on))] : List Value).toArray below meth c H locs 0 0 (gQi below (fun r X => r = iI (jblk w z on).2 ∧ X = ((jblk w z on).1, fa)) D (MT k) (MW a k) A ([.ref (a 0), .int (iI z), .int (iI (bz on))] : List Value).toArray s) (F0 m 71 ls []) := by
                intro n
                induction n with
                | zero =>
                  intro yy ch w' H locs ls hn hj G hl
                  refine j_iload F dX1_block_71 (lv_at hl 0 rfl) ?_
                  refine j_iload F dX1_block_73 (lv_at hl 2 rfl) ?_
                  refine j_icmp_gt F 134 dX1_block_75 (by decide) (by omega) (fun c_75 => ?_) (fun c_75 => ?_)
                  · skip
                    refine j_iload F dX1_block_134 (lv_at hl 1 rfl) ?_
                    have hq := jblk_yes (w := w) (on := on) hz e1 e2 e3 e4 (by omega) (by omega) (by omega) (by omega)
                    rw [← hj] at hq
                    exact g_iret F hr hlk rfl G ⟨by rw [hq]; rfl, by rw [hq]; rfl⟩ dX1_block_136
                  · skip
                    exfalso; omega
                | succ n ih =>
                  intro yy ch w' H locs ls hn hj G hl
                  refine j_iload F dX1_block_71 (lv_at hl 0 rfl) ?_
                  refine j_iload F dX1_block_73 (lv_at hl 2 rfl) ?_
                  refine j_icmp_gt F 134 dX1_block_75 (by decide) (by omega) (fun c_75 => ?_) (fun c_75 => ?_)
                  · skip
                    exfalso; omega
                  · skip
                    refine j_iload_n F dX1_block_78 rfl (lv_at hl 5 rfl) ?_
                    refine j_istore F [(9, .int (iI (((lf : Nat) : Int)))), (8, .int (iI (((yy : Nat) : Int)))), (7, .int (iI (((ch : Nat) : Int)))), (6, .int (iI (((hi : Nat) : Int)))), (5, .int (iI (((lo : Nat) : Int)))), (4, .int (iI (((rt : Nat) : Int)))), (3, .int (iI (((lf : Nat) : Int)))), (0, .ref (a 0)), (1, .int (iI (z))), (2, .int (iI (bz on)))] dX1_block_79 hl (by decide) rfl (fun ls hl => ?_)
                    refine IN (rt + 1 - lf) lf yy ch w' H locs ls (by omega) (by omega) (fun H locs ls G hl => ?_) G (lv_sub hl [0, 1, 2, 3, 4, 5, 6, 7, 8, 9] rfl)
                    refine j_iinc F (((yy + 1 : Nat) : Int)) [(8, .int (iI ((yy + 1 : Nat) : Int))), (7, .int (iI (((jbx on yy (rt + 1 - lf) lf w' ch).2 : Nat) : Int))), (6, .int (iI (((hi : Nat) : Int)))), (5, .int (iI (((lo : Nat) : Int)))), (4, .int (iI (((rt : Nat) : Int)))), (3, .int (iI (((lf : Nat) : Int)))), (0, .ref (a 0)), (1, .int (iI (z))), (2, .int (iI (bz on)))] (k := 0) dX1_block_128 hl rfl (by omega) (by decide) rfl (fun ls hl => ?_)
                    refine j_goto F 71 dX1_block_131 (by decide) ?_
                    exact ih (yy + 1) _ _ H locs ls (by omega) hj G hl
              refine j_iconst F dX1_block_64 ?_
              refine j_eq (((0 : Nat) : Int)) rfl ?_
              refine j_istore F [(7, .int (iI (((0 : Nat) : Int)))), (6, .int (iI (((hi : Nat) : Int)))), (5, .int (iI (((lo : Nat) : Int)))), (4, .int (iI (((rt : Nat) : Int)))), (3, .int (iI (((lf : Nat) : Int)))), (0, .ref (a 0)), (1, .int (iI (z))), (2, .int (iI (bz on)))] dX1_block_65 hl (by decide) rfl (fun ls hl => ?_)
              refine j_iload F dX1_block_67 (lv_at hl 2 rfl) ?_
              refine j_istore F [(8, .int (iI (((lo : Nat) : Int)))), (7, .int (iI (((0 : Nat) : Int)))), (6, .int (iI (((hi : Nat) : Int)))), (5, .int (iI (((lo : Nat) : Int)))), (4, .int (iI (((rt : Nat) : Int)))), (3, .int (iI (((lf : Nat) : Int)))), (0, .ref (a 0)), (1, .int (iI (z))), (2, .int (iI (bz on)))] dX1_block_69 hl (by decide) rfl (fun ls hl => ?_)
              exact OUT (hi + 1 - lo) lo 0 w _ _ ls (by omega) rfl G (lv_sub hl [0, 1, 2, 3, 4, 5, 6, 7, 8] rfl)
            · skip
              refine j_iconst F dX1_block_62 ?_
              have hq := jblk_no (w := w) (z := z) (on := on) (by omega)
              exact g_iret F hr hlk rfl G ⟨by rw [hq], by rw [hq]⟩ dX1_block_63

set_option maxHeartbeats 4000000 in
set_option maxRecDepth 100000 in
theorem c1_isCell (l : Launch) (D : va_G) (a : Nat → Nat) (k : Nat → ClassId) (w : Nat → Bool) (fa : Nat → Int) (z : Int) (h : -2147483648 ≤ z ∧ z < 2147483648) : gMi l yX1_isCell cX1_isCell 2 .boolean ({ frames := 0, cells := 0, slots := 0, locals := 0 }) D (MT k) (MW a k) [.ref (a 0), .int (iI z)] (w, fa) (fun r X => r = iI (bz (jisc z)) ∧ X = (w, fa)) := by
  refine gMi_of (by decide) (Nat.le_of_ble_eq_true rfl) ?_
  intro p e s m below meth c A ls F hr hlk hA G hl
  have F : CallFix p m c cX1_isCell 2 s ([.ref (a 0), .int (iI z)] : List Value).toArray lw_all RX1 := F
  have hl : lv_has ls 2 [(0, .ref (a 0)), (1, .int (iI z))] := hl
  refine j_iload_n F dX1_isCell_0 rfl (lv_at hl 1 rfl) ?_
  refine j_if_lt F 15 dX1_isCell_1 (by decide) (by omega) (fun c_1 => ?_) (fun c_1 => ?_)
  · skip
    refine j_iconst F dX1_isCell_15 ?_
    exact g_iret F hr hlk rfl G ⟨by unfold jisc; rw [decide_eq_false (by omega)]; rfl, rfl⟩ dX1_isCell_16
  · skip
    refine j_iload_n F dX1_isCell_4 rfl (lv_at hl 1 rfl) ?_
    refine j_sipush F dX1_isCell_5 (by decide +kernel) ?_
    refine j_icmp_gt F 15 dX1_isCell_8 (by decide) (by omega) (fun c_8 => ?_) (fun c_8 => ?_)
    · skip
      refine j_iconst F dX1_isCell_15 ?_
      exact g_iret F hr hlk rfl G ⟨by unfold jisc; rw [decide_eq_false (by omega)]; rfl, rfl⟩ dX1_isCell_16
    · skip
      refine j_iconst F dX1_isCell_11 ?_
      refine j_goto F 16 dX1_isCell_12 (by decide) ?_
      exact g_iret F hr hlk rfl G ⟨by unfold jisc; rw [decide_eq_true (by omega)]; rfl, rfl⟩ dX1_isCell_16

section K1isCell
variable {p : Program} {l : Launch} {e : Env} {R : Room} {s : State} {m : MethodId} {args : Array Value} {below : List Frame} {meth : Method} {c : Code} {H : Heap} {locs : List Loc} {Q : State → Prop}
variable {cc : ByteArray} {pc : Nat} {ls : Array Slot} {rest : List Value} {nL : Nat}
variable {D : va_G} {a : Nat → Nat} {k : Nat → ClassId} {A : Nat → Prop} {w : Nat → Bool} {fa : Nat → Int}
set_option maxHeartbeats 4000000 in
set_option maxRecDepth 100000 in
theorem k1_isCell (F : CallFix p m c cc nL s args lw_all RX1) (hA : ∀ q, s.heap.size ≤ q → A q) (G : mG D a k A s (w, fa) H locs) (z : Int) (h : -2147483648 ≤ z ∧ z < 2147483648) (hR : 0 + 1 ≤ R.frames ∧ 8 + (2 + 11) + 0 ≤ R.locals) (hsz : ls.size = nL) (hroom : (rest.map fun v => v.category).sum ≤ 8) (hdg : decode cc pc = .ok (.invokevirtual 17, 3)) (kk : ∀ (H1 : Heap) (locs1 : List Loc), mG D a k A s (w, fa) H1 locs1 → W p l e R s m args below meth c H1 locs1 0 0 Q (F0 m (pc + 3) ls (.int (iI (bz (jisc z))) :: rest))) : W p l e R s m args below meth c H locs 0 0 Q (F0 m pc ls (.int (iI z) :: .ref (a 0) :: rest)) :=
  g_calli (As := [.int (iI z)]) F hA (MW_same a k) G (c1_isCell l D a k w fa z h) (cwV 1 F.2.2.2.2 (lw_V q157 q159 qs12 q18 q160) rfl rfl rfl (by decide +kernel) hR) (mrec G) hsz rfl hroom hdg (fun r x' H1 locs1 hp G1 => by obtain ⟨rfl, rfl⟩ := hp; exact kk H1 locs1 G1)
end K1isCell

set_option maxHeartbeats 4000000 in
set_option maxRecDepth 100000 in
theorem c1_isFree (l : Launch) (D : va_G) (a : Nat → Nat) (k : Nat → ClassId) (w : Nat → Bool) (fa : Nat → Int) (z : Int) (h : -2147483648 ≤ z ∧ z < 2147483648) : gMi l yX1_isFree cX1_isFree 2 .boolean ({ frames := 1, cells := 0, slots := 0, locals := 21 }) D (MT k) (MW a k) [.ref (a 0), .int (iI z)] (w, fa) (fun r X => r = iI (bz (jisf w z)) ∧ X = (w, fa)) := by
  refine gMi_of (by decide) (Nat.le_of_ble_eq_true rfl) ?_
  intro p e s m below meth c A ls F hr hlk hA G hl
  have F : CallFix p m c cX1_isFree 2 s ([.ref (a 0), .int (iI z)] : List Value).toArray lw_all RX1 := F
  have hl : lv_has ls 2 [(0, .ref (a 0)), (1, .int (iI z))] := hl
  refine j_aload_n F dX1_isFree_0 rfl (lv_at hl 0 rfl) ?_
  refine j_iload_n F dX1_isFree_1 rfl (lv_at hl 1 rfl) ?_
  refine k1_isCell F hA G z (by omega) (by decide) hl.1 (Nat.le_of_ble_eq_true rfl) dX1_isFree_2 (fun H locs G => ?_)
  have hbz := bz_in (jisc z)
  refine j_if_eq F 21 dX1_isFree_5 (by decide) (by omega) (fun c_5 => ?_) (fun c_5 => ?_)
  · skip
    have hout : ¬ (0 ≤ z ∧ z < 144) := fun q => by
      have := bz_false c_5
      unfold jisc at this
      rw [decide_eq_true q] at this
      cases this
    refine j_iconst F dX1_isFree_21 ?_
    exact g_iret F hr hlk rfl G ⟨by rw [jisf_out hout]; rfl, rfl⟩ dX1_isFree_22
  · skip
    have hin : 0 ≤ z ∧ z < 144 := by
      have := bz_true c_5
      unfold jisc at this
      exact decide_eq_true_iff.mp this
    refine j_aload_n F dX1_isFree_8 rfl (lv_at hl 0 rfl) ?_
    refine m0_walls F G dX1_isFree_9 ?_
    refine j_iload_n F dX1_isFree_12 rfl (lv_at hl 1 rfl) ?_
    refine m0_ldW F G (z.toNat) (by omega) (by omega) dX1_isFree_13 ?_
    have hb := bz_in (w z.toNat)
    refine j_if_ne F 21 dX1_isFree_14 (by decide) (by omega) (fun c_14 => ?_) (fun c_14 => ?_)
    · skip
      refine j_iconst F dX1_isFree_21 ?_
      exact g_iret F hr hlk rfl G ⟨by rw [jisf_in hin, bz_true c_14]; rfl, rfl⟩ dX1_isFree_22
    · skip
      refine j_iconst F dX1_isFree_17 ?_
      refine j_goto F 22 dX1_isFree_18 (by decide) ?_
      exact g_iret F hr hlk rfl G ⟨by rw [jisf_in hin, bz_false c_14]; rfl, rfl⟩ dX1_isFree_22

section K1isFree
variable {p : Program} {l : Launch} {e : Env} {R : Room} {s : State} {m : MethodId} {args : Array Value} {below : List Frame} {meth : Method} {c : Code} {H : Heap} {locs : List Loc} {Q : State → Prop}
variable {cc : ByteArray} {pc : Nat} {ls : Array Slot} {rest : List Value} {nL : Nat}
variable {D : va_G} {a : Nat → Nat} {k : Nat → ClassId} {A : Nat → Prop} {w : Nat → Bool} {fa : Nat → Int}
set_option maxHeartbeats 4000000 in
set_option maxRecDepth 100000 in
theorem k1_isFree (F : CallFix p m c cc nL s args lw_all RX1) (hA : ∀ q, s.heap.size ≤ q → A q) (G : mG D a k A s (w, fa) H locs) (z : Int) (h : -2147483648 ≤ z ∧ z < 2147483648) (hR : 1 + 1 ≤ R.frames ∧ 8 + (2 + 11) + 21 ≤ R.locals) (hsz : ls.size = nL) (hroom : (rest.map fun v => v.category).sum ≤ 8) (hdg : decode cc pc = .ok (.invokevirtual 24, 3)) (kk : ∀ (H1 : Heap) (locs1 : List Loc), mG D a k A s (w, fa) H1 locs1 → W p l e R s m args below meth c H1 locs1 0 0 Q (F0 m (pc + 3) ls (.int (iI (bz (jisf w z))) :: rest))) : W p l e R s m args below meth c H locs 0 0 Q (F0 m pc ls (.int (iI z) :: .ref (a 0) :: rest)) :=
  g_calli (As := [.int (iI z)]) F hA (MW_same a k) G (c1_isFree l D a k w fa z h) (cwV 1 F.2.2.2.2 (lw_V q173 q175 qs13 q18 q176) rfl rfl rfl (by decide +kernel) hR) (mrec G) hsz rfl hroom hdg (fun r x' H1 locs1 hp G1 => by obtain ⟨rfl, rfl⟩ := hp; exact kk H1 locs1 G1)
end K1isFree

set_option maxHeartbeats 4000000 in
set_option maxRecDepth 100000 in
theorem c1_isWall (l : Launch) (D : va_G) (a : Nat → Nat) (k : Nat → ClassId) (w : Nat → Bool) (fa : Nat → Int) (z : Int) (h : -2147483648 ≤ z ∧ z < 2147483648) : gMi l yX1_isWall cX1_isWall 2 .boolean ({ frames := 1, cells := 0, slots := 0, locals := 21 }) D (MT k) (MW a k) [.ref (a 0), .int (iI z)] (w, fa) (fun r X => r = iI (bz (jisw w z)) ∧ X = (w, fa)) := by
  refine gMi_of (by decide) (Nat.le_of_ble_eq_true rfl) ?_
  intro p e s m below meth c A ls F hr hlk hA G hl
  have F : CallFix p m c cX1_isWall 2 s ([.ref (a 0), .int (iI z)] : List Value).toArray lw_all RX1 := F
  have hl : lv_has ls 2 [(0, .ref (a 0)), (1, .int (iI z))] := hl
  refine j_aload_n F dX1_isWall_0 rfl (lv_at hl 0 rfl) ?_
  refine j_iload_n F dX1_isWall_1 rfl (lv_at hl 1 rfl) ?_
  refine k1_isCell F hA G z (by omega) (by decide) hl.1 (Nat.le_of_ble_eq_true rfl) dX1_isWall_2 (fun H locs G => ?_)
  have hbz := bz_in (jisc z)
  refine j_if_eq F 21 dX1_isWall_5 (by decide) (by omega) (fun c_5 => ?_) (fun c_5 => ?_)
  · skip
    have hout : ¬ (0 ≤ z ∧ z < 144) := fun q => by
      have := bz_false c_5
      unfold jisc at this
      rw [decide_eq_true q] at this
      cases this
    refine j_iconst F dX1_isWall_21 ?_
    exact g_iret F hr hlk rfl G ⟨by rw [jisw_out hout]; rfl, rfl⟩ dX1_isWall_22
  · skip
    have hin : 0 ≤ z ∧ z < 144 := by
      have := bz_true c_5
      unfold jisc at this
      exact decide_eq_true_iff.mp this
    refine j_aload_n F dX1_isWall_8 rfl (lv_at hl 0 rfl) ?_
    refine m0_walls F G dX1_isWall_9 ?_
    refine j_iload_n F dX1_isWall_12 rfl (lv_at hl 1 rfl) ?_
    refine m0_ldW F G (z.toNat) (by omega) (by omega) dX1_isWall_13 ?_
    have hb := bz_in (w z.toNat)
    refine j_if_eq F 21 dX1_isWall_14 (by decide) (by omega) (fun c_14 => ?_) (fun c_14 => ?_)
    · skip
      refine j_iconst F dX1_isWall_21 ?_
      exact g_iret F hr hlk rfl G ⟨by rw [jisw_in hin, bz_false c_14]; rfl, rfl⟩ dX1_isWall_22
    · skip
      refine j_iconst F dX1_isWall_17 ?_
      refine j_goto F 22 dX1_isWall_18 (by decide) ?_
      exact g_iret F hr hlk rfl G ⟨by rw [jisw_in hin, bz_true c_14]; rfl, rfl⟩ dX1_isWall_22

set_option maxHeartbeats 4000000 in
set_option maxRecDepth 100000 in
theorem c1_wall (l : Launch) (D : va_G) (a : Nat → Nat) (k : Nat → ClassId) (w : Nat → Bool) (fa : Nat → Int) (z : Int) (on : Bool) (h : -2147483648 ≤ z ∧ z < 2147483648) : gMi l yX1_wall cX1_wall 3 .boolean ({ frames := 1, cells := 0, slots := 0, locals := 21 }) D (MT k) (MW a k) [.ref (a 0), .int (iI z), .int (iI (bz on))] (w, fa) (fun r X => r = iI (bz (jisc z)) ∧ X = (jwal w z on, fa)) := by
  refine gMi_of (by decide) (Nat.le_of_ble_eq_true rfl) ?_
  intro p e s m below meth c A ls F hr hlk hA G hl
  have F : CallFix p m c cX1_wall 3 s ([.ref (a 0), .int (iI z), .int (iI (bz on))] : List Value).toArray lw_all RX1 := F
  have hl : lv_has ls 3 [(0, .ref (a 0)), (1, .int (iI z)), (2, .int (iI (bz on)))] := hl
  refine j_aload_n F dX1_wall_0 rfl (lv_at hl 0 rfl) ?_
  refine j_iload_n F dX1_wall_1 rfl (lv_at hl 1 rfl) ?_
  refine k1_isCell F hA G z (by omega) (by decide) hl.1 (Nat.le_of_ble_eq_true rfl) dX1_wall_2 (fun H locs G => ?_)
  have hbz := bz_in (jisc z)
  refine j_if_ne F 10 dX1_wall_5 (by decide) (by omega) (fun c_5 => ?_) (fun c_5 => ?_)
  · skip
    have hin : 0 ≤ z ∧ z < 144 := by
      have := bz_true c_5
      unfold jisc at this
      exact decide_eq_true_iff.mp this
    refine j_aload_n F dX1_wall_10 rfl (lv_at hl 0 rfl) ?_
    refine m0_walls F G dX1_wall_11 ?_
    refine j_iload_n F dX1_wall_14 rfl (lv_at hl 1 rfl) ?_
    refine j_iload_n F dX1_wall_15 rfl (lv_at hl 2 rfl) ?_
    refine m0_stW F G (z.toNat) (on) (by omega) (by omega) rfl dX1_wall_16 (fun H locs G => ?_)
    refine j_iconst F dX1_wall_17 ?_
    exact g_iret F hr hlk rfl G ⟨by unfold jisc; rw [decide_eq_true hin]; rfl, by unfold jwal; rw [if_pos hin]⟩ dX1_wall_18
  · skip
    have hout : ¬ (0 ≤ z ∧ z < 144) := fun q => by
      have := bz_false c_5
      unfold jisc at this
      rw [decide_eq_true q] at this
      cases this
    refine j_iconst F dX1_wall_8 ?_
    exact g_iret F hr hlk rfl G ⟨by unfold jisc; rw [decide_eq_false hout]; rfl, by unfold jwal; rw [if_neg hout]⟩ dX1_wall_9
end
section
theorem mS_in {w : Nat → Bool} {fr : Nat} {B : Int} {fa : Nat → Int} (h : mS w fr B fa) (j : Nat) (hj : j < 144) : -1 ≤ fa j ∧ fa j ≤ B := by
  obtain ⟨h1, h2⟩ := h.2.2.2 j hj
  refine ⟨?_, h2⟩
  rcases h1 with q | ⟨n, q, _⟩ <;> omega
set_option maxHeartbeats 4000000 in
set_option maxRecDepth 100000 in
theorem c1_lower (l : Launch) (D : va_G) (a : Nat → Nat) (k : Nat → ClassId) (w : Nat → Bool) (fa : Nat → Int) (fr fc : Nat) (B : Int) (h : fc < 144 ∧ B ≤ 1000000 ∧ mS w fr B fa) : gMi l yX1_lower cX1_lower 8 .boolean ({ frames := 0, cells := 0, slots := 0, locals := 0 }) D (MT k) (MW a k) [.ref (a 0), .int (iI (fc : Int))] (w, fa) (fun r X => ∃ (fa1 : Nat → Int) (lo : Bool), r = iI (bz lo) ∧ X = (w, fa1) ∧ mLw w fr B fa fc fa1 lo) := by
  refine gMi_of (by decide) (Nat.le_of_ble_eq_true rfl) ?_
  intro p e s m below meth c A ls F hr hlk hA G hl
  have F : CallFix p m c cX1_lower 8 s ([.ref (a 0), .int (iI (fc : Int))] : List Value).toArray lw_all RX1 := F
  have hl : lv_has ls 8 [(0, .ref (a 0)), (1, .int (iI (fc : Int)))] := hl
  obtain ⟨hc, hB, hS⟩ := h
  obtain ⟨hfx, hfc, _⟩ := jcxy hc
  refine j_iconst F dX1_lower_0 ?_
  refine j_eq (bz false) rfl ?_
  refine j_istore_n F [(2, .int (iI (bz false))), (0, .ref (a 0)), (1, .int (iI ((fc : Int))))] dX1_lower_1 rfl hl (by decide) rfl (fun ls hl => ?_)
  refine j_aload_n F dX1_lower_2 rfl (lv_at hl 1 rfl) ?_
  refine m0_walls F G dX1_lower_3 ?_
  refine j_iload_n F dX1_lower_6 rfl (lv_at hl 2 rfl) ?_
  refine m0_ldW F G (fc) (by omega) (by omega) dX1_lower_7 ?_
  have hb := bz_in (w fc)
  refine j_if_eq F 13 dX1_lower_8 (by decide) (by omega) (fun c_8 => ?_) (fun c_8 => ?_)
  · skip
    have hwc := bz_false c_8
    have LP : ∀ (n : Nat) (kk : Nat) (fa1 : Nat → Int) (lo : Bool) (H : Heap) (locs : List Loc) (ls : Array Slot), 9 < kk + n → kk ≤ 9 → mLo w fr B fa fc kk fa1 lo → mG D a k A s (w, fa1) H locs → lv_has ls 8 [(3, .int (iI (((kk : Nat) : Int)))), (2, .int (iI (bz lo))), (0, .ref (a 0)), (1, .int (iI ((fc : Int))))] → W p l e ({ frames := 0, cells := 0, slots := 0, locals := 0 }) s m ([.ref (a 0), .int (iI (fc : Int))] : List Value).toArray below meth c H locs 0 0 (gQi below (fun r X => ∃ (fa1 : Nat → Int) (lo : Bool), r = iI (bz lo) ∧ X = (w, fa1) ∧ mLw w fr B fa fc fa1 lo) D (MT k) (MW a k) A ([.ref (a 0), .int (iI (fc : Int))] : List Value).toArray s) (F0 m 15 ls []) := by
      intro n
      induction n with
      | zero =>
        intro kk fa1 lo H locs ls hn hk
        omega
      | succ n ih =>
        intro kk fa1 lo H locs ls hn hk hM G hl
        refine j_iload_n F dX1_lower_15 rfl (lv_at hl 0 rfl) ?_
        refine j_bipush F dX1_lower_16 (by decide +kernel) ?_
        refine j_icmp_ge F 148 dX1_lower_18 (by decide) (by omega) (fun c_18 => ?_) (fun c_18 => ?_)
        · skip
          refine j_iload_n F dX1_lower_148 rfl (lv_at hl 1 rfl) ?_
          have hk9 : kk = 9 := by omega
          subst hk9
          exact g_iret F hr hlk (iI_zn _) G ⟨fa1, lo, rfl, rfl, Or.inr ⟨hwc, hM⟩⟩ dX1_lower_149
        · skip
          refine j_iload_n F dX1_lower_21 rfl (lv_at hl 3 rfl) ?_
          refine j_bipush F dX1_lower_22 (by decide +kernel) ?_
          refine j_irem F (jcx fc) (by omega) rfl dX1_lower_24 ?_
          refine j_iload_n F dX1_lower_25 rfl (lv_at hl 0 rfl) ?_
          refine j_iconst F dX1_lower_26 ?_
          refine j_irem F ((kk : Int) % 3) (by omega) rfl dX1_lower_27 ?_
          refine j_iadd F dX1_lower_28 ?_
          refine j_iconst F dX1_lower_29 ?_
          refine j_isub F dX1_lower_30 ?_
          refine j_eq (jcx fc + jdx kk) (by unfold jdx; omega) ?_
          refine j_istore F [(4, .int (iI (jcx fc + jdx kk))), (3, .int (iI (((kk : Nat) : Int)))), (2, .int (iI (bz lo))), (0, .ref (a 0)), (1, .int (iI ((fc : Int))))] dX1_lower_31 hl (by decide) rfl (fun ls hl => ?_)
          refine j_iload_n F dX1_lower_33 rfl (lv_at hl 4 rfl) ?_
          refine j_bipush F dX1_lower_34 (by decide +kernel) ?_
          refine j_idiv F (jcy fc) (by omega) rfl dX1_lower_36 ?_
          refine j_iload_n F dX1_lower_37 rfl (lv_at hl 1 rfl) ?_
          refine j_iconst F dX1_lower_38 ?_
          refine j_idiv F ((kk : Int) / 3) (by omega) rfl dX1_lower_39 ?_
          refine j_iadd F dX1_lower_40 ?_
          refine j_iconst F dX1_lower_41 ?_
          refine j_isub F dX1_lower_42 ?_
          refine j_eq (jcy fc + jdy kk) (by unfold jdy; omega) ?_
          refine j_istore F [(5, .int (iI (jcy fc + jdy kk))), (4, .int (iI (jcx fc + jdx kk))), (3, .int (iI (((kk : Nat) : Int)))), (2, .int (iI (bz lo))), (0, .ref (a 0)), (1, .int (iI ((fc : Int))))] dX1_lower_43 hl (by decide) rfl (fun ls hl => ?_)
          refine j_iload_n F dX1_lower_45 rfl (lv_at hl 2 rfl) ?_
          refine j_iconst F dX1_lower_46 ?_
          have hdx := (show -1 ≤ jdx kk ∧ jdx kk ≤ 1 ∧ -1 ≤ jdy kk ∧ jdy kk ≤ 1 by unfold jdx jdy; omega)
          refine j_icmp_eq F 142 dX1_lower_47 (by decide) (by omega) (fun c_47 => ?_) (fun c_47 => ?_)
          · skip
            refine j_iinc F (((kk + 1 : Nat) : Int)) [(3, .int (iI (((kk + 1 : Nat) : Int)))), (5, .int (iI (jcy fc + jdy kk))), (4, .int (iI (jcx fc + jdx kk))), (2, .int (iI (bz lo))), (0, .ref (a 0)), (1, .int (iI ((fc : Int))))] (k := 2) dX1_lower_142 hl rfl (by omega) (by decide) rfl (fun ls hl => ?_)
            refine j_goto F 15 dX1_lower_145 (by decide) ?_
            exact ih (kk + 1) fa1 lo H locs ls (by omega) (by omega) (mLo_skip hM (Or.inl (by omega))) G (lv_sub hl [0, 3, 4, 5] rfl)
          · skip
            refine j_iload F dX1_lower_50 (lv_at hl 1 rfl) ?_
            refine j_if_lt F 142 dX1_lower_52 (by decide) (by omega) (fun c_52 => ?_) (fun c_52 => ?_)
            · skip
              refine j_iinc F (((kk + 1 : Nat) : Int)) [(3, .int (iI (((kk + 1 : Nat) : Int)))), (5, .int (iI (jcy fc + jdy kk))), (4, .int (iI (jcx fc + jdx kk))), (2, .int (iI (bz lo))), (0, .ref (a 0)), (1, .int (iI ((fc : Int))))] (k := 2) dX1_lower_142 hl rfl (by omega) (by decide) rfl (fun ls hl => ?_)
              refine j_goto F 15 dX1_lower_145 (by decide) ?_
              exact ih (kk + 1) fa1 lo H locs ls (by omega) (by omega) (mLo_skip hM (Or.inr (Or.inl (fun q => by unfold inb at q; omega)))) G (lv_sub hl [0, 3, 4, 5] rfl)
            · skip
              refine j_iload F dX1_lower_55 (lv_at hl 1 rfl) ?_
              refine j_bipush F dX1_lower_57 (by decide +kernel) ?_
              refine j_icmp_gt F 142 dX1_lower_59 (by decide) (by omega) (fun c_59 => ?_) (fun c_59 => ?_)
              · skip
                refine j_iinc F (((kk + 1 : Nat) : Int)) [(3, .int (iI (((kk + 1 : Nat) : Int)))), (5, .int (iI (jcy fc + jdy kk))), (4, .int (iI (jcx fc + jdx kk))), (2, .int (iI (bz lo))), (0, .ref (a 0)), (1, .int (iI ((fc : Int))))] (k := 2) dX1_lower_142 hl rfl (by omega) (by decide) rfl (fun ls hl => ?_)
                refine j_goto F 15 dX1_lower_145 (by decide) ?_
                exact ih (kk + 1) fa1 lo H locs ls (by omega) (by omega) (mLo_skip hM (Or.inr (Or.inl (fun q => by unfold inb at q; omega)))) G (lv_sub hl [0, 3, 4, 5] rfl)
              · skip
                refine j_iload F dX1_lower_62 (lv_at hl 0 rfl) ?_
                refine j_if_lt F 142 dX1_lower_64 (by decide) (by omega) (fun c_64 => ?_) (fun c_64 => ?_)
                · skip
                  refine j_iinc F (((kk + 1 : Nat) : Int)) [(3, .int (iI (((kk + 1 : Nat) : Int)))), (5, .int (iI (jcy fc + jdy kk))), (4, .int (iI (jcx fc + jdx kk))), (2, .int (iI (bz lo))), (0, .ref (a 0)), (1, .int (iI ((fc : Int))))] (k := 2) dX1_lower_142 hl rfl (by omega) (by decide) rfl (fun ls hl => ?_)
                  refine j_goto F 15 dX1_lower_145 (by decide) ?_
                  exact ih (kk + 1) fa1 lo H locs ls (by omega) (by omega) (mLo_skip hM (Or.inr (Or.inl (fun q => by unfold inb at q; omega)))) G (lv_sub hl [0, 3, 4, 5] rfl)
                · skip
                  refine j_iload F dX1_lower_67 (lv_at hl 0 rfl) ?_
                  refine j_bipush F dX1_lower_69 (by decide +kernel) ?_
                  refine j_icmp_gt F 142 dX1_lower_71 (by decide) (by omega) (fun c_71 => ?_) (fun c_71 => ?_)
                  · skip
                    refine j_iinc F (((kk + 1 : Nat) : Int)) [(3, .int (iI (((kk + 1 : Nat) : Int)))), (5, .int (iI (jcy fc + jdy kk))), (4, .int (iI (jcx fc + jdx kk))), (2, .int (iI (bz lo))), (0, .ref (a 0)), (1, .int (iI ((fc : Int))))] (k := 2) dX1_lower_142 hl rfl (by omega) (by decide) rfl (fun ls hl => ?_)
                    refine j_goto F 15 dX1_lower_145 (by decide) ?_
                    exact ih (kk + 1) fa1 lo H locs ls (by omega) (by omega) (mLo_skip hM (Or.inr (Or.inl (fun q => by unfold inb at q; omega)))) G (lv_sub hl [0, 3, 4, 5] rfl)
                  · skip
                    have hin : inb fc kk := by unfold inb; omega
                    have hnb := nbr_ne hc (by omega) (by omega) hin
                    have hq := jcl_in hin
                    have hnv := (hS.2.2.2 (nbr fc kk) hnb.1)
                    have hne := hM.1 (nbr fc kk) hnb.2.1
                    have hnl : -1 ≤ fa (nbr fc kk) := by
                      rcases hnv.1 with q | ⟨n, q, _⟩ <;> omega
                    have hcl : -1 ≤ fa1 fc := by
                      rcases hM.2.2.1 with q | ⟨n, q, _⟩ <;> omega
                    have hcb := hM.2.2.2.1
                    refine j_aload_n F dX1_lower_74 rfl (lv_at hl 4 rfl) ?_
                    refine m0_far F G dX1_lower_75 ?_
                    refine j_bipush F dX1_lower_78 (by decide +kernel) ?_
                    refine j_iload F dX1_lower_80 (lv_at hl 0 rfl) ?_
                    refine j_imul F dX1_lower_82 ?_
                    refine j_iload F dX1_lower_83 (lv_at hl 1 rfl) ?_
                    refine j_iadd F dX1_lower_85 ?_
                    refine m0_ldF F G (nbr fc kk) hq.2.2.2.symm hnb.1 dX1_lower_86 ?_
                    refine j_eq (fa (nbr fc kk)) hne ?_
                    refine j_istore F [(6, .int (iI (fa (nbr fc kk)))), (5, .int (iI (jcy fc + jdy kk))), (4, .int (iI (jcx fc + jdx kk))), (3, .int (iI (((kk : Nat) : Int)))), (2, .int (iI (bz lo))), (0, .ref (a 0)), (1, .int (iI ((fc : Int))))] dX1_lower_87 hl (by decide) rfl (fun ls hl => ?_)
                    refine j_iload F dX1_lower_89 (lv_at hl 0 rfl) ?_
                    refine j_iload_n F dX1_lower_91 rfl (lv_at hl 3 rfl) ?_
                    refine j_iconst F dX1_lower_92 ?_
                    refine j_irem F ((kk : Int) % 2) (by omega) rfl dX1_lower_93 ?_
                    refine j_if_ne F 102 dX1_lower_94 (by decide) (by omega) (fun c_94 => ?_) (fun c_94 => ?_)
                    · skip
                      refine j_bipush F dX1_lower_102 (by decide +kernel) ?_
                      have hmk : mkc kk = 10 := by unfold mkc; rw [if_neg (by omega)]
                      refine j_iadd F dX1_lower_104 ?_
                      refine j_eq (fa (nbr fc kk) + mkc kk) (by rw [hmk]) ?_
                      have hmi := mkc_in kk
                      refine j_istore F [(7, .int (iI (fa (nbr fc kk) + mkc kk))), (6, .int (iI (fa (nbr fc kk)))), (5, .int (iI (jcy fc + jdy kk))), (4, .int (iI (jcx fc + jdx kk))), (3, .int (iI (((kk : Nat) : Int)))), (2, .int (iI (bz lo))), (0, .ref (a 0)), (1, .int (iI ((fc : Int))))] dX1_lower_105 hl (by decide) rfl (fun ls hl => ?_)
                      refine j_iload F dX1_lower_107 (lv_at hl 1 rfl) ?_
                      refine j_if_lt F 142 dX1_lower_109 (by decide) (by omega) (fun c_109 => ?_) (fun c_109 => ?_)
                      · skip
                        refine j_iinc F (((kk + 1 : Nat) : Int)) [(3, .int (iI (((kk + 1 : Nat) : Int)))), (7, .int (iI (fa (nbr fc kk) + mkc kk))), (6, .int (iI (fa (nbr fc kk)))), (5, .int (iI (jcy fc + jdy kk))), (4, .int (iI (jcx fc + jdx kk))), (2, .int (iI (bz lo))), (0, .ref (a 0)), (1, .int (iI ((fc : Int))))] (k := 4) dX1_lower_142 hl rfl (by omega) (by decide) rfl (fun ls hl => ?_)
                        refine j_goto F 15 dX1_lower_145 (by decide) ?_
                        exact ih (kk + 1) fa1 lo H locs ls (by omega) (by omega) (mLo_skip hM (Or.inr (Or.inr (Or.inl (by omega))))) G (lv_sub hl [0, 5, 6, 7] rfl)
                      · skip
                        refine j_aload_n F dX1_lower_112 rfl (lv_at hl 6 rfl) ?_
                        refine m0_far F G dX1_lower_113 ?_
                        refine j_iload_n F dX1_lower_116 rfl (lv_at hl 7 rfl) ?_
                        refine m0_ldF F G (fc) (by omega) (by omega) dX1_lower_117 ?_
                        refine j_if_lt F 132 dX1_lower_118 (by decide) (by omega) (fun c_118 => ?_) (fun c_118 => ?_)
                        · skip
                          refine j_aload_n F dX1_lower_132 rfl (lv_at hl 6 rfl) ?_
                          refine m0_far F G dX1_lower_133 ?_
                          refine j_iload_n F dX1_lower_136 rfl (lv_at hl 7 rfl) ?_
                          refine j_iload F dX1_lower_137 (lv_at hl 0 rfl) ?_
                          refine m0_stF F G (fc) (by omega) (by omega) dX1_lower_139 (fun H locs G => ?_)
                          refine j_iconst F dX1_lower_140 ?_
                          refine j_eq (bz true) rfl ?_
                          refine j_istore_n F [(2, .int (iI (bz true))), (7, .int (iI (fa (nbr fc kk) + mkc kk))), (6, .int (iI (fa (nbr fc kk)))), (5, .int (iI (jcy fc + jdy kk))), (4, .int (iI (jcx fc + jdx kk))), (3, .int (iI (((kk : Nat) : Int)))), (0, .ref (a 0)), (1, .int (iI ((fc : Int))))] dX1_lower_141 rfl hl (by decide) rfl (fun ls hl => ?_)
                          refine j_iinc F (((kk + 1 : Nat) : Int)) [(3, .int (iI (((kk + 1 : Nat) : Int)))), (2, .int (iI (bz true))), (7, .int (iI (fa (nbr fc kk) + mkc kk))), (6, .int (iI (fa (nbr fc kk)))), (5, .int (iI (jcy fc + jdy kk))), (4, .int (iI (jcx fc + jdx kk))), (0, .ref (a 0)), (1, .int (iI ((fc : Int))))] (k := 5) dX1_lower_142 hl rfl (by omega) (by decide) rfl (fun ls hl => ?_)
                          refine j_goto F 15 dX1_lower_145 (by decide) ?_
                          refine ih (kk + 1) _ true H locs ls (by omega) (by omega) (mLo_low hS hM hc hwc (by omega) (by omega) hin (by omega) (by omega)) G (lv_sub hl [0, 1, 6, 7] rfl)
                        · skip
                          refine j_iload F dX1_lower_121 (lv_at hl 0 rfl) ?_
                          refine j_aload_n F dX1_lower_123 rfl (lv_at hl 6 rfl) ?_
                          refine m0_far F G dX1_lower_124 ?_
                          refine j_iload_n F dX1_lower_127 rfl (lv_at hl 7 rfl) ?_
                          refine m0_ldF F G (fc) (by omega) (by omega) dX1_lower_128 ?_
                          refine j_icmp_ge F 142 dX1_lower_129 (by decide) (by omega) (fun c_129 => ?_) (fun c_129 => ?_)
                          · skip
                            refine j_iinc F (((kk + 1 : Nat) : Int)) [(3, .int (iI (((kk + 1 : Nat) : Int)))), (7, .int (iI (fa (nbr fc kk) + mkc kk))), (6, .int (iI (fa (nbr fc kk)))), (5, .int (iI (jcy fc + jdy kk))), (4, .int (iI (jcx fc + jdx kk))), (2, .int (iI (bz lo))), (0, .ref (a 0)), (1, .int (iI ((fc : Int))))] (k := 4) dX1_lower_142 hl rfl (by omega) (by decide) rfl (fun ls hl => ?_)
                            refine j_goto F 15 dX1_lower_145 (by decide) ?_
                            exact ih (kk + 1) fa1 lo H locs ls (by omega) (by omega) (mLo_skip hM (Or.inr (Or.inr (Or.inr (by omega))))) G (lv_sub hl [0, 5, 6, 7] rfl)
                          · skip
                            refine j_aload_n F dX1_lower_132 rfl (lv_at hl 6 rfl) ?_
                            refine m0_far F G dX1_lower_133 ?_
                            refine j_iload_n F dX1_lower_136 rfl (lv_at hl 7 rfl) ?_
                            refine j_iload F dX1_lower_137 (lv_at hl 0 rfl) ?_
                            refine m0_stF F G (fc) (by omega) (by omega) dX1_lower_139 (fun H locs G => ?_)
                            refine j_iconst F dX1_lower_140 ?_
                            refine j_eq (bz true) rfl ?_
                            refine j_istore_n F [(2, .int (iI (bz true))), (7, .int (iI (fa (nbr fc kk) + mkc kk))), (6, .int (iI (fa (nbr fc kk)))), (5, .int (iI (jcy fc + jdy kk))), (4, .int (iI (jcx fc + jdx kk))), (3, .int (iI (((kk : Nat) : Int)))), (0, .ref (a 0)), (1, .int (iI ((fc : Int))))] dX1_lower_141 rfl hl (by decide) rfl (fun ls hl => ?_)
                            refine j_iinc F (((kk + 1 : Nat) : Int)) [(3, .int (iI (((kk + 1 : Nat) : Int)))), (2, .int (iI (bz true))), (7, .int (iI (fa (nbr fc kk) + mkc kk))), (6, .int (iI (fa (nbr fc kk)))), (5, .int (iI (jcy fc + jdy kk))), (4, .int (iI (jcx fc + jdx kk))), (0, .ref (a 0)), (1, .int (iI ((fc : Int))))] (k := 5) dX1_lower_142 hl rfl (by omega) (by decide) rfl (fun ls hl => ?_)
                            refine j_goto F 15 dX1_lower_145 (by decide) ?_
                            refine ih (kk + 1) _ true H locs ls (by omega) (by omega) (mLo_low hS hM hc hwc (by omega) (by omega) hin (by omega) (by omega)) G (lv_sub hl [0, 1, 6, 7] rfl)
                    · skip
                      refine j_bipush F dX1_lower_97 (by decide +kernel) ?_
                      refine j_goto F 104 dX1_lower_99 (by decide) ?_
                      have hmk : mkc kk = 14 := by unfold mkc; rw [if_pos (by omega)]
                      refine j_iadd F dX1_lower_104 ?_
                      refine j_eq (fa (nbr fc kk) + mkc kk) (by rw [hmk]) ?_
                      have hmi := mkc_in kk
                      refine j_istore F [(7, .int (iI (fa (nbr fc kk) + mkc kk))), (6, .int (iI (fa (nbr fc kk)))), (5, .int (iI (jcy fc + jdy kk))), (4, .int (iI (jcx fc + jdx kk))), (3, .int (iI (((kk : Nat) : Int)))), (2, .int (iI (bz lo))), (0, .ref (a 0)), (1, .int (iI ((fc : Int))))] dX1_lower_105 hl (by decide) rfl (fun ls hl => ?_)
                      refine j_iload F dX1_lower_107 (lv_at hl 1 rfl) ?_
                      refine j_if_lt F 142 dX1_lower_109 (by decide) (by omega) (fun c_109 => ?_) (fun c_109 => ?_)
                      · skip
                        refine j_iinc F (((kk + 1 : Nat) : Int)) [(3, .int (iI (((kk + 1 : Nat) : Int)))), (7, .int (iI (fa (nbr fc kk) + mkc kk))), (6, .int (iI (fa (nbr fc kk)))), (5, .int (iI (jcy fc + jdy kk))), (4, .int (iI (jcx fc + jdx kk))), (2, .int (iI (bz lo))), (0, .ref (a 0)), (1, .int (iI ((fc : Int))))] (k := 4) dX1_lower_142 hl rfl (by omega) (by decide) rfl (fun ls hl => ?_)
                        refine j_goto F 15 dX1_lower_145 (by decide) ?_
                        exact ih (kk + 1) fa1 lo H locs ls (by omega) (by omega) (mLo_skip hM (Or.inr (Or.inr (Or.inl (by omega))))) G (lv_sub hl [0, 5, 6, 7] rfl)
                      · skip
                        refine j_aload_n F dX1_lower_112 rfl (lv_at hl 6 rfl) ?_
                        refine m0_far F G dX1_lower_113 ?_
                        refine j_iload_n F dX1_lower_116 rfl (lv_at hl 7 rfl) ?_
                        refine m0_ldF F G (fc) (by omega) (by omega) dX1_lower_117 ?_
                        refine j_if_lt F 132 dX1_lower_118 (by decide) (by omega) (fun c_118 => ?_) (fun c_118 => ?_)
                        · skip
                          refine j_aload_n F dX1_lower_132 rfl (lv_at hl 6 rfl) ?_
                          refine m0_far F G dX1_lower_133 ?_
                          refine j_iload_n F dX1_lower_136 rfl (lv_at hl 7 rfl) ?_
                          refine j_iload F dX1_lower_137 (lv_at hl 0 rfl) ?_
                          refine m0_stF F G (fc) (by omega) (by omega) dX1_lower_139 (fun H locs G => ?_)
                          refine j_iconst F dX1_lower_140 ?_
                          refine j_eq (bz true) rfl ?_
                          refine j_istore_n F [(2, .int (iI (bz true))), (7, .int (iI (fa (nbr fc kk) + mkc kk))), (6, .int (iI (fa (nbr fc kk)))), (5, .int (iI (jcy fc + jdy kk))), (4, .int (iI (jcx fc + jdx kk))), (3, .int (iI (((kk : Nat) : Int)))), (0, .ref (a 0)), (1, .int (iI ((fc : Int))))] dX1_lower_141 rfl hl (by decide) rfl (fun ls hl => ?_)
                          refine j_iinc F (((kk + 1 : Nat) : Int)) [(3, .int (iI (((kk + 1 : Nat) : Int)))), (2, .int (iI (bz true))), (7, .int (iI (fa (nbr fc kk) + mkc kk))), (6, .int (iI (fa (nbr fc kk)))), (5, .int (iI (jcy fc + jdy kk))), (4, .int (iI (jcx fc + jdx kk))), (0, .ref (a 0)), (1, .int (iI ((fc : Int))))] (k := 5) dX1_lower_142 hl rfl (by omega) (by decide) rfl (fun ls hl => ?_)
                          refine j_goto F 15 dX1_lower_145 (by decide) ?_
                          refine ih (kk + 1) _ true H locs ls (by omega) (by omega) (mLo_low hS hM hc hwc (by omega) (by omega) hin (by omega) (by omega)) G (lv_sub hl [0, 1, 6, 7] rfl)
                        · skip
                          refine j_iload F dX1_lower_121 (lv_at hl 0 rfl) ?_
                          refine j_aload_n F dX1_lower_123 rfl (lv_at hl 6 rfl) ?_
                          refine m0_far F G dX1_lower_124 ?_
                          refine j_iload_n F dX1_lower_127 rfl (lv_at hl 7 rfl) ?_
                          refine m0_ldF F G (fc) (by omega) (by omega) dX1_lower_128 ?_
                          refine j_icmp_ge F 142 dX1_lower_129 (by decide) (by omega) (fun c_129 => ?_) (fun c_129 => ?_)
                          · skip
                            refine j_iinc F (((kk + 1 : Nat) : Int)) [(3, .int (iI (((kk + 1 : Nat) : Int)))), (7, .int (iI (fa (nbr fc kk) + mkc kk))), (6, .int (iI (fa (nbr fc kk)))), (5, .int (iI (jcy fc + jdy kk))), (4, .int (iI (jcx fc + jdx kk))), (2, .int (iI (bz lo))), (0, .ref (a 0)), (1, .int (iI ((fc : Int))))] (k := 4) dX1_lower_142 hl rfl (by omega) (by decide) rfl (fun ls hl => ?_)
                            refine j_goto F 15 dX1_lower_145 (by decide) ?_
                            exact ih (kk + 1) fa1 lo H locs ls (by omega) (by omega) (mLo_skip hM (Or.inr (Or.inr (Or.inr (by omega))))) G (lv_sub hl [0, 5, 6, 7] rfl)
                          · skip
                            refine j_aload_n F dX1_lower_132 rfl (lv_at hl 6 rfl) ?_
                            refine m0_far F G dX1_lower_133 ?_
                            refine j_iload_n F dX1_lower_136 rfl (lv_at hl 7 rfl) ?_
                            refine j_iload F dX1_lower_137 (lv_at hl 0 rfl) ?_
                            refine m0_stF F G (fc) (by omega) (by omega) dX1_lower_139 (fun H locs G => ?_)
                            refine j_iconst F dX1_lower_140 ?_
                            refine j_eq (bz true) rfl ?_
                            refine j_istore_n F [(2, .int (iI (bz true))), (7, .int (iI (fa (nbr fc kk) + mkc kk))), (6, .int (iI (fa (nbr fc kk)))), (5, .int (iI (jcy fc + jdy kk))), (4, .int (iI (jcx fc + jdx kk))), (3, .int (iI (((kk : Nat) : Int)))), (0, .ref (a 0)), (1, .int (iI ((fc : Int))))] dX1_lower_141 rfl hl (by decide) rfl (fun ls hl => ?_)
                            refine j_iinc F (((kk + 1 : Nat) : Int)) [(3, .int (iI (((kk + 1 : Nat) : Int)))), (2, .int (iI (bz true))), (7, .int (iI (fa (nbr fc kk) + mkc kk))), (6, .int (iI (fa (nbr fc kk)))), (5, .int (iI (jcy fc + jdy kk))), (4, .int (iI (jcx fc + jdx kk))), (0, .ref (a 0)), (1, .int (iI ((fc : Int))))] (k := 5) dX1_lower_142 hl rfl (by omega) (by decide) rfl (fun ls hl => ?_)
                            refine j_goto F 15 dX1_lower_145 (by decide) ?_
                            refine ih (kk + 1) _ true H locs ls (by omega) (by omega) (mLo_low hS hM hc hwc (by omega) (by omega) hin (by omega) (by omega)) G (lv_sub hl [0, 1, 6, 7] rfl)
    refine j_iconst F dX1_lower_13 ?_
    refine j_eq (((0 : Nat) : Int)) rfl ?_
    refine j_istore_n F [(3, .int (iI (((0 : Nat) : Int)))), (2, .int (iI (bz false))), (0, .ref (a 0)), (1, .int (iI ((fc : Int))))] dX1_lower_14 rfl hl (by decide) rfl (fun ls hl => ?_)
    exact LP 10 0 fa false _ _ ls (by omega) (by omega) (mLo_0 hS hc) G (lv_sub hl [0, 1, 2, 3] rfl)
  · skip
    refine j_iconst F dX1_lower_11 ?_
    refine j_eq (bz false) rfl ?_
    exact g_iret F hr hlk (iI_zn _) G ⟨fa, false, rfl, rfl, Or.inl ⟨bz_true c_8, rfl, rfl⟩⟩ dX1_lower_12

section K1lower
variable {p : Program} {l : Launch} {e : Env} {R : Room} {s : State} {m : MethodId} {args : Array Value} {below : List Frame} {meth : Method} {c : Code} {H : Heap} {locs : List Loc} {Q : State → Prop}
variable {cc : ByteArray} {pc : Nat} {ls : Array Slot} {rest : List Value} {nL : Nat}
variable {D : va_G} {a : Nat → Nat} {k : Nat → ClassId} {A : Nat → Prop} {w : Nat → Bool} {fa : Nat → Int}
set_option maxHeartbeats 4000000 in
set_option maxRecDepth 100000 in
theorem k1_lower (F : CallFix p m c cc nL s args lw_all RX1) (hA : ∀ q, s.heap.size ≤ q → A q) (G : mG D a k A s (w, fa) H locs) (fr fc : Nat) (B : Int) (h : fc < 144 ∧ B ≤ 1000000 ∧ mS w fr B fa) (hR : 0 + 1 ≤ R.frames ∧ 8 + (8 + 11) + 0 ≤ R.locals) (hsz : ls.size = nL) (hroom : (rest.map fun v => v.category).sum ≤ 8) (hdg : decode cc pc = .ok (.invokevirtual 21, 3)) (kk : ∀ (fa1 : Nat → Int) (lo : Bool) (H1 : Heap) (locs1 : List Loc), mLw w fr B fa fc fa1 lo → mG D a k A s (w, fa1) H1 locs1 → W p l e R s m args below meth c H1 locs1 0 0 Q (F0 m (pc + 3) ls (.int (iI (bz lo)) :: rest))) : W p l e R s m args below meth c H locs 0 0 Q (F0 m pc ls (.int (iI (fc : Int)) :: .ref (a 0) :: rest)) :=
  g_calli (As := [.int (iI (fc : Int))]) F hA (MW_same a k) G (c1_lower l D a k w fa fr fc B h) (cwV 1 F.2.2.2.2 (lw_V q181 q183 qs15 q18 q184) rfl rfl rfl (by decide +kernel) hR) (mrec G) hsz rfl hroom hdg (fun r x' H1 locs1 hp G1 => by obtain ⟨fa1, lo, rfl, rfl, hp⟩ := hp; exact kk fa1 lo H1 locs1 hp G1)
end K1lower

set_option maxHeartbeats 4000000 in
set_option maxRecDepth 100000 in
theorem c1_search (l : Launch) (D : va_G) (a : Nat → Nat) (k : Nat → ClassId) (w : Nat → Bool) (fa : Nat → Int) (fr : Nat) (h : fr < 144 ∧ w fr = false) : gMv l yX1_search cX1_search 5 ({ frames := 1, cells := 0, slots := 0, locals := 27 }) D (MT k) (MW a k) [.ref (a 0), .int (iI (fr : Int))] (w, fa) (fun X => ∃ fa1 : Nat → Int, X = (w, fa1) ∧ ∀ j, j < 144 → fa1 j = menc w fr j ∧ -1 ≤ fa1 j ∧ fa1 j < 1000000) := by
  refine gMv_of (by decide) (Nat.le_of_ble_eq_true rfl) ?_
  intro p e s m below meth c A ls F hr hlk hA G hl
  have F : CallFix p m c cX1_search 5 s ([.ref (a 0), .int (iI (fr : Int))] : List Value).toArray lw_all RX1 := F
  have hl : lv_has ls 5 [(0, .ref (a 0)), (1, .int (iI (fr : Int)))] := hl
  obtain ⟨hfr, hwf⟩ := h
  have RD : ∀ (n : Nat) (rr : Nat) (fa0 : Nat → Int) (mo : Bool) (H : Heap) (locs : List Loc) (ls : Array Slot), 145 < rr + n → rr ≤ 145 → mRd w fr rr fa0 mo → mG D a k A s (w, fa0) H locs → lv_has ls 5 [(3, .int (iI (((rr : Nat) : Int)))), (2, .int (iI (bz mo))), (0, .ref (a 0)), (1, .int (iI ((fr : Int))))] → W p l e ({ frames := 1, cells := 0, slots := 0, locals := 27 }) s m ([.ref (a 0), .int (iI (fr : Int))] : List Value).toArray below meth c H locs 0 0 (gQv below (fun X => ∃ fa1 : Nat → Int, X = (w, fa1) ∧ ∀ j, j < 144 → fa1 j = menc w fr j ∧ -1 ≤ fa1 j ∧ fa1 j < 1000000) D (MT k) (MW a k) A ([.ref (a 0), .int (iI (fr : Int))] : List Value).toArray s) (F0 m 33 ls []) := by
    intro n
    induction n with
    | zero =>
      intro rr fa0 mo H locs ls hn hrr
      omega
    | succ n ih =>
      intro rr fa0 mo H locs ls hn hrr hR G hl
      refine j_iload_n F dX1_search_33 rfl (lv_at hl 0 rfl) ?_
      refine j_sipush F dX1_search_34 (by decide +kernel) ?_
      refine j_icmp_ge F 107 dX1_search_37 (by decide) (by omega) (fun c_37 => ?_) (fun c_37 => ?_)
      · skip
        exact g_vret F hr hlk G ⟨fa0, rfl, fun j hj => ⟨mRd_end hR (Or.inl (by omega)) j hj, (mS_in hR.1 j hj).1, by have := (mS_in hR.1 j hj).2; omega⟩⟩ dX1_search_107
      · skip
        refine j_iload_n F dX1_search_40 rfl (lv_at hl 1 rfl) ?_
        have hb := bz_in mo
        refine j_if_eq F 107 dX1_search_41 (by decide) (by omega) (fun c_41 => ?_) (fun c_41 => ?_)
        · skip
          exact g_vret F hr hlk G ⟨fa0, rfl, fun j hj => ⟨mRd_end hR (Or.inr (bz_false c_41)) j hj, (mS_in hR.1 j hj).1, by have := (mS_in hR.1 j hj).2; omega⟩⟩ dX1_search_107
        · skip
          refine j_iconst F dX1_search_44 ?_
          refine j_eq (bz false) rfl ?_
          refine j_istore_n F [(2, .int (iI (bz false))), (3, .int (iI (((rr : Nat) : Int)))), (0, .ref (a 0)), (1, .int (iI ((fr : Int))))] dX1_search_45 rfl hl (by decide) rfl (fun ls hl => ?_)
          refine j_iconst F dX1_search_46 ?_
          refine j_eq (((0 : Nat) : Int)) rfl ?_
          refine j_istore F [(4, .int (iI (((0 : Nat) : Int)))), (2, .int (iI (bz false))), (3, .int (iI (((rr : Nat) : Int)))), (0, .ref (a 0)), (1, .int (iI ((fr : Int))))] dX1_search_47 hl (by decide) rfl (fun ls hl => ?_)
          have BW : ∀ (n : Nat) (i : Nat) (fa' : Nat → Int) (mo : Bool) (B : Int) (H : Heap) (locs : List Loc) (ls : Array Slot), i < n → i ≤ 144 → B = 4032 * (rr : Int) + 2016 + 14 * (144 - (i : Int)) → mPs w fr B fa0 144 fa' mo → (∀ (fa' : Nat → Int) (mo : Bool) (H : Heap) (locs : List Loc) (ls : Array Slot), mPs w fr (4032 * (rr : Int) + 4032) fa0 144 fa' mo → mG D a k A s (w, fa') H locs → lv_has ls 5 [(3, .int (iI (((rr : Nat) : Int)))), (2, .int (iI (bz mo))), (0, .ref (a 0)), (1, .int (iI ((fr : Int))))] → W p l e ({ frames := 1, cells := 0, slots := 0, locals := 27 }) s m ([.ref (a 0), .int (iI (fr : Int))] : List Value).toArray below meth c H locs 0 0 (gQv below (fun X => ∃ fa1 : Nat → Int, X = (w, fa1) ∧ ∀ j, j < 144 → fa1 j = menc w fr j ∧ -1 ≤ fa1 j ∧ fa1 j < 1000000) D (MT k) (MW a k) A ([.ref (a 0), .int (iI (fr : Int))] : List Value).toArray s) (F0 m 101 ls [])) → mG D a k A s (w, fa') H locs → lv_has ls 5 [(4, .int (iI (((i : Nat) : Int) - 1))), (3, .int (iI (((rr : Nat) : Int)))), (2, .int (iI (bz mo))), (0, .ref (a 0)), (1, .int (iI ((fr : Int))))] → W p l e ({ frames := 1, cells := 0, slots := 0, locals := 27 }) s m ([.ref (a 0), .int (iI (fr : Int))] : List Value).toArray below meth c H locs 0 0 (gQv below (fun X => ∃ fa1 : Nat → Int, X = (w, fa1) ∧ ∀ j, j < 144 → fa1 j = menc w fr j ∧ -1 ≤ fa1 j ∧ fa1 j < 1000000) D (MT k) (MW a k) A ([.ref (a 0), .int (iI (fr : Int))] : List Value).toArray s) (F0 m 79 ls []) := by
            intro n
            induction n with
            | zero =>
              intro i fa' mo B H locs ls hn
              omega
            | succ n ih =>
              intro i fa' mo B H locs ls hn hi hB hM cont G hl
              refine j_iload F dX1_search_79 (lv_at hl 0 rfl) ?_
              refine j_if_lt F 101 dX1_search_81 (by decide) (by omega) (fun c_81 => ?_) (fun c_81 => ?_)
              · skip
                refine cont fa' mo H locs ls ?_ G (lv_sub hl [1, 2, 3, 4] rfl)
                rw [show 4032 * (rr : Int) + 4032 = B by omega]
                exact hM
              · skip
                obtain ⟨i, rfl⟩ : ∃ i', i = i' + 1 := ⟨i - 1, by omega⟩
                refine j_aload_n F dX1_search_84 rfl (lv_at hl 3 rfl) ?_
                refine j_iload F dX1_search_85 (lv_at hl 0 rfl) ?_
                refine j_eq (((i : Nat) : Int)) (by omega) ?_
                refine k1_lower F hA G fr i B ⟨by omega, by omega, hM.1⟩ (by decide) hl.1 (Nat.le_of_ble_eq_true rfl) dX1_search_87 (fun fa1 lo H locs hlw G => ?_)
                have hb := bz_in lo
                refine j_if_eq F 95 dX1_search_90 (by decide) (by omega) (fun c_90 => ?_) (fun c_90 => ?_)
                · skip
                  refine j_iinc F (((i : Nat) : Int) - 1) [(4, .int (iI (((i : Nat) : Int) - 1))), (3, .int (iI (((rr : Nat) : Int)))), (2, .int (iI (bz mo))), (0, .ref (a 0)), (1, .int (iI ((fr : Int))))] (k := 0) dX1_search_95 hl rfl (by omega) (by decide) rfl (fun ls hl => ?_)
                  refine j_goto F 79 dX1_search_98 (by decide) ?_
                  exact ih i fa1 mo (B + 14) H locs ls (by omega) (by omega) (by omega) (mPs_step hM (by omega) hlw (fun q => ⟨q, bz_false c_90⟩)).1 cont G (lv_sub hl [0, 1, 2, 3, 4] rfl)
                · skip
                  refine j_iconst F dX1_search_93 ?_
                  refine j_eq (bz true) rfl ?_
                  refine j_istore_n F [(2, .int (iI (bz true))), (4, .int (iI (((i + 1 : Nat) : Int) - 1))), (3, .int (iI (((rr : Nat) : Int)))), (0, .ref (a 0)), (1, .int (iI ((fr : Int))))] dX1_search_94 rfl hl (by decide) rfl (fun ls hl => ?_)
                  refine j_iinc F (((i : Nat) : Int) - 1) [(4, .int (iI (((i : Nat) : Int) - 1))), (2, .int (iI (bz true))), (3, .int (iI (((rr : Nat) : Int)))), (0, .ref (a 0)), (1, .int (iI ((fr : Int))))] (k := 1) dX1_search_95 hl rfl (by omega) (by decide) rfl (fun ls hl => ?_)
                  refine j_goto F 79 dX1_search_98 (by decide) ?_
                  exact ih i fa1 true (B + 14) H locs ls (by omega) (by omega) (by omega) (mPs_step hM (by omega) hlw (fun q => by cases q)).1 cont G (lv_sub hl [0, 2, 1, 3, 4] rfl)
          have FW : ∀ (n : Nat) (i : Nat) (fa' : Nat → Int) (mo : Bool) (B : Int) (H : Heap) (locs : List Loc) (ls : Array Slot), 144 < i + n → i ≤ 144 → B = 4032 * (rr : Int) + 14 * (i : Int) → mPs w fr B fa0 i fa' mo → (∀ (fa' : Nat → Int) (mo : Bool) (H : Heap) (locs : List Loc) (ls : Array Slot), mPs w fr (4032 * (rr : Int) + 2016) fa0 144 fa' mo → mG D a k A s (w, fa') H locs → lv_has ls 5 [(3, .int (iI (((rr : Nat) : Int)))), (2, .int (iI (bz mo))), (0, .ref (a 0)), (1, .int (iI ((fr : Int))))] → W p l e ({ frames := 1, cells := 0, slots := 0, locals := 27 }) s m ([.ref (a 0), .int (iI (fr : Int))] : List Value).toArray below meth c H locs 0 0 (gQv below (fun X => ∃ fa1 : Nat → Int, X = (w, fa1) ∧ ∀ j, j < 144 → fa1 j = menc w fr j ∧ -1 ≤ fa1 j ∧ fa1 j < 1000000) D (MT k) (MW a k) A ([.ref (a 0), .int (iI (fr : Int))] : List Value).toArray s) (F0 m 74 ls [])) → mG D a k A s (w, fa') H locs → lv_has ls 5 [(4, .int (iI (((i : Nat) : Int)))), (3, .int (iI (((rr : Nat) : Int)))), (2, .int (iI (bz mo))), (0, .ref (a 0)), (1, .int (iI ((fr : Int))))] → W p l e ({ frames := 1, cells := 0, slots := 0, locals := 27 }) s m ([.ref (a 0), .int (iI (fr : Int))] : List Value).toArray below meth c H locs 0 0 (gQv below (fun X => ∃ fa1 : Nat → Int, X = (w, fa1) ∧ ∀ j, j < 144 → fa1 j = menc w fr j ∧ -1 ≤ fa1 j ∧ fa1 j < 1000000) D (MT k) (MW a k) A ([.ref (a 0), .int (iI (fr : Int))] : List Value).toArray s) (F0 m 49 ls []) := by
            intro n
            induction n with
            | zero =>
              intro i fa' mo B H locs ls hn hi
              omega
            | succ n ih =>
              intro i fa' mo B H locs ls hn hi hB hM cont G hl
              refine j_iload F dX1_search_49 (lv_at hl 0 rfl) ?_
              refine j_sipush F dX1_search_51 (by decide +kernel) ?_
              refine j_icmp_ge F 74 dX1_search_54 (by decide) (by omega) (fun c_54 => ?_) (fun c_54 => ?_)
              · skip
                have hi4 : i = 144 := by omega
                subst hi4
                refine cont fa' mo H locs ls ?_ G (lv_sub hl [1, 2, 3, 4] rfl)
                rw [show 4032 * (rr : Int) + 2016 = B by omega]
                exact hM
              · skip
                refine j_aload_n F dX1_search_57 rfl (lv_at hl 3 rfl) ?_
                refine j_iload F dX1_search_58 (lv_at hl 0 rfl) ?_
                refine k1_lower F hA G fr i B ⟨by omega, by omega, hM.1⟩ (by decide) hl.1 (Nat.le_of_ble_eq_true rfl) dX1_search_60 (fun fa1 lo H locs hlw G => ?_)
                have hb := bz_in lo
                refine j_if_eq F 68 dX1_search_63 (by decide) (by omega) (fun c_63 => ?_) (fun c_63 => ?_)
                · skip
                  refine j_iinc F (((i + 1 : Nat) : Int)) [(4, .int (iI (((i + 1 : Nat) : Int)))), (3, .int (iI (((rr : Nat) : Int)))), (2, .int (iI (bz mo))), (0, .ref (a 0)), (1, .int (iI ((fr : Int))))] (k := 0) dX1_search_68 hl rfl (by omega) (by decide) rfl (fun ls hl => ?_)
                  refine j_goto F 49 dX1_search_71 (by decide) ?_
                  exact ih (i + 1) fa1 mo (B + 14) H locs ls (by omega) (by omega) (by omega) ((mPs_step hM (by omega) hlw (fun q => ⟨q, bz_false c_63⟩)).2 rfl) cont G (lv_sub hl [0, 1, 2, 3, 4] rfl)
                · skip
                  refine j_iconst F dX1_search_66 ?_
                  refine j_eq (bz true) rfl ?_
                  refine j_istore_n F [(2, .int (iI (bz true))), (4, .int (iI (((i : Nat) : Int)))), (3, .int (iI (((rr : Nat) : Int)))), (0, .ref (a 0)), (1, .int (iI ((fr : Int))))] dX1_search_67 rfl hl (by decide) rfl (fun ls hl => ?_)
                  refine j_iinc F (((i + 1 : Nat) : Int)) [(4, .int (iI (((i + 1 : Nat) : Int)))), (2, .int (iI (bz true))), (3, .int (iI (((rr : Nat) : Int)))), (0, .ref (a 0)), (1, .int (iI ((fr : Int))))] (k := 1) dX1_search_68 hl rfl (by omega) (by decide) rfl (fun ls hl => ?_)
                  refine j_goto F 49 dX1_search_71 (by decide) ?_
                  exact ih (i + 1) fa1 true (B + 14) H locs ls (by omega) (by omega) (by omega) ((mPs_step hM (by omega) hlw (fun q => by cases q)).2 rfl) cont G (lv_sub hl [0, 2, 1, 3, 4] rfl)
          refine FW 145 0 fa0 false (4032 * (rr : Int)) H locs ls (by omega) (by omega) (by omega) (mPs_0 hR.1) (fun fa' mo' H locs ls hM G hl => ?_) G (lv_sub hl [0, 2, 1, 3, 4] rfl)
          refine j_sipush F dX1_search_74 (by decide +kernel) ?_
          refine j_eq (((144 : Nat) : Int) - 1) (by decide) ?_
          refine j_istore F [(4, .int (iI (((144 : Nat) : Int) - 1))), (3, .int (iI (((rr : Nat) : Int)))), (2, .int (iI (bz mo'))), (0, .ref (a 0)), (1, .int (iI ((fr : Int))))] dX1_search_77 hl (by decide) rfl (fun ls hl => ?_)
          refine BW 145 144 fa' mo' (4032 * (rr : Int) + 2016) H locs ls (by omega) (by omega) (by omega) hM (fun fa2 mo2 H locs ls hM2 G hl => ?_) G hl
          refine j_iinc F (((rr + 1 : Nat) : Int)) [(3, .int (iI (((rr + 1 : Nat) : Int)))), (2, .int (iI (bz mo2))), (0, .ref (a 0)), (1, .int (iI ((fr : Int))))] (k := 0) dX1_search_101 hl rfl (by omega) (by decide) rfl (fun ls hl => ?_)
          refine j_goto F 33 dX1_search_104 (by decide) ?_
          exact ih (rr + 1) fa2 mo2 H locs ls (by omega) (by omega) (mRd_next hR hM2) G hl
  have L1 : ∀ (n : Nat) (i : Nat) (fa' : Nat → Int) (H : Heap) (locs : List Loc) (ls : Array Slot), 144 < i + n → i ≤ 144 → (∀ c, c < i → fa' c = -1) → mG D a k A s (w, fa') H locs → lv_has ls 5 [(2, .int (iI (((i : Nat) : Int)))), (0, .ref (a 0)), (1, .int (iI ((fr : Int))))] → W p l e ({ frames := 1, cells := 0, slots := 0, locals := 27 }) s m ([.ref (a 0), .int (iI (fr : Int))] : List Value).toArray below meth c H locs 0 0 (gQv below (fun X => ∃ fa1 : Nat → Int, X = (w, fa1) ∧ ∀ j, j < 144 → fa1 j = menc w fr j ∧ -1 ≤ fa1 j ∧ fa1 j < 1000000) D (MT k) (MW a k) A ([.ref (a 0), .int (iI (fr : Int))] : List Value).toArray s) (F0 m 2 ls []) := by
    intro n
    induction n with
    | zero =>
      intro i fa' H locs ls hn hi
      omega
    | succ n ih =>
      intro i fa' H locs ls hn hi hz G hl
      refine j_iload_n F dX1_search_2 rfl (lv_at hl 0 rfl) ?_
      refine j_sipush F dX1_search_3 (by decide +kernel) ?_
      refine j_icmp_ge F 22 dX1_search_6 (by decide) (by omega) (fun c_6 => ?_) (fun c_6 => ?_)
      · skip
        refine j_aload_n F dX1_search_22 rfl (lv_at hl 1 rfl) ?_
        refine m0_far F G dX1_search_23 ?_
        refine j_iload_n F dX1_search_26 rfl (lv_at hl 2 rfl) ?_
        refine j_iconst F dX1_search_27 ?_
        refine m0_stF F G (fr) (by omega) (by omega) dX1_search_28 (fun H locs G => ?_)
        refine j_iconst F dX1_search_29 ?_
        refine j_eq (bz true) rfl ?_
        refine j_istore_n F [(2, .int (iI (bz true))), (0, .ref (a 0)), (1, .int (iI ((fr : Int))))] dX1_search_30 rfl hl (by decide) rfl (fun ls hl => ?_)
        refine j_iconst F dX1_search_31 ?_
        refine j_eq (((0 : Nat) : Int)) rfl ?_
        refine j_istore_n F [(3, .int (iI (((0 : Nat) : Int)))), (2, .int (iI (bz true))), (0, .ref (a 0)), (1, .int (iI ((fr : Int))))] dX1_search_32 rfl hl (by decide) rfl (fun ls hl => ?_)
        exact RD 146 0 _ true H locs ls (by omega) (by omega) (mRd_0 hfr hwf (fun c hc => hz c (by omega))) G (lv_sub hl [0, 1, 2, 3] rfl)
      · skip
        refine j_aload_n F dX1_search_9 rfl (lv_at hl 1 rfl) ?_
        refine m0_far F G dX1_search_10 ?_
        refine j_iload_n F dX1_search_13 rfl (lv_at hl 0 rfl) ?_
        refine j_iconst F dX1_search_14 ?_
        refine m0_stF F G (i) (by omega) (by omega) dX1_search_15 (fun H locs G => ?_)
        refine j_iinc F (((i + 1 : Nat) : Int)) [(2, .int (iI (((i + 1 : Nat) : Int)))), (0, .ref (a 0)), (1, .int (iI ((fr : Int))))] (k := 0) dX1_search_16 hl rfl (by omega) (by decide) rfl (fun ls hl => ?_)
        refine j_goto F 2 dX1_search_19 (by decide) ?_
        exact ih (i + 1) (va_up fa' i (-1)) H locs ls (by omega) (by omega) (fun c hc => by
          by_cases q : c = i
          · subst q; exact va_up_self _ _ _
          · rw [va_up_ne _ _ q]; exact hz c (by omega)) G (lv_sub hl [0, 1, 2] rfl)
  refine j_iconst F dX1_search_0 ?_
  refine j_eq (((0 : Nat) : Int)) rfl ?_
  refine j_istore_n F [(2, .int (iI (((0 : Nat) : Int)))), (0, .ref (a 0)), (1, .int (iI ((fr : Int))))] dX1_search_1 rfl hl (by decide) rfl (fun ls hl => ?_)
  exact L1 145 0 fa _ _ ls (by omega) (by omega) (fun c hc => by omega) G (lv_sub hl [0, 1, 2] rfl)

section K1search
variable {p : Program} {l : Launch} {e : Env} {R : Room} {s : State} {m : MethodId} {args : Array Value} {below : List Frame} {meth : Method} {c : Code} {H : Heap} {locs : List Loc} {Q : State → Prop}
variable {cc : ByteArray} {pc : Nat} {ls : Array Slot} {rest : List Value} {nL : Nat}
variable {D : va_G} {a : Nat → Nat} {k : Nat → ClassId} {A : Nat → Prop} {w : Nat → Bool} {fa : Nat → Int}
set_option maxHeartbeats 4000000 in
set_option maxRecDepth 100000 in
theorem k1_search (F : CallFix p m c cc nL s args lw_all RX1) (hA : ∀ q, s.heap.size ≤ q → A q) (G : mG D a k A s (w, fa) H locs) (fr : Nat) (h : fr < 144 ∧ w fr = false) (hR : 1 + 1 ≤ R.frames ∧ 8 + (5 + 11) + 27 ≤ R.locals) (hsz : ls.size = nL) (hroom : (rest.map fun v => v.category).sum ≤ 8) (hdg : decode cc pc = .ok (.invokevirtual 27, 3)) (kk : ∀ (fa1 : Nat → Int) (H1 : Heap) (locs1 : List Loc), (∀ j, j < 144 → fa1 j = menc w fr j ∧ -1 ≤ fa1 j ∧ fa1 j < 1000000) → mG D a k A s (w, fa1) H1 locs1 → W p l e R s m args below meth c H1 locs1 0 0 Q (F0 m (pc + 3) ls rest)) : W p l e R s m args below meth c H locs 0 0 Q (F0 m pc ls (.int (iI (fr : Int)) :: .ref (a 0) :: rest)) :=
  g_callv (As := [.int (iI (fr : Int))]) F hA (MW_same a k) G (c1_search l D a k w fa fr h) (cwV 1 F.2.2.2.2 (lw_V q177 q179 qs14 q18 q180) rfl rfl rfl (by decide +kernel) hR) (mrec G) hsz rfl hroom hdg (fun x' H1 locs1 hp G1 => by obtain ⟨fa1, rfl, hp⟩ := hp; exact kk fa1 H1 locs1 hp G1)
end K1search
end
section
theorem menc_or {w : Nat → Bool} {fr c : Nat} {v : Int} (h : v = menc w fr c) : (jdist w fr c = -2 ∧ v = -1) ∨ (0 ≤ jdist w fr c ∧ v = jdist w fr c) := by
  have := jdist_ge w fr c
  unfold menc at h
  split at h
  · left; omega
  · right; omega
theorem jqd_nat {w : Nat → Bool} {f t : Nat} (hf : f < 144) (hwf : w f = false) (ht : t < 144) (hwt : w t = false) : jqd w (f : Int) (t : Int) = jdist w f t := by
  unfold jqd
  rw [if_pos ⟨jisf_nat hf hwf, jisf_nat ht hwt⟩, Int.toNat_natCast, Int.toNat_natCast]
set_option maxHeartbeats 4000000 in
set_option maxRecDepth 100000 in
theorem c1_distance (l : Launch) (D : va_G) (a : Nat → Nat) (k : Nat → ClassId) (w : Nat → Bool) (fa : Nat → Int) (zf zt : Int) (h : -2147483648 ≤ zf ∧ zf < 2147483648 ∧ -2147483648 ≤ zt ∧ zt < 2147483648) : gMi l yX1_distance cX1_distance 3 .int ({ frames := 2, cells := 0, slots := 0, locals := 51 }) D (MT k) (MW a k) [.ref (a 0), .int (iI zf), .int (iI zt)] (w, fa) (fun r X => r = iI (jqd w zf zt) ∧ (-2 ≤ jqd w zf zt ∧ jqd w zf zt < 1000000) ∧ ∃ fa1 : Nat → Int, X = (w, fa1)) := by
  refine gMi_of (by decide) (Nat.le_of_ble_eq_true rfl) ?_
  intro p e s m below meth c A ls F hr hlk hA G hl
  have F : CallFix p m c cX1_distance 3 s ([.ref (a 0), .int (iI zf), .int (iI zt)] : List Value).toArray lw_all RX1 := F
  have hl : lv_has ls 3 [(0, .ref (a 0)), (1, .int (iI zf)), (2, .int (iI zt))] := hl
  refine j_aload_n F dX1_distance_0 rfl (lv_at hl 0 rfl) ?_
  refine j_iload_n F dX1_distance_1 rfl (lv_at hl 1 rfl) ?_
  refine k1_isFree F hA G zf (by omega) (by decide) hl.1 (Nat.le_of_ble_eq_true rfl) dX1_distance_2 (fun H locs G => ?_)
  have hbzf := bz_in (jisf w zf)
  refine j_if_eq F 16 dX1_distance_5 (by decide) (by omega) (fun c_5 => ?_) (fun c_5 => ?_)
  · skip
    refine j_iconst F dX1_distance_16 ?_
    have hq : jqd w zf zt = -1 := by
      unfold jqd; rw [if_neg (fun q => by rw [bz_false c_5] at q; cases q.1)]
    exact g_iret F hr hlk rfl G ⟨by rw [hq], by omega, fa, rfl⟩ dX1_distance_17
  · skip
    refine j_aload_n F dX1_distance_8 rfl (lv_at hl 0 rfl) ?_
    refine j_iload_n F dX1_distance_9 rfl (lv_at hl 2 rfl) ?_
    refine k1_isFree F hA G zt (by omega) (by decide) hl.1 (Nat.le_of_ble_eq_true rfl) dX1_distance_10 (fun H locs G => ?_)
    have hbzt := bz_in (jisf w zt)
    refine j_if_ne F 18 dX1_distance_13 (by decide) (by omega) (fun c_13 => ?_) (fun c_13 => ?_)
    · skip
      obtain ⟨f, hf, ef, hwf⟩ := jisf_iff (bz_true c_5)
      obtain ⟨t, ht, et, hwt⟩ := jisf_iff (bz_true c_13)
      subst ef; subst et
      refine j_aload_n F dX1_distance_18 rfl (lv_at hl 0 rfl) ?_
      refine j_iload_n F dX1_distance_19 rfl (lv_at hl 1 rfl) ?_
      refine k1_search F hA G f ⟨hf, hwf⟩ (by decide) hl.1 (Nat.le_of_ble_eq_true rfl) dX1_distance_20 (fun fa1 H locs hfa G => ?_)
      refine j_aload_n F dX1_distance_23 rfl (lv_at hl 0 rfl) ?_
      refine m0_far F G dX1_distance_24 ?_
      refine j_iload_n F dX1_distance_27 rfl (lv_at hl 2 rfl) ?_
      have hm := menc_or (hfa t ht).1
      have hm2 := (hfa t ht).2
      refine m0_ldF F G (t) (by omega) (by omega) dX1_distance_28 ?_
      refine j_if_ge F 37 dX1_distance_29 (by decide) (by omega) (fun c_29 => ?_) (fun c_29 => ?_)
      · skip
        refine j_aload_n F dX1_distance_37 rfl (lv_at hl 0 rfl) ?_
        refine m0_far F G dX1_distance_38 ?_
        refine j_iload_n F dX1_distance_41 rfl (lv_at hl 2 rfl) ?_
        refine m0_ldF F G (t) (by omega) (by omega) dX1_distance_42 ?_
        have hq := jqd_nat hf hwf ht hwt
        exact g_iret F hr hlk rfl G ⟨congrArg iI (by omega), by omega, fa1, rfl⟩ dX1_distance_43
      · skip
        refine j_bipush F dX1_distance_32 (by decide +kernel) ?_
        refine j_goto F 43 dX1_distance_34 (by decide) ?_
        have hq := jqd_nat hf hwf ht hwt
        exact g_iret F hr hlk rfl G ⟨congrArg iI (by omega), by omega, fa1, rfl⟩ dX1_distance_43
    · skip
      refine j_iconst F dX1_distance_16 ?_
      have hq : jqd w zf zt = -1 := by
        unfold jqd; rw [if_neg (fun q => by rw [bz_false c_13] at q; cases q.2)]
      exact g_iret F hr hlk rfl G ⟨by rw [hq], by omega, fa, rfl⟩ dX1_distance_17

section K1distance
variable {p : Program} {l : Launch} {e : Env} {R : Room} {s : State} {m : MethodId} {args : Array Value} {below : List Frame} {meth : Method} {c : Code} {H : Heap} {locs : List Loc} {Q : State → Prop}
variable {cc : ByteArray} {pc : Nat} {ls : Array Slot} {rest : List Value} {nL : Nat}
variable {D : va_G} {a : Nat → Nat} {k : Nat → ClassId} {A : Nat → Prop} {w : Nat → Bool} {fa : Nat → Int}
set_option maxHeartbeats 4000000 in
set_option maxRecDepth 100000 in
theorem k1_distance (F : CallFix p m c cc nL s args lw_all RX1) (hA : ∀ q, s.heap.size ≤ q → A q) (G : mG D a k A s (w, fa) H locs) (zf zt : Int) (h : -2147483648 ≤ zf ∧ zf < 2147483648 ∧ -2147483648 ≤ zt ∧ zt < 2147483648) (hR : 2 + 1 ≤ R.frames ∧ 8 + (3 + 11) + 51 ≤ R.locals) (hsz : ls.size = nL) (hroom : (rest.map fun v => v.category).sum ≤ 8) (hdg : decode cc pc = .ok (.invokevirtual 31, 3)) (kk : ∀ (fa1 : Nat → Int) (H1 : Heap) (locs1 : List Loc), (-2 ≤ jqd w zf zt ∧ jqd w zf zt < 1000000) → mG D a k A s (w, fa1) H1 locs1 → W p l e R s m args below meth c H1 locs1 0 0 Q (F0 m (pc + 3) ls (.int (iI (jqd w zf zt)) :: rest))) : W p l e R s m args below meth c H locs 0 0 Q (F0 m pc ls (.int (iI zt) :: .int (iI zf) :: .ref (a 0) :: rest)) :=
  g_calli (As := [.int (iI zf), .int (iI zt)]) F hA (MW_same a k) G (c1_distance l D a k w fa zf zt h) (cwV 2 F.2.2.2.2 (lw_V q193 q170 q171 q18 q172) rfl rfl rfl (by decide +kernel) hR) (mrec G) hsz rfl hroom hdg (fun r x' H1 locs1 hp G1 => by obtain ⟨rfl, hb, fa1, rfl⟩ := hp; exact kk fa1 H1 locs1 hb G1)
end K1distance

set_option maxHeartbeats 4000000 in
set_option maxRecDepth 100000 in
theorem c1_nearer (l : Launch) (D : va_G) (a : Nat → Nat) (k : Nat → ClassId) (w : Nat → Bool) (fa : Nat → Int) (zf za zb : Int) (h : -2147483648 ≤ zf ∧ zf < 2147483648 ∧ -2147483648 ≤ za ∧ za < 2147483648 ∧ -2147483648 ≤ zb ∧ zb < 2147483648) : gMi l yX1_nearer cX1_nearer 4 .int ({ frames := 2, cells := 0, slots := 0, locals := 51 }) D (MT k) (MW a k) [.ref (a 0), .int (iI zf), .int (iI za), .int (iI zb)] (w, fa) (fun r X => r = iI (jqn w zf za zb) ∧ ∃ fa1 : Nat → Int, X = (w, fa1)) := by
  refine gMi_of (by decide) (Nat.le_of_ble_eq_true rfl) ?_
  intro p e s m below meth c A ls F hr hlk hA G hl
  have F : CallFix p m c cX1_nearer 4 s ([.ref (a 0), .int (iI zf), .int (iI za), .int (iI zb)] : List Value).toArray lw_all RX1 := F
  have hl : lv_has ls 4 [(0, .ref (a 0)), (1, .int (iI zf)), (2, .int (iI za)), (3, .int (iI zb))] := hl
  refine j_aload_n F dX1_nearer_0 rfl (lv_at hl 0 rfl) ?_
  refine j_iload_n F dX1_nearer_1 rfl (lv_at hl 1 rfl) ?_
  refine k1_isFree F hA G zf (by omega) (by decide) hl.1 (Nat.le_of_ble_eq_true rfl) dX1_nearer_2 (fun H locs G => ?_)
  have hbzf := bz_in (jisf w zf)
  refine j_if_eq F 24 dX1_nearer_5 (by decide) (by omega) (fun c_5 => ?_) (fun c_5 => ?_)
  · skip
    refine j_iconst F dX1_nearer_24 ?_
    exact g_iret F hr hlk rfl G ⟨by unfold jqn; rw [if_neg (fun q => by rw [bz_false c_5] at q; cases q.1)], fa, rfl⟩ dX1_nearer_25
  · skip
    refine j_aload_n F dX1_nearer_8 rfl (lv_at hl 0 rfl) ?_
    refine j_iload_n F dX1_nearer_9 rfl (lv_at hl 2 rfl) ?_
    refine k1_isFree F hA G za (by omega) (by decide) hl.1 (Nat.le_of_ble_eq_true rfl) dX1_nearer_10 (fun H locs G => ?_)
    have hbza := bz_in (jisf w za)
    refine j_if_eq F 24 dX1_nearer_13 (by decide) (by omega) (fun c_13 => ?_) (fun c_13 => ?_)
    · skip
      refine j_iconst F dX1_nearer_24 ?_
      exact g_iret F hr hlk rfl G ⟨by unfold jqn; rw [if_neg (fun q => by rw [bz_false c_13] at q; cases q.2.1)], fa, rfl⟩ dX1_nearer_25
    · skip
      refine j_aload_n F dX1_nearer_16 rfl (lv_at hl 0 rfl) ?_
      refine j_iload_n F dX1_nearer_17 rfl (lv_at hl 3 rfl) ?_
      refine k1_isFree F hA G zb (by omega) (by decide) hl.1 (Nat.le_of_ble_eq_true rfl) dX1_nearer_18 (fun H locs G => ?_)
      have hbzb := bz_in (jisf w zb)
      refine j_if_ne F 26 dX1_nearer_21 (by decide) (by omega) (fun c_21 => ?_) (fun c_21 => ?_)
      · skip
        obtain ⟨f, hf, ef, hwf⟩ := jisf_iff (bz_true c_5)
        obtain ⟨u, hu, eu, hwu⟩ := jisf_iff (bz_true c_13)
        obtain ⟨v, hv, ev, hwv⟩ := jisf_iff (bz_true c_21)
        subst ef; subst eu; subst ev
        refine j_aload_n F dX1_nearer_26 rfl (lv_at hl 0 rfl) ?_
        refine j_iload_n F dX1_nearer_27 rfl (lv_at hl 1 rfl) ?_
        refine k1_search F hA G f ⟨hf, hwf⟩ (by decide) hl.1 (Nat.le_of_ble_eq_true rfl) dX1_nearer_28 (fun fa1 H locs hfa G => ?_)
        refine j_aload_n F dX1_nearer_31 rfl (lv_at hl 0 rfl) ?_
        refine m0_far F G dX1_nearer_32 ?_
        refine j_iload_n F dX1_nearer_35 rfl (lv_at hl 3 rfl) ?_
        have m1 := menc_or (hfa v hv).1
        have m2 := menc_or (hfa u hu).1
        have m3 := (hfa v hv).2
        have m4 := (hfa u hu).2
        refine m0_ldF F G (v) (by omega) (by omega) dX1_nearer_36 ?_
        refine j_if_lt F 68 dX1_nearer_37 (by decide) (by omega) (fun c_37 => ?_) (fun c_37 => ?_)
        · skip
          refine j_iconst F dX1_nearer_68 ?_
          exact g_iret F hr hlk rfl G ⟨by unfold jqn; rw [if_pos ⟨jisf_nat hf hwf, jisf_nat hu hwu, jisf_nat hv hwv⟩, Int.toNat_natCast, Int.toNat_natCast, Int.toNat_natCast, if_neg (by omega)], fa1, rfl⟩ dX1_nearer_69
        · skip
          refine j_aload_n F dX1_nearer_40 rfl (lv_at hl 0 rfl) ?_
          refine m0_far F G dX1_nearer_41 ?_
          refine j_iload_n F dX1_nearer_44 rfl (lv_at hl 2 rfl) ?_
          refine m0_ldF F G (u) (by omega) (by omega) dX1_nearer_45 ?_
          refine j_if_lt F 64 dX1_nearer_46 (by decide) (by omega) (fun c_46 => ?_) (fun c_46 => ?_)
          · skip
            refine j_iconst F dX1_nearer_64 ?_
            refine j_goto F 69 dX1_nearer_65 (by decide) ?_
            exact g_iret F hr hlk rfl G ⟨by unfold jqn; rw [if_pos ⟨jisf_nat hf hwf, jisf_nat hu hwu, jisf_nat hv hwv⟩, Int.toNat_natCast, Int.toNat_natCast, Int.toNat_natCast, if_pos (by omega)], fa1, rfl⟩ dX1_nearer_69
          · skip
            refine j_aload_n F dX1_nearer_49 rfl (lv_at hl 0 rfl) ?_
            refine m0_far F G dX1_nearer_50 ?_
            refine j_iload_n F dX1_nearer_53 rfl (lv_at hl 3 rfl) ?_
            refine m0_ldF F G (v) (by omega) (by omega) dX1_nearer_54 ?_
            refine j_aload_n F dX1_nearer_55 rfl (lv_at hl 0 rfl) ?_
            refine m0_far F G dX1_nearer_56 ?_
            refine j_iload_n F dX1_nearer_59 rfl (lv_at hl 2 rfl) ?_
            refine m0_ldF F G (u) (by omega) (by omega) dX1_nearer_60 ?_
            refine j_icmp_ge F 68 dX1_nearer_61 (by decide) (by omega) (fun c_61 => ?_) (fun c_61 => ?_)
            · skip
              refine j_iconst F dX1_nearer_68 ?_
              exact g_iret F hr hlk rfl G ⟨by unfold jqn; rw [if_pos ⟨jisf_nat hf hwf, jisf_nat hu hwu, jisf_nat hv hwv⟩, Int.toNat_natCast, Int.toNat_natCast, Int.toNat_natCast, if_neg (by omega)], fa1, rfl⟩ dX1_nearer_69
            · skip
              refine j_iconst F dX1_nearer_64 ?_
              refine j_goto F 69 dX1_nearer_65 (by decide) ?_
              exact g_iret F hr hlk rfl G ⟨by unfold jqn; rw [if_pos ⟨jisf_nat hf hwf, jisf_nat hu hwu, jisf_nat hv hwv⟩, Int.toNat_natCast, Int.toNat_natCast, Int.toNat_natCast, if_pos (by omega)], fa1, rfl⟩ dX1_nearer_69
      · skip
        refine j_iconst F dX1_nearer_24 ?_
        exact g_iret F hr hlk rfl G ⟨by unfold jqn; rw [if_neg (fun q => by rw [bz_false c_21] at q; cases q.2.2)], fa, rfl⟩ dX1_nearer_25

set_option maxHeartbeats 4000000 in
set_option maxRecDepth 100000 in
theorem c1_vital (l : Launch) (D : va_G) (a : Nat → Nat) (k : Nat → ClassId) (w : Nat → Bool) (fa : Nat → Int) (zf zt zc : Int) (h : -2147483648 ≤ zf ∧ zf < 2147483648 ∧ -2147483648 ≤ zt ∧ zt < 2147483648 ∧ -2147483648 ≤ zc ∧ zc < 2147483648) : gMi l yX1_vital cX1_vital 6 .boolean ({ frames := 3, cells := 0, slots := 0, locals := 73 }) D (MT k) (MW a k) [.ref (a 0), .int (iI zf), .int (iI zt), .int (iI zc)] (w, fa) (fun r X => r = iI (bz (jqv w zf zt zc)) ∧ ∃ fa1 : Nat → Int, X = (w, fa1)) := by
  refine gMi_of (by decide) (Nat.le_of_ble_eq_true rfl) ?_
  intro p e s m below meth c A ls F hr hlk hA G hl
  have F : CallFix p m c cX1_vital 6 s ([.ref (a 0), .int (iI zf), .int (iI zt), .int (iI zc)] : List Value).toArray lw_all RX1 := F
  have hl : lv_has ls 6 [(0, .ref (a 0)), (1, .int (iI zf)), (2, .int (iI zt)), (3, .int (iI zc))] := hl
  refine j_aload_n F dX1_vital_0 rfl (lv_at hl 0 rfl) ?_
  refine j_iload_n F dX1_vital_1 rfl (lv_at hl 1 rfl) ?_
  refine k1_isFree F hA G zf (by omega) (by decide) hl.1 (Nat.le_of_ble_eq_true rfl) dX1_vital_2 (fun H locs G => ?_)
  have hbzf := bz_in (jisf w zf)
  refine j_if_eq F 34 dX1_vital_5 (by decide) (by omega) (fun c_5 => ?_) (fun c_5 => ?_)
  · skip
    refine j_iconst F dX1_vital_34 ?_
    exact g_iret F hr hlk rfl G ⟨by unfold jqv; rw [if_neg (fun q => by rw [bz_false c_5] at q; cases q.1)]; rfl, fa, rfl⟩ dX1_vital_35
  · skip
    refine j_aload_n F dX1_vital_8 rfl (lv_at hl 0 rfl) ?_
    refine j_iload_n F dX1_vital_9 rfl (lv_at hl 2 rfl) ?_
    refine k1_isFree F hA G zt (by omega) (by decide) hl.1 (Nat.le_of_ble_eq_true rfl) dX1_vital_10 (fun H locs G => ?_)
    have hbzt := bz_in (jisf w zt)
    refine j_if_eq F 34 dX1_vital_13 (by decide) (by omega) (fun c_13 => ?_) (fun c_13 => ?_)
    · skip
      refine j_iconst F dX1_vital_34 ?_
      exact g_iret F hr hlk rfl G ⟨by unfold jqv; rw [if_neg (fun q => by rw [bz_false c_13] at q; cases q.2.1)]; rfl, fa, rfl⟩ dX1_vital_35
    · skip
      refine j_aload_n F dX1_vital_16 rfl (lv_at hl 0 rfl) ?_
      refine j_iload_n F dX1_vital_17 rfl (lv_at hl 3 rfl) ?_
      refine k1_isFree F hA G zc (by omega) (by decide) hl.1 (Nat.le_of_ble_eq_true rfl) dX1_vital_18 (fun H locs G => ?_)
      have hbzc := bz_in (jisf w zc)
      refine j_if_eq F 34 dX1_vital_21 (by decide) (by omega) (fun c_21 => ?_) (fun c_21 => ?_)
      · skip
        refine j_iconst F dX1_vital_34 ?_
        exact g_iret F hr hlk rfl G ⟨by unfold jqv; rw [if_neg (fun q => by rw [bz_false c_21] at q; cases q.2.2.1)]; rfl, fa, rfl⟩ dX1_vital_35
      · skip
        refine j_iload_n F dX1_vital_24 rfl (lv_at hl 3 rfl) ?_
        refine j_iload_n F dX1_vital_25 rfl (lv_at hl 1 rfl) ?_
        refine j_icmp_eq F 34 dX1_vital_26 (by decide) (by omega) (fun c_26 => ?_) (fun c_26 => ?_)
        · skip
          refine j_iconst F dX1_vital_34 ?_
          exact g_iret F hr hlk rfl G ⟨by unfold jqv; rw [if_neg (fun q => q.2.2.2.1 c_26)]; rfl, fa, rfl⟩ dX1_vital_35
        · skip
          refine j_iload_n F dX1_vital_29 rfl (lv_at hl 3 rfl) ?_
          refine j_iload_n F dX1_vital_30 rfl (lv_at hl 2 rfl) ?_
          refine j_icmp_ne F 36 dX1_vital_31 (by decide) (by omega) (fun c_31 => ?_) (fun c_31 => ?_)
          · skip
            obtain ⟨f, hf, ef, hwf⟩ := jisf_iff (bz_true c_5)
            obtain ⟨t, ht, et, hwt⟩ := jisf_iff (bz_true c_13)
            obtain ⟨v, hv, ev, hwv⟩ := jisf_iff (bz_true c_21)
            subst ef; subst et; subst ev
            refine j_aload_n F dX1_vital_36 rfl (lv_at hl 0 rfl) ?_
            refine j_iload_n F dX1_vital_37 rfl (lv_at hl 1 rfl) ?_
            refine j_iload_n F dX1_vital_38 rfl (lv_at hl 2 rfl) ?_
            refine k1_distance F hA G (f : Int) (t : Int) (by omega) (by decide) hl.1 (Nat.le_of_ble_eq_true rfl) dX1_vital_39 (fun fa1 H locs hd1 G => ?_)
            rw [jqd_nat hf hwf ht hwt] at hd1 ⊢
            refine j_istore F [(4, .int (iI (jdist w f t))), (0, .ref (a 0)), (1, .int (iI ((f : Int)))), (2, .int (iI ((t : Int)))), (3, .int (iI ((v : Int))))] dX1_vital_42 hl (by decide) rfl (fun ls hl => ?_)
            refine j_iload F dX1_vital_44 (lv_at hl 0 rfl) ?_
            refine j_if_ge F 51 dX1_vital_46 (by decide) (by omega) (fun c_46 => ?_) (fun c_46 => ?_)
            · skip
              refine j_aload_n F dX1_vital_51 rfl (lv_at hl 1 rfl) ?_
              refine m0_walls F G dX1_vital_52 ?_
              refine j_iload_n F dX1_vital_55 rfl (lv_at hl 4 rfl) ?_
              refine j_iconst F dX1_vital_56 ?_
              refine m0_stW F G (v) (true) (by omega) (by omega) rfl dX1_vital_57 (fun H locs G => ?_)
              refine j_aload_n F dX1_vital_58 rfl (lv_at hl 1 rfl) ?_
              refine j_iload_n F dX1_vital_59 rfl (lv_at hl 2 rfl) ?_
              refine j_iload_n F dX1_vital_60 rfl (lv_at hl 3 rfl) ?_
              have hwf2 : va_up w v true f = false := by rw [va_up_ne _ _ (by omega)]; exact hwf
              have hwt2 : va_up w v true t = false := by rw [va_up_ne _ _ (by omega)]; exact hwt
              refine k1_distance F hA G (f : Int) (t : Int) (by omega) (by decide) hl.1 (Nat.le_of_ble_eq_true rfl) dX1_vital_61 (fun fa2 H locs hd2 G => ?_)
              rw [jqd_nat hf hwf2 ht hwt2] at hd2 ⊢
              refine j_istore F [(5, .int (iI (jdist (va_up w v true) f t))), (4, .int (iI (jdist w f t))), (0, .ref (a 0)), (1, .int (iI ((f : Int)))), (2, .int (iI ((t : Int)))), (3, .int (iI ((v : Int))))] dX1_vital_64 hl (by decide) rfl (fun ls hl => ?_)
              refine j_aload_n F dX1_vital_66 rfl (lv_at hl 2 rfl) ?_
              refine m0_walls F G dX1_vital_67 ?_
              refine j_iload_n F dX1_vital_70 rfl (lv_at hl 5 rfl) ?_
              refine j_iconst F dX1_vital_71 ?_
              refine m0_stW F G (v) (false) (by omega) (by omega) rfl dX1_vital_72 (fun H locs G => ?_)
              refine j_iload F dX1_vital_73 (lv_at hl 0 rfl) ?_
              refine j_if_lt F 85 dX1_vital_75 (by decide) (by omega) (fun c_75 => ?_) (fun c_75 => ?_)
              · skip
                refine j_iconst F dX1_vital_85 ?_
                refine j_goto F 90 dX1_vital_86 (by decide) ?_
                have hwb : va_up (va_up w v true) v false = w := by
                  rw [bx_uu, ← hwv, va_up_id]
                exact g_iret F hr hlk rfl G ⟨by unfold jqv; rw [if_pos ⟨jisf_nat hf hwf, jisf_nat ht hwt, jisf_nat hv hwv, c_26, c_31⟩, Int.toNat_natCast, Int.toNat_natCast, Int.toNat_natCast, if_neg (by omega), decide_eq_true (by omega)]; rfl, fa2, by rw [hwb]⟩ dX1_vital_90
              · skip
                refine j_iload F dX1_vital_78 (lv_at hl 0 rfl) ?_
                refine j_iload F dX1_vital_80 (lv_at hl 1 rfl) ?_
                refine j_icmp_le F 89 dX1_vital_82 (by decide) (by omega) (fun c_82 => ?_) (fun c_82 => ?_)
                · skip
                  refine j_iconst F dX1_vital_89 ?_
                  have hwb : va_up (va_up w v true) v false = w := by
                    rw [bx_uu, ← hwv, va_up_id]
                  exact g_iret F hr hlk rfl G ⟨by unfold jqv; rw [if_pos ⟨jisf_nat hf hwf, jisf_nat ht hwt, jisf_nat hv hwv, c_26, c_31⟩, Int.toNat_natCast, Int.toNat_natCast, Int.toNat_natCast, if_neg (by omega), decide_eq_false (by omega)]; rfl, fa2, by rw [hwb]⟩ dX1_vital_90
                · skip
                  refine j_iconst F dX1_vital_85 ?_
                  refine j_goto F 90 dX1_vital_86 (by decide) ?_
                  have hwb : va_up (va_up w v true) v false = w := by
                    rw [bx_uu, ← hwv, va_up_id]
                  exact g_iret F hr hlk rfl G ⟨by unfold jqv; rw [if_pos ⟨jisf_nat hf hwf, jisf_nat ht hwt, jisf_nat hv hwv, c_26, c_31⟩, Int.toNat_natCast, Int.toNat_natCast, Int.toNat_natCast, if_neg (by omega), decide_eq_true (by omega)]; rfl, fa2, by rw [hwb]⟩ dX1_vital_90
            · skip
              refine j_iconst F dX1_vital_49 ?_
              exact g_iret F hr hlk rfl G ⟨by unfold jqv; rw [if_pos ⟨jisf_nat hf hwf, jisf_nat ht hwt, jisf_nat hv hwv, c_26, c_31⟩, Int.toNat_natCast, Int.toNat_natCast, Int.toNat_natCast, if_pos (by omega)]; rfl, fa1, rfl⟩ dX1_vital_50
          · skip
            refine j_iconst F dX1_vital_34 ?_
            exact g_iret F hr hlk rfl G ⟨by unfold jqv; rw [if_neg (fun q => q.2.2.2.2 c_31)]; rfl, fa, rfl⟩ dX1_vital_35

set_option maxHeartbeats 4000000 in
set_option maxRecDepth 100000 in
theorem c1_farthest (l : Launch) (D : va_G) (a : Nat → Nat) (k : Nat → ClassId) (w : Nat → Bool) (fa : Nat → Int) (zf : Int) (h : -2147483648 ≤ zf ∧ zf < 2147483648) : gMi l yX1_farthest cX1_farthest 4 .int ({ frames := 2, cells := 0, slots := 0, locals := 51 }) D (MT k) (MW a k) [.ref (a 0), .int (iI zf)] (w, fa) (fun r X => r = iI (jqf w zf) ∧ ∃ fa1 : Nat → Int, X = (w, fa1)) := by
  refine gMi_of (by decide) (Nat.le_of_ble_eq_true rfl) ?_
  intro p e s m below meth c A ls F hr hlk hA G hl
  have F : CallFix p m c cX1_farthest 4 s ([.ref (a 0), .int (iI zf)] : List Value).toArray lw_all RX1 := F
  have hl : lv_has ls 4 [(0, .ref (a 0)), (1, .int (iI zf))] := hl
  refine j_aload_n F dX1_farthest_0 rfl (lv_at hl 0 rfl) ?_
  refine j_iload_n F dX1_farthest_1 rfl (lv_at hl 1 rfl) ?_
  refine k1_isFree F hA G zf (by omega) (by decide) hl.1 (Nat.le_of_ble_eq_true rfl) dX1_farthest_2 (fun H locs G => ?_)
  have hbzf := bz_in (jisf w zf)
  refine j_if_ne F 10 dX1_farthest_5 (by decide) (by omega) (fun c_5 => ?_) (fun c_5 => ?_)
  · skip
    obtain ⟨f, hf, ef, hwf⟩ := jisf_iff (bz_true c_5)
    subst ef
    refine j_aload_n F dX1_farthest_10 rfl (lv_at hl 0 rfl) ?_
    refine j_iload_n F dX1_farthest_11 rfl (lv_at hl 1 rfl) ?_
    refine k1_search F hA G f ⟨hf, hwf⟩ (by decide) hl.1 (Nat.le_of_ble_eq_true rfl) dX1_farthest_12 (fun fa1 H locs hfa G => ?_)
    refine j_iconst F dX1_farthest_15 ?_
    refine j_eq (jmx w f 0) rfl ?_
    refine j_istore_n F [(2, .int (iI (jmx w f 0))), (0, .ref (a 0)), (1, .int (iI ((f : Int))))] dX1_farthest_16 rfl hl (by decide) rfl (fun ls hl => ?_)
    refine j_iconst F dX1_farthest_17 ?_
    refine j_eq (((0 : Nat) : Int)) rfl ?_
    refine j_istore_n F [(3, .int (iI (((0 : Nat) : Int)))), (2, .int (iI (jmx w f 0))), (0, .ref (a 0)), (1, .int (iI ((f : Int))))] dX1_farthest_18 rfl hl (by decide) rfl (fun ls hl => ?_)
    have LP : ∀ (n : Nat) (i : Nat) (H : Heap) (locs : List Loc) (ls : Array Slot), 144 < i + n → i ≤ 144 → jmx w f i < 1000000 → mG D a k A s (w, fa1) H locs → lv_has ls 4 [(3, .int (iI (((i : Nat) : Int)))), (2, .int (iI (jmx w f i))), (0, .ref (a 0)), (1, .int (iI ((f : Int))))] → W p l e ({ frames := 2, cells := 0, slots := 0, locals := 51 }) s m ([.ref (a 0), .int (iI (f : Int))] : List Value).toArray below meth c H locs 0 0 (gQi below (fun r X => r = iI (jqf w (f : Int)) ∧ ∃ fa1 : Nat → Int, X = (w, fa1)) D (MT k) (MW a k) A ([.ref (a 0), .int (iI (f : Int))] : List Value).toArray s) (F0 m 19 ls []) := by
      intro n
      induction n with
      | zero =>
        intro i H locs ls hn hi
        omega
      | succ n ih =>
        intro i H locs ls hn hi hmb G hl
        refine j_iload_n F dX1_farthest_19 rfl (lv_at hl 0 rfl) ?_
        refine j_sipush F dX1_farthest_20 (by decide +kernel) ?_
        have hmg := jmx_ge w f i
        refine j_icmp_ge F 49 dX1_farthest_23 (by decide) (by omega) (fun c_23 => ?_) (fun c_23 => ?_)
        · skip
          refine j_iload_n F dX1_farthest_49 rfl (lv_at hl 1 rfl) ?_
          exact g_iret F hr hlk rfl G ⟨by unfold jqf; rw [if_pos (jisf_nat hf hwf), Int.toNat_natCast, show (144 : Nat) = i by omega], fa1, rfl⟩ dX1_farthest_50
        · skip
          have hm := menc_or (hfa i (by omega)).1
          have hm2 := (hfa i (by omega)).2
          refine j_aload_n F dX1_farthest_26 rfl (lv_at hl 2 rfl) ?_
          refine m0_far F G dX1_farthest_27 ?_
          refine j_iload_n F dX1_farthest_30 rfl (lv_at hl 0 rfl) ?_
          refine m0_ldF F G (i) (by omega) (by omega) dX1_farthest_31 ?_
          refine j_iload_n F dX1_farthest_32 rfl (lv_at hl 1 rfl) ?_
          refine j_icmp_le F 43 dX1_farthest_33 (by decide) (by omega) (fun c_33 => ?_) (fun c_33 => ?_)
          · skip
            refine j_iinc F (((i + 1 : Nat) : Int)) [(3, .int (iI (((i + 1 : Nat) : Int)))), (2, .int (iI (jmx w f i))), (0, .ref (a 0)), (1, .int (iI ((f : Int))))] (k := 0) dX1_farthest_43 hl rfl (by omega) (by decide) rfl (fun ls hl => ?_)
            refine j_goto F 19 dX1_farthest_46 (by decide) ?_
            have hx : jmx w f (i + 1) = jmx w f i := by
              conv => lhs; unfold jmx
              rw [if_neg (by omega)]
            rw [← hx] at hl
            exact ih (i + 1) H locs ls (by omega) (by omega) (by rw [hx]; exact hmb) G (lv_sub hl [0, 1, 2, 3] rfl)
          · skip
            refine j_aload_n F dX1_farthest_36 rfl (lv_at hl 2 rfl) ?_
            refine m0_far F G dX1_farthest_37 ?_
            refine j_iload_n F dX1_farthest_40 rfl (lv_at hl 0 rfl) ?_
            refine m0_ldF F G (i) (by omega) (by omega) dX1_farthest_41 ?_
            refine j_istore_n F [(2, .int (iI (fa1 (i)))), (3, .int (iI (((i : Nat) : Int)))), (0, .ref (a 0)), (1, .int (iI ((f : Int))))] dX1_farthest_42 rfl hl (by decide) rfl (fun ls hl => ?_)
            refine j_iinc F (((i + 1 : Nat) : Int)) [(3, .int (iI (((i + 1 : Nat) : Int)))), (2, .int (iI (fa1 (i)))), (0, .ref (a 0)), (1, .int (iI ((f : Int))))] (k := 1) dX1_farthest_43 hl rfl (by omega) (by decide) rfl (fun ls hl => ?_)
            refine j_goto F 19 dX1_farthest_46 (by decide) ?_
            have hx : jmx w f (i + 1) = fa1 i := by
              conv => lhs; unfold jmx
              rw [if_pos (by omega)]
              omega
            have hmb2 : jmx w f (i + 1) < 1000000 := by rw [hx]; omega
            rw [← hx] at hl
            exact ih (i + 1) H locs ls (by omega) (by omega) hmb2 G (lv_sub hl [0, 1, 2, 3] rfl)
    exact LP 145 0 H locs ls (by omega) (by omega) (show jmx w f 0 < 1000000 from (by decide : (0 : Int) < 1000000)) G (lv_sub hl [0, 1, 2, 3] rfl)
  · skip
    refine j_iconst F dX1_farthest_8 ?_
    exact g_iret F hr hlk rfl G ⟨by unfold jqf; rw [if_neg (by rw [bz_false c_5]; decide)], fa, rfl⟩ dX1_farthest_9

set_option maxHeartbeats 4000000 in
set_option maxRecDepth 100000 in
theorem c1_reach (l : Launch) (D : va_G) (a : Nat → Nat) (k : Nat → ClassId) (w : Nat → Bool) (fa : Nat → Int) (zf : Int) (h : -2147483648 ≤ zf ∧ zf < 2147483648) : gMi l yX1_reach cX1_reach 4 .int ({ frames := 2, cells := 0, slots := 0, locals := 51 }) D (MT k) (MW a k) [.ref (a 0), .int (iI zf)] (w, fa) (fun r X => r = iI (jqr w zf) ∧ ∃ fa1 : Nat → Int, X = (w, fa1)) := by
  refine gMi_of (by decide) (Nat.le_of_ble_eq_true rfl) ?_
  intro p e s m below meth c A ls F hr hlk hA G hl
  have F : CallFix p m c cX1_reach 4 s ([.ref (a 0), .int (iI zf)] : List Value).toArray lw_all RX1 := F
  have hl : lv_has ls 4 [(0, .ref (a 0)), (1, .int (iI zf))] := hl
  refine j_aload_n F dX1_reach_0 rfl (lv_at hl 0 rfl) ?_
  refine j_iload_n F dX1_reach_1 rfl (lv_at hl 1 rfl) ?_
  refine k1_isFree F hA G zf (by omega) (by decide) hl.1 (Nat.le_of_ble_eq_true rfl) dX1_reach_2 (fun H locs G => ?_)
  have hbzf := bz_in (jisf w zf)
  refine j_if_ne F 10 dX1_reach_5 (by decide) (by omega) (fun c_5 => ?_) (fun c_5 => ?_)
  · skip
    obtain ⟨f, hf, ef, hwf⟩ := jisf_iff (bz_true c_5)
    subst ef
    refine j_aload_n F dX1_reach_10 rfl (lv_at hl 0 rfl) ?_
    refine j_iload_n F dX1_reach_11 rfl (lv_at hl 1 rfl) ?_
    refine k1_search F hA G f ⟨hf, hwf⟩ (by decide) hl.1 (Nat.le_of_ble_eq_true rfl) dX1_reach_12 (fun fa1 H locs hfa G => ?_)
    refine j_iconst F dX1_reach_15 ?_
    refine j_eq (((jct w f 0 : Nat) : Int)) rfl ?_
    refine j_istore_n F [(2, .int (iI (((jct w f 0 : Nat) : Int)))), (0, .ref (a 0)), (1, .int (iI ((f : Int))))] dX1_reach_16 rfl hl (by decide) rfl (fun ls hl => ?_)
    refine j_iconst F dX1_reach_17 ?_
    refine j_eq (((0 : Nat) : Int)) rfl ?_
    refine j_istore_n F [(3, .int (iI (((0 : Nat) : Int)))), (2, .int (iI (((jct w f 0 : Nat) : Int)))), (0, .ref (a 0)), (1, .int (iI ((f : Int))))] dX1_reach_18 rfl hl (by decide) rfl (fun ls hl => ?_)
    have LP : ∀ (n : Nat) (i : Nat) (H : Heap) (locs : List Loc) (ls : Array Slot), 144 < i + n → i ≤ 144 → mG D a k A s (w, fa1) H locs → lv_has ls 4 [(3, .int (iI (((i : Nat) : Int)))), (2, .int (iI (((jct w f i : Nat) : Int)))), (0, .ref (a 0)), (1, .int (iI ((f : Int))))] → W p l e ({ frames := 2, cells := 0, slots := 0, locals := 51 }) s m ([.ref (a 0), .int (iI (f : Int))] : List Value).toArray below meth c H locs 0 0 (gQi below (fun r X => r = iI (jqr w (f : Int)) ∧ ∃ fa1 : Nat → Int, X = (w, fa1)) D (MT k) (MW a k) A ([.ref (a 0), .int (iI (f : Int))] : List Value).toArray s) (F0 m 19 ls []) := by
      intro n
      induction n with
      | zero =>
        intro i H locs ls hn hi
        omega
      | succ n ih =>
        intro i H locs ls hn hi G hl
        refine j_iload_n F dX1_reach_19 rfl (lv_at hl 0 rfl) ?_
        refine j_sipush F dX1_reach_20 (by decide +kernel) ?_
        refine j_icmp_ge F 44 dX1_reach_23 (by decide) (by omega) (fun c_23 => ?_) (fun c_23 => ?_)
        · skip
          refine j_iload_n F dX1_reach_44 rfl (lv_at hl 1 rfl) ?_
          exact g_iret F hr hlk rfl G ⟨by unfold jqr; rw [if_pos (jisf_nat hf hwf), Int.toNat_natCast, show (144 : Nat) = i by omega], fa1, rfl⟩ dX1_reach_45
        · skip
          have hm := menc_or (hfa i (by omega)).1
          have hm2 := (hfa i (by omega)).2
          refine j_aload_n F dX1_reach_26 rfl (lv_at hl 2 rfl) ?_
          refine m0_far F G dX1_reach_27 ?_
          refine j_iload_n F dX1_reach_30 rfl (lv_at hl 0 rfl) ?_
          refine m0_ldF F G (i) (by omega) (by omega) dX1_reach_31 ?_
          refine j_if_lt F 38 dX1_reach_32 (by decide) (by omega) (fun c_32 => ?_) (fun c_32 => ?_)
          · skip
            refine j_iinc F (((i + 1 : Nat) : Int)) [(3, .int (iI (((i + 1 : Nat) : Int)))), (2, .int (iI (((jct w f i : Nat) : Int)))), (0, .ref (a 0)), (1, .int (iI ((f : Int))))] (k := 0) dX1_reach_38 hl rfl (by omega) (by decide) rfl (fun ls hl => ?_)
            refine j_goto F 19 dX1_reach_41 (by decide) ?_
            have hx : jct w f (i + 1) = jct w f i := by
              conv => lhs; unfold jct
              rw [if_neg (by omega)]
            rw [← hx] at hl
            exact ih (i + 1) H locs ls (by omega) (by omega) G (lv_sub hl [0, 1, 2, 3] rfl)
          · skip
            refine j_iinc F (((jct w f i + 1 : Nat) : Int)) [(2, .int (iI (((jct w f i + 1 : Nat) : Int)))), (3, .int (iI (((i : Nat) : Int)))), (0, .ref (a 0)), (1, .int (iI ((f : Int))))] (k := 1) dX1_reach_35 hl rfl (by omega) (by decide) rfl (fun ls hl => ?_)
            refine j_iinc F (((i + 1 : Nat) : Int)) [(3, .int (iI (((i + 1 : Nat) : Int)))), (2, .int (iI (((jct w f i + 1 : Nat) : Int)))), (0, .ref (a 0)), (1, .int (iI ((f : Int))))] (k := 1) dX1_reach_38 hl rfl (by omega) (by decide) rfl (fun ls hl => ?_)
            refine j_goto F 19 dX1_reach_41 (by decide) ?_
            have hx : jct w f (i + 1) = jct w f i + 1 := by
              conv => lhs; unfold jct
              rw [if_pos (by omega)]
            rw [← hx] at hl
            exact ih (i + 1) H locs ls (by omega) (by omega) G (lv_sub hl [0, 1, 2, 3] rfl)
    exact LP 145 0 H locs ls (by omega) (by omega) G (lv_sub hl [0, 1, 2, 3] rfl)
  · skip
    refine j_iconst F dX1_reach_8 ?_
    exact g_iret F hr hlk rfl G ⟨by unfold jqr; rw [if_neg (by rw [bz_false c_5]; decide)], fa, rfl⟩ dX1_reach_9

set_option maxHeartbeats 4000000 in
set_option maxRecDepth 100000 in
theorem c1_at (l : Launch) (D : va_G) (a : Nat → Nat) (k : Nat → ClassId) (w : Nat → Bool) (fa : Nat → Int) (zf z : Int) (h : -2147483648 ≤ zf ∧ zf < 2147483648 ∧ -2147483648 ≤ z ∧ z < 2147483648) : gMi l yX1_at cX1_at 4 .int ({ frames := 2, cells := 0, slots := 0, locals := 51 }) D (MT k) (MW a k) [.ref (a 0), .int (iI zf), .int (iI z)] (w, fa) (fun r X => r = iI (jqa w zf z) ∧ ∃ fa1 : Nat → Int, X = (w, fa1)) := by
  refine gMi_of (by decide) (Nat.le_of_ble_eq_true rfl) ?_
  intro p e s m below meth c A ls F hr hlk hA G hl
  have F : CallFix p m c cX1_at 4 s ([.ref (a 0), .int (iI zf), .int (iI z)] : List Value).toArray lw_all RX1 := F
  have hl : lv_has ls 4 [(0, .ref (a 0)), (1, .int (iI zf)), (2, .int (iI z))] := hl
  refine j_aload_n F dX1_at_0 rfl (lv_at hl 0 rfl) ?_
  refine j_iload_n F dX1_at_1 rfl (lv_at hl 1 rfl) ?_
  refine k1_isFree F hA G zf (by omega) (by decide) hl.1 (Nat.le_of_ble_eq_true rfl) dX1_at_2 (fun H locs G => ?_)
  have hbzf := bz_in (jisf w zf)
  refine j_if_ne F 10 dX1_at_5 (by decide) (by omega) (fun c_5 => ?_) (fun c_5 => ?_)
  · skip
    obtain ⟨f, hf, ef, hwf⟩ := jisf_iff (bz_true c_5)
    subst ef
    refine j_aload_n F dX1_at_10 rfl (lv_at hl 0 rfl) ?_
    refine j_iload_n F dX1_at_11 rfl (lv_at hl 1 rfl) ?_
    refine k1_search F hA G f ⟨hf, hwf⟩ (by decide) hl.1 (Nat.le_of_ble_eq_true rfl) dX1_at_12 (fun fa1 H locs hfa G => ?_)
    refine j_iconst F dX1_at_15 ?_
    refine j_eq (((0 : Nat) : Int)) rfl ?_
    refine j_istore_n F [(3, .int (iI (((0 : Nat) : Int)))), (0, .ref (a 0)), (1, .int (iI ((f : Int)))), (2, .int (iI (z)))] dX1_at_16 rfl hl (by decide) rfl (fun ls hl => ?_)
    have LP : ∀ (n : Nat) (i : Nat) (H : Heap) (locs : List Loc) (ls : Array Slot), 144 < i + n → i ≤ 144 → jat w f z (144 - i) i = jat w f z 144 0 → mG D a k A s (w, fa1) H locs → lv_has ls 4 [(3, .int (iI (((i : Nat) : Int)))), (0, .ref (a 0)), (1, .int (iI ((f : Int)))), (2, .int (iI (z)))] → W p l e ({ frames := 2, cells := 0, slots := 0, locals := 51 }) s m ([.ref (a 0), .int (iI (f : Int)), .int (iI z)] : List Value).toArray below meth c H locs 0 0 (gQi below (fun r X => r = iI (jqa w (f : Int) z) ∧ ∃ fa1 : Nat → Int, X = (w, fa1)) D (MT k) (MW a k) A ([.ref (a 0), .int (iI (f : Int)), .int (iI z)] : List Value).toArray s) (F0 m 17 ls []) := by
      intro n
      induction n with
      | zero =>
        intro i H locs ls hn hi
        omega
      | succ n ih =>
        intro i H locs ls hn hi hj G hl
        refine j_iload_n F dX1_at_17 rfl (lv_at hl 0 rfl) ?_
        refine j_sipush F dX1_at_18 (by decide +kernel) ?_
        refine j_icmp_ge F 51 dX1_at_21 (by decide) (by omega) (fun c_21 => ?_) (fun c_21 => ?_)
        · skip
          refine j_bipush F dX1_at_51 (by decide +kernel) ?_
          have hn0 : i = 144 := by omega
          subst hn0
          exact g_iret F hr hlk rfl G ⟨by unfold jqa; rw [if_pos (jisf_nat hf hwf), Int.toNat_natCast, ← hj]; rfl, fa1, rfl⟩ dX1_at_53
        · skip
          rw [show 144 - i = (144 - (i + 1)) + 1 by omega] at hj
          have hm := menc_or (hfa i (by omega)).1
          have hm2 := (hfa i (by omega)).2
          refine j_aload_n F dX1_at_24 rfl (lv_at hl 1 rfl) ?_
          refine m0_far F G dX1_at_25 ?_
          refine j_iload_n F dX1_at_28 rfl (lv_at hl 0 rfl) ?_
          refine m0_ldF F G (i) (by omega) (by omega) dX1_at_29 ?_
          refine j_if_lt F 45 dX1_at_30 (by decide) (by omega) (fun c_30 => ?_) (fun c_30 => ?_)
          · skip
            refine j_iinc F (((i + 1 : Nat) : Int)) [(3, .int (iI (((i + 1 : Nat) : Int)))), (0, .ref (a 0)), (1, .int (iI ((f : Int)))), (2, .int (iI (z)))] (k := 0) dX1_at_45 hl rfl (by omega) (by decide) rfl (fun ls hl => ?_)
            refine j_goto F 17 dX1_at_48 (by decide) ?_
            exact ih (i + 1) H locs ls (by omega) (by omega) (by rw [← hj, jat_no (by omega)]) G (lv_sub hl [0, 1, 2, 3] rfl)
          · skip
            refine j_aload_n F dX1_at_33 rfl (lv_at hl 1 rfl) ?_
            refine m0_far F G dX1_at_34 ?_
            refine j_iload_n F dX1_at_37 rfl (lv_at hl 0 rfl) ?_
            refine m0_ldF F G (i) (by omega) (by omega) dX1_at_38 ?_
            refine j_iload_n F dX1_at_39 rfl (lv_at hl 3 rfl) ?_
            refine j_icmp_ne F 45 dX1_at_40 (by decide) (by omega) (fun c_40 => ?_) (fun c_40 => ?_)
            · skip
              refine j_iinc F (((i + 1 : Nat) : Int)) [(3, .int (iI (((i + 1 : Nat) : Int)))), (0, .ref (a 0)), (1, .int (iI ((f : Int)))), (2, .int (iI (z)))] (k := 0) dX1_at_45 hl rfl (by omega) (by decide) rfl (fun ls hl => ?_)
              refine j_goto F 17 dX1_at_48 (by decide) ?_
              exact ih (i + 1) H locs ls (by omega) (by omega) (by rw [← hj, jat_no (by omega)]) G (lv_sub hl [0, 1, 2, 3] rfl)
            · skip
              refine j_iload_n F dX1_at_43 rfl (lv_at hl 0 rfl) ?_
              exact g_iret F hr hlk rfl G ⟨by unfold jqa; rw [if_pos (jisf_nat hf hwf), Int.toNat_natCast, ← hj, jat_yes (by omega)], fa1, rfl⟩ dX1_at_44
    exact LP 145 0 H locs ls (by omega) (by omega) rfl G (lv_sub hl [0, 1, 2, 3] rfl)
  · skip
    refine j_iconst F dX1_at_8 ?_
    exact g_iret F hr hlk rfl G ⟨by unfold jqa; rw [if_neg (by rw [bz_false c_5]; decide)], fa, rfl⟩ dX1_at_9
end
section
def w0I (h0 : Nat) : va_W := [(h0, .inr (0, [.null, .null, .null, .null, .null, .int (iI 0), .int (iI 0), .int (iI 0)]))]
def w1I (h0 : Nat) : va_W := [(h0, .inr (1, [.null, .null]))]
def a5 (h0 q1 q2 q3 q4 q5 : Nat) : Nat → Nat := fun i => match i with
  | 0 => h0
  | 1 => q1
  | 2 => q2
  | 3 => q3
  | 4 => q4
  | _ => q5
def k5 (c1 c2 c3 c4 c5 : ClassId) : Nat → ClassId := fun i => match i with
  | 0 => c1
  | 1 => c1
  | 2 => c2
  | 3 => c3
  | 4 => c4
  | _ => c5
def jX0 : JX := (fun _ => false, fun _ => 0, fun _ => 0, fun _ => 0, fun _ => 0, 0, 0, 0)
def mX0 : MX := (fun _ => false, fun _ => 0)
set_option maxHeartbeats 4000000 in
set_option maxRecDepth 100000 in
theorem c0_init (l : Launch) (D : va_G) (h0 sz : Nat) : Met l yX0_init (ws_ yX0_init cX0_init 1 none) ({ frames := 1, cells := 5, slots := 720, locals := 12 }) (va_Pc [.ref h0] (fun U => U.heap.size = sz ∧ va_P D vwCl (w0I h0) U.heap ∧ va_K D vwCl [] U ∧ va_D (fun _ => True) (w0I h0))) (va_Qv (fun u : (Nat → Nat) × (Nat → ClassId) => u.1 0 = h0) (fun u t => gB D (JT u.2) (JW u.1 u.2) (va_A (w0I h0) sz) jX0 t) (va_A (w0I h0) sz)) 5 720 (va_A (w0I h0) sz) := by
  refine Met.ofW (cc := cX0_init) (maxL := 1) (ret := none) (by decide) rfl ?_
  intro p e s m args below meth c s₁ B hml hv
  obtain ⟨rfl, hsz, hP, hK, hD0⟩ := hv
  have hx := B.exec
  have hb := B.bytes
  have hr := B.returns
  have hts := atoms_spec (ws := ws_ yX0_init cX0_init 1 none) B.pre
  have hts : ∀ w ∈ lw_all, w.before _ s = true := fun w h => hts w (List.mem_cons_of_mem _ h)
  have hown : s.vm.findClass RX0 = some m.cls := findClass_of_methodNamed B.named
  have hlocks := B.notSynchronized
  have hin : meth.name = "<init>" := (name_of_methodNamed B.named B.method).1
  subst hsz
  have hD := hD0.self (sz := s.heap.size)
  generalize hAe : va_A (w0I h0) s.heap.size = A at hD ⊢
  have hA : ∀ q : Nat, s.heap.size ≤ q → A q := fun q h => by rw [← hAe]; exact Or.inr h
  have hS : va_S A s.heap s.heap [] := va_S.rf
  have hl := lv_entry ([.ref h0]) (n := 1) (Nat.le_of_ble_eq_true rfl)
  rw [lg_entry_eq]
  generalize (lg_sl ([.ref h0]) ++ List.replicate (1 - (lg_sl ([.ref h0])).length) Slot.unset).toArray = ls at hl ⊢
  have hl : lv_has ls 1 [(0, .ref h0)] := hl
  have hP : va_P D vwCl [(h0, .inr (0, [.null, .null, .null, .null, .null, .int (iI 0), .int (iI 0), .int (iI 0)]))] s.heap := hP
  have hD : va_D A [(h0, .inr (0, [.null, .null, .null, .null, .null, .int (iI 0), .int (iI 0), .int (iI 0)]))] := hD
  refine lv_aload_n hx hb dX0_init_0 rfl (lv_at hl 0 rfl) ?_
  refine W.objInit hx hb hown (hts _ q24) (hts _ q25) (hts _ q26) rfl (by rw [hml]; exact hl.1) rfl dX0_init_1 (Nat.le_of_ble_eq_true rfl) (Nat.le_of_ble_eq_true rfl) ?_
  refine W.eq (g2 := F0 m 4 ls []) rfl ?_
  refine lv_aload_n hx hb dX0_init_4 rfl (lv_at hl 0 rfl) ?_
  refine lv_sipush (v := 144) hx hb dX0_init_5 (by decide +kernel) ?_
  refine va_newa (atype := .boolean) (ty := .boolean) (N' := 144) (a0 := (144, .inl (aB (fun _ => false)))) hx hb (hts _ q52) rfl hK hP hD hS hA (fun cA => rfl) (by decide +kernel) (by decide +kernel) (by decide +kernel) (Nat.le_of_ble_eq_true rfl) (Nat.le_of_ble_eq_true rfl) dX0_init_8 (fun q1 c1 H hK hP hD hS => ?_)
  have hP : va_P D vwCl [(h0, .inr (0, [.null, .null, .null, .null, .null, .int (iI 0), .int (iI 0), .int (iI 0)])), (q1, .inl (c1, 144, .inl (aB (fun _ => false))))] H := hP
  have hD : va_D A [(h0, .inr (0, [.null, .null, .null, .null, .null, .int (iI 0), .int (iI 0), .int (iI 0)])), (q1, .inl (c1, 144, .inl (aB (fun _ => false))))] := hD
  have hK : va_K D vwCl [(c1, .boolean)] s := hK
  refine W.widen (k := 1) (n := 144) (Nat.le_of_ble_eq_true rfl) (Nat.le_of_ble_eq_true rfl) ?_
  refine va_putF (D := D) (ci := 0) (v := .ref q1) (ty := .array .boolean) (C := RX0) (T := TX0) (N := 8) hx hb hts in_X0 tyX0 tyX0_ok nmX0 hown hK hP hD hS 0 rfl rfl 0 (by decide) (hts _ q27) (fun _ h9 => h9) rfl hin rfl (by decide +kernel) rfl rfl (Nat.le_of_ble_eq_true rfl) dX0_init_10 (fun H locs hP hD hS => ?_)
  have hP : va_P D vwCl [(h0, .inr (0, [.ref q1, .null, .null, .null, .null, .int (iI 0), .int (iI 0), .int (iI 0)])), (q1, .inl (c1, 144, .inl (aB (fun _ => false))))] H := hP
  have hD : va_D A [(h0, .inr (0, [.ref q1, .null, .null, .null, .null, .int (iI 0), .int (iI 0), .int (iI 0)])), (q1, .inl (c1, 144, .inl (aB (fun _ => false))))] := hD
  refine lv_aload_n hx hb dX0_init_13 rfl (lv_at hl 0 rfl) ?_
  refine lv_sipush (v := 144) hx hb dX0_init_14 (by decide +kernel) ?_
  refine va_newa (atype := .short) (ty := .short) (N' := 144) (a0 := (144, .inl (aN (fun _ => 0)))) hx hb (hts _ q53) rfl hK hP hD hS hA (fun cA => rfl) (by decide +kernel) (by decide +kernel) (by decide +kernel) (Nat.le_of_ble_eq_true rfl) (Nat.le_of_ble_eq_true rfl) dX0_init_17 (fun q2 c2 H hK hP hD hS => ?_)
  have hP : va_P D vwCl [(h0, .inr (0, [.ref q1, .null, .null, .null, .null, .int (iI 0), .int (iI 0), .int (iI 0)])), (q1, .inl (c1, 144, .inl (aB (fun _ => false)))), (q2, .inl (c2, 144, .inl (aN (fun _ => 0))))] H := hP
  have hD : va_D A [(h0, .inr (0, [.ref q1, .null, .null, .null, .null, .int (iI 0), .int (iI 0), .int (iI 0)])), (q1, .inl (c1, 144, .inl (aB (fun _ => false)))), (q2, .inl (c2, 144, .inl (aN (fun _ => 0))))] := hD
  have hK : va_K D vwCl [(c1, .boolean), (c2, .short)] s := hK
  refine W.widen (k := 2) (n := 288) (Nat.le_of_ble_eq_true rfl) (Nat.le_of_ble_eq_true rfl) ?_
  refine va_putF (D := D) (ci := 0) (v := .ref q2) (ty := .array .short) (C := RX0) (T := TX0) (N := 8) hx hb hts in_X0 tyX0 tyX0_ok nmX0 hown hK hP hD hS 0 rfl rfl 1 (by decide) (hts _ q28) (fun _ h9 => h9) rfl hin rfl (by decide +kernel) rfl rfl (Nat.le_of_ble_eq_true rfl) dX0_init_19 (fun H locs hP hD hS => ?_)
  have hP : va_P D vwCl [(h0, .inr (0, [.ref q1, .ref q2, .null, .null, .null, .int (iI 0), .int (iI 0), .int (iI 0)])), (q1, .inl (c1, 144, .inl (aB (fun _ => false)))), (q2, .inl (c2, 144, .inl (aN (fun _ => 0))))] H := hP
  have hD : va_D A [(h0, .inr (0, [.ref q1, .ref q2, .null, .null, .null, .int (iI 0), .int (iI 0), .int (iI 0)])), (q1, .inl (c1, 144, .inl (aB (fun _ => false)))), (q2, .inl (c2, 144, .inl (aN (fun _ => 0))))] := hD
  refine lv_aload_n hx hb dX0_init_22 rfl (lv_at hl 0 rfl) ?_
  refine lv_sipush (v := 144) hx hb dX0_init_23 (by decide +kernel) ?_
  refine va_newa (atype := .short) (ty := .short) (N' := 144) (a0 := (144, .inl (aN (fun _ => 0)))) hx hb (hts _ q53) rfl hK hP hD hS hA (fun cA => rfl) (by decide +kernel) (by decide +kernel) (by decide +kernel) (Nat.le_of_ble_eq_true rfl) (Nat.le_of_ble_eq_true rfl) dX0_init_26 (fun q3 c3 H hK hP hD hS => ?_)
  have hP : va_P D vwCl [(h0, .inr (0, [.ref q1, .ref q2, .null, .null, .null, .int (iI 0), .int (iI 0), .int (iI 0)])), (q1, .inl (c1, 144, .inl (aB (fun _ => false)))), (q2, .inl (c2, 144, .inl (aN (fun _ => 0)))), (q3, .inl (c3, 144, .inl (aN (fun _ => 0))))] H := hP
  have hD : va_D A [(h0, .inr (0, [.ref q1, .ref q2, .null, .null, .null, .int (iI 0), .int (iI 0), .int (iI 0)])), (q1, .inl (c1, 144, .inl (aB (fun _ => false)))), (q2, .inl (c2, 144, .inl (aN (fun _ => 0)))), (q3, .inl (c3, 144, .inl (aN (fun _ => 0))))] := hD
  have hK : va_K D vwCl [(c1, .boolean), (c2, .short), (c3, .short)] s := hK
  refine W.widen (k := 3) (n := 432) (Nat.le_of_ble_eq_true rfl) (Nat.le_of_ble_eq_true rfl) ?_
  refine va_putF (D := D) (ci := 0) (v := .ref q3) (ty := .array .short) (C := RX0) (T := TX0) (N := 8) hx hb hts in_X0 tyX0 tyX0_ok nmX0 hown hK hP hD hS 0 rfl rfl 2 (by decide) (hts _ q29) (fun _ h9 => h9) rfl hin rfl (by decide +kernel) rfl rfl (Nat.le_of_ble_eq_true rfl) dX0_init_28 (fun H locs hP hD hS => ?_)
  have hP : va_P D vwCl [(h0, .inr (0, [.ref q1, .ref q2, .ref q3, .null, .null, .int (iI 0), .int (iI 0), .int (iI 0)])), (q1, .inl (c1, 144, .inl (aB (fun _ => false)))), (q2, .inl (c2, 144, .inl (aN (fun _ => 0)))), (q3, .inl (c3, 144, .inl (aN (fun _ => 0))))] H := hP
  have hD : va_D A [(h0, .inr (0, [.ref q1, .ref q2, .ref q3, .null, .null, .int (iI 0), .int (iI 0), .int (iI 0)])), (q1, .inl (c1, 144, .inl (aB (fun _ => false)))), (q2, .inl (c2, 144, .inl (aN (fun _ => 0)))), (q3, .inl (c3, 144, .inl (aN (fun _ => 0))))] := hD
  refine lv_aload_n hx hb dX0_init_31 rfl (lv_at hl 0 rfl) ?_
  refine lv_sipush (v := 144) hx hb dX0_init_32 (by decide +kernel) ?_
  refine va_newa (atype := .byte) (ty := .byte) (N' := 144) (a0 := (144, .inl (aN (fun _ => 0)))) hx hb (hts _ q54) rfl hK hP hD hS hA (fun cA => rfl) (by decide +kernel) (by decide +kernel) (by decide +kernel) (Nat.le_of_ble_eq_true rfl) (Nat.le_of_ble_eq_true rfl) dX0_init_35 (fun q4 c4 H hK hP hD hS => ?_)
  have hP : va_P D vwCl [(h0, .inr (0, [.ref q1, .ref q2, .ref q3, .null, .null, .int (iI 0), .int (iI 0), .int (iI 0)])), (q1, .inl (c1, 144, .inl (aB (fun _ => false)))), (q2, .inl (c2, 144, .inl (aN (fun _ => 0)))), (q3, .inl (c3, 144, .inl (aN (fun _ => 0)))), (q4, .inl (c4, 144, .inl (aN (fun _ => 0))))] H := hP
  have hD : va_D A [(h0, .inr (0, [.ref q1, .ref q2, .ref q3, .null, .null, .int (iI 0), .int (iI 0), .int (iI 0)])), (q1, .inl (c1, 144, .inl (aB (fun _ => false)))), (q2, .inl (c2, 144, .inl (aN (fun _ => 0)))), (q3, .inl (c3, 144, .inl (aN (fun _ => 0)))), (q4, .inl (c4, 144, .inl (aN (fun _ => 0))))] := hD
  have hK : va_K D vwCl [(c1, .boolean), (c2, .short), (c3, .short), (c4, .byte)] s := hK
  refine W.widen (k := 4) (n := 576) (Nat.le_of_ble_eq_true rfl) (Nat.le_of_ble_eq_true rfl) ?_
  refine va_putF (D := D) (ci := 0) (v := .ref q4) (ty := .array .byte) (C := RX0) (T := TX0) (N := 8) hx hb hts in_X0 tyX0 tyX0_ok nmX0 hown hK hP hD hS 0 rfl rfl 3 (by decide) (hts _ q30) (fun _ h9 => h9) rfl hin rfl (by decide +kernel) rfl rfl (Nat.le_of_ble_eq_true rfl) dX0_init_37 (fun H locs hP hD hS => ?_)
  have hP : va_P D vwCl [(h0, .inr (0, [.ref q1, .ref q2, .ref q3, .ref q4, .null, .int (iI 0), .int (iI 0), .int (iI 0)])), (q1, .inl (c1, 144, .inl (aB (fun _ => false)))), (q2, .inl (c2, 144, .inl (aN (fun _ => 0)))), (q3, .inl (c3, 144, .inl (aN (fun _ => 0)))), (q4, .inl (c4, 144, .inl (aN (fun _ => 0))))] H := hP
  have hD : va_D A [(h0, .inr (0, [.ref q1, .ref q2, .ref q3, .ref q4, .null, .int (iI 0), .int (iI 0), .int (iI 0)])), (q1, .inl (c1, 144, .inl (aB (fun _ => false)))), (q2, .inl (c2, 144, .inl (aN (fun _ => 0)))), (q3, .inl (c3, 144, .inl (aN (fun _ => 0)))), (q4, .inl (c4, 144, .inl (aN (fun _ => 0))))] := hD
  refine lv_aload_n hx hb dX0_init_40 rfl (lv_at hl 0 rfl) ?_
  refine lv_sipush (v := 144) hx hb dX0_init_41 (by decide +kernel) ?_
  refine va_newa (atype := .short) (ty := .short) (N' := 144) (a0 := (144, .inl (aN (fun _ => 0)))) hx hb (hts _ q53) rfl hK hP hD hS hA (fun cA => rfl) (by decide +kernel) (by decide +kernel) (by decide +kernel) (Nat.le_of_ble_eq_true rfl) (Nat.le_of_ble_eq_true rfl) dX0_init_44 (fun q5 c5 H hK hP hD hS => ?_)
  have hP : va_P D vwCl [(h0, .inr (0, [.ref q1, .ref q2, .ref q3, .ref q4, .null, .int (iI 0), .int (iI 0), .int (iI 0)])), (q1, .inl (c1, 144, .inl (aB (fun _ => false)))), (q2, .inl (c2, 144, .inl (aN (fun _ => 0)))), (q3, .inl (c3, 144, .inl (aN (fun _ => 0)))), (q4, .inl (c4, 144, .inl (aN (fun _ => 0)))), (q5, .inl (c5, 144, .inl (aN (fun _ => 0))))] H := hP
  have hD : va_D A [(h0, .inr (0, [.ref q1, .ref q2, .ref q3, .ref q4, .null, .int (iI 0), .int (iI 0), .int (iI 0)])), (q1, .inl (c1, 144, .inl (aB (fun _ => false)))), (q2, .inl (c2, 144, .inl (aN (fun _ => 0)))), (q3, .inl (c3, 144, .inl (aN (fun _ => 0)))), (q4, .inl (c4, 144, .inl (aN (fun _ => 0)))), (q5, .inl (c5, 144, .inl (aN (fun _ => 0))))] := hD
  have hK : va_K D vwCl [(c1, .boolean), (c2, .short), (c3, .short), (c4, .byte), (c5, .short)] s := hK
  refine W.widen (k := 5) (n := 720) (Nat.le_of_ble_eq_true rfl) (Nat.le_of_ble_eq_true rfl) ?_
  refine va_putF (D := D) (ci := 0) (v := .ref q5) (ty := .array .short) (C := RX0) (T := TX0) (N := 8) hx hb hts in_X0 tyX0 tyX0_ok nmX0 hown hK hP hD hS 0 rfl rfl 4 (by decide) (hts _ q31) (fun _ h9 => h9) rfl hin rfl (by decide +kernel) rfl rfl (Nat.le_of_ble_eq_true rfl) dX0_init_46 (fun H locs hP hD hS => ?_)
  have hP : va_P D vwCl [(h0, .inr (0, [.ref q1, .ref q2, .ref q3, .ref q4, .ref q5, .int (iI 0), .int (iI 0), .int (iI 0)])), (q1, .inl (c1, 144, .inl (aB (fun _ => false)))), (q2, .inl (c2, 144, .inl (aN (fun _ => 0)))), (q3, .inl (c3, 144, .inl (aN (fun _ => 0)))), (q4, .inl (c4, 144, .inl (aN (fun _ => 0)))), (q5, .inl (c5, 144, .inl (aN (fun _ => 0))))] H := hP
  have hD : va_D A [(h0, .inr (0, [.ref q1, .ref q2, .ref q3, .ref q4, .ref q5, .int (iI 0), .int (iI 0), .int (iI 0)])), (q1, .inl (c1, 144, .inl (aB (fun _ => false)))), (q2, .inl (c2, 144, .inl (aN (fun _ => 0)))), (q3, .inl (c3, 144, .inl (aN (fun _ => 0)))), (q4, .inl (c4, 144, .inl (aN (fun _ => 0)))), (q5, .inl (c5, 144, .inl (aN (fun _ => 0))))] := hD
  have hP : va_P D vwCl (JW (a5 h0 q1 q2 q3 q4 q5, k5 c1 c2 c3 c4 c5).1 (a5 h0 q1 q2 q3 q4 q5, k5 c1 c2 c3 c4 c5).2 jX0) H := hP
  have hD : va_D A (JW (a5 h0 q1 q2 q3 q4 q5, k5 c1 c2 c3 c4 c5).1 (a5 h0 q1 q2 q3 q4 q5, k5 c1 c2 c3 c4 c5).2 jX0) := hD
  have hK : va_K D vwCl (JT (a5 h0 q1 q2 q3 q4 q5, k5 c1 c2 c3 c4 c5).2) s := hK
  exact W.vret hx hb hr (fun t ht hW => ⟨⟨(a5 h0 q1 q2 q3 q4 q5, k5 c1 c2 c3 c4 c5), rfl, rfl, by rw [ht]; exact hP, va_K.moved hW.alike hK, hD⟩, hS.F ht⟩) hS.2.2 dX0_init_49
set_option maxHeartbeats 4000000 in
set_option maxRecDepth 100000 in
theorem c1_init (l : Launch) (D : va_G) (h0 sz : Nat) : Met l yX1_init (ws_ yX1_init cX1_init 1 none) ({ frames := 1, cells := 2, slots := 288, locals := 12 }) (va_Pc [.ref h0] (fun U => U.heap.size = sz ∧ va_P D vwCl (w1I h0) U.heap ∧ va_K D vwCl [] U ∧ va_D (fun _ => True) (w1I h0))) (va_Qv (fun u : (Nat → Nat) × (Nat → ClassId) => u.1 0 = h0) (fun u t => gB D (MT u.2) (MW u.1 u.2) (va_A (w1I h0) sz) mX0 t) (va_A (w1I h0) sz)) 2 288 (va_A (w1I h0) sz) := by
  refine Met.ofW (cc := cX1_init) (maxL := 1) (ret := none) (by decide) rfl ?_
  intro p e s m args below meth c s₁ B hml hv
  obtain ⟨rfl, hsz, hP, hK, hD0⟩ := hv
  have hx := B.exec
  have hb := B.bytes
  have hr := B.returns
  have hts := atoms_spec (ws := ws_ yX1_init cX1_init 1 none) B.pre
  have hts : ∀ w ∈ lw_all, w.before _ s = true := fun w h => hts w (List.mem_cons_of_mem _ h)
  have hown : s.vm.findClass RX1 = some m.cls := findClass_of_methodNamed B.named
  have hlocks := B.notSynchronized
  have hin : meth.name = "<init>" := (name_of_methodNamed B.named B.method).1
  subst hsz
  have hD := hD0.self (sz := s.heap.size)
  generalize hAe : va_A (w1I h0) s.heap.size = A at hD ⊢
  have hA : ∀ q : Nat, s.heap.size ≤ q → A q := fun q h => by rw [← hAe]; exact Or.inr h
  have hS : va_S A s.heap s.heap [] := va_S.rf
  have hl := lv_entry ([.ref h0]) (n := 1) (Nat.le_of_ble_eq_true rfl)
  rw [lg_entry_eq]
  generalize (lg_sl ([.ref h0]) ++ List.replicate (1 - (lg_sl ([.ref h0])).length) Slot.unset).toArray = ls at hl ⊢
  have hl : lv_has ls 1 [(0, .ref h0)] := hl
  have hP : va_P D vwCl [(h0, .inr (1, [.null, .null]))] s.heap := hP
  have hD : va_D A [(h0, .inr (1, [.null, .null]))] := hD
  refine lv_aload_n hx hb dX1_init_0 rfl (lv_at hl 0 rfl) ?_
  refine W.objInit hx hb hown (hts _ q144) (hts _ q25) (hts _ q26) rfl (by rw [hml]; exact hl.1) rfl dX1_init_1 (Nat.le_of_ble_eq_true rfl) (Nat.le_of_ble_eq_true rfl) ?_
  refine W.eq (g2 := F0 m 4 ls []) rfl ?_
  refine lv_aload_n hx hb dX1_init_4 rfl (lv_at hl 0 rfl) ?_
  refine lv_sipush (v := 144) hx hb dX1_init_5 (by decide +kernel) ?_
  refine va_newa (atype := .boolean) (ty := .boolean) (N' := 144) (a0 := (144, .inl (aB (fun _ => false)))) hx hb (hts _ q52) rfl hK hP hD hS hA (fun cA => rfl) (by decide +kernel) (by decide +kernel) (by decide +kernel) (Nat.le_of_ble_eq_true rfl) (Nat.le_of_ble_eq_true rfl) dX1_init_8 (fun q1 c1 H hK hP hD hS => ?_)
  have hP : va_P D vwCl [(h0, .inr (1, [.null, .null])), (q1, .inl (c1, 144, .inl (aB (fun _ => false))))] H := hP
  have hD : va_D A [(h0, .inr (1, [.null, .null])), (q1, .inl (c1, 144, .inl (aB (fun _ => false))))] := hD
  have hK : va_K D vwCl [(c1, .boolean)] s := hK
  refine W.widen (k := 1) (n := 144) (Nat.le_of_ble_eq_true rfl) (Nat.le_of_ble_eq_true rfl) ?_
  refine va_put (D := D) (ci := 1) (v := .ref q1) (ty := .array .boolean) (C := RX1) (T := TX1) (N := 2) hx hb hts in_X1 tyX1 tyX1_ok nmX1 hown hK hP hD hS 0 rfl rfl 0 (by decide) (hts _ q145) (fun _ h9 => h9) rfl (by decide +kernel) rfl rfl (Nat.le_of_ble_eq_true rfl) dX1_init_10 (fun H locs hP hD hS => ?_)
  have hP : va_P D vwCl [(h0, .inr (1, [.ref q1, .null])), (q1, .inl (c1, 144, .inl (aB (fun _ => false))))] H := hP
  have hD : va_D A [(h0, .inr (1, [.ref q1, .null])), (q1, .inl (c1, 144, .inl (aB (fun _ => false))))] := hD
  refine lv_aload_n hx hb dX1_init_13 rfl (lv_at hl 0 rfl) ?_
  refine lv_sipush (v := 144) hx hb dX1_init_14 (by decide +kernel) ?_
  refine va_newa (atype := .int) (ty := .int) (N' := 144) (a0 := (144, .inl (aI (fun _ => 0)))) hx hb (hts _ q152) rfl hK hP hD hS hA (fun cA => rfl) (by decide +kernel) (by decide +kernel) (by decide +kernel) (Nat.le_of_ble_eq_true rfl) (Nat.le_of_ble_eq_true rfl) dX1_init_17 (fun q2 c2 H hK hP hD hS => ?_)
  have hP : va_P D vwCl [(h0, .inr (1, [.ref q1, .null])), (q1, .inl (c1, 144, .inl (aB (fun _ => false)))), (q2, .inl (c2, 144, .inl (aI (fun _ => 0))))] H := hP
  have hD : va_D A [(h0, .inr (1, [.ref q1, .null])), (q1, .inl (c1, 144, .inl (aB (fun _ => false)))), (q2, .inl (c2, 144, .inl (aI (fun _ => 0))))] := hD
  have hK : va_K D vwCl [(c1, .boolean), (c2, .int)] s := hK
  refine W.widen (k := 2) (n := 288) (Nat.le_of_ble_eq_true rfl) (Nat.le_of_ble_eq_true rfl) ?_
  refine va_put (D := D) (ci := 1) (v := .ref q2) (ty := .array .int) (C := RX1) (T := TX1) (N := 2) hx hb hts in_X1 tyX1 tyX1_ok nmX1 hown hK hP hD hS 0 rfl rfl 1 (by decide) (hts _ q146) (fun _ h9 => h9) rfl (by decide +kernel) rfl rfl (Nat.le_of_ble_eq_true rfl) dX1_init_19 (fun H locs hP hD hS => ?_)
  have hP : va_P D vwCl [(h0, .inr (1, [.ref q1, .ref q2])), (q1, .inl (c1, 144, .inl (aB (fun _ => false)))), (q2, .inl (c2, 144, .inl (aI (fun _ => 0))))] H := hP
  have hD : va_D A [(h0, .inr (1, [.ref q1, .ref q2])), (q1, .inl (c1, 144, .inl (aB (fun _ => false)))), (q2, .inl (c2, 144, .inl (aI (fun _ => 0))))] := hD
  have hP : va_P D vwCl (MW (a5 h0 q1 q2 q2 q2 q2, k5 c1 c2 c2 c2 c2).1 (a5 h0 q1 q2 q2 q2 q2, k5 c1 c2 c2 c2 c2).2 mX0) H := hP
  have hD : va_D A (MW (a5 h0 q1 q2 q2 q2 q2, k5 c1 c2 c2 c2 c2).1 (a5 h0 q1 q2 q2 q2 q2, k5 c1 c2 c2 c2 c2).2 mX0) := hD
  have hK : va_K D vwCl (MT (a5 h0 q1 q2 q2 q2 q2, k5 c1 c2 c2 c2 c2).2) s := hK
  exact W.vret hx hb hr (fun t ht hW => ⟨⟨(a5 h0 q1 q2 q2 q2 q2, k5 c1 c2 c2 c2 c2), rfl, rfl, by rw [ht]; exact hP, va_K.moved hW.alike hK, hD⟩, hS.F ht⟩) hS.2.2 dX1_init_22
end
section
/-! THE CLAIM OUT OF ONE WALK OF THE LAW'S BODY. Your part is whole_start (and what it stands on); all else here is the same for every law, but numbers. -/
def R_law : String := "JumpPointsLaw"
def lw_P (b : Addr) (xs : List Int32) (args : Array Value) (s : State) : Prop := args = #[.ref b] ∧ s.IntsAt b xs ∧ xs.length ≤ 256 ∧ (Jvm.Cond.and given_1 narrow_1).before args s = true
def lw_Q (_ : Array Value) (s : State) (o : Outcome) (t : State) : Prop := o = .returned (some (.int 1)) ∧ Framed s o t [] 600000 7290000
def lw_Z (below : List Frame) (a : Array Value) (s : State) : State → Prop := fun t => ∃ o, t.status = .running ∧ Ended t below o ∧ lw_Q a s o t
/-- the law's own end, with 1 on the stack, nothing written that was there before, its room as the claim has it -/
theorem lw_ret {p : Program} {l : Launch} {e : Env} {s : State} {m : MethodId} {below : List Frame} {meth : Method} {c : Code} {b : Nat} (hx : p.tables.exec = Jvm.exec) (hb : c.code = code) (hr : meth.sig.returnType = ret) (hlocks : meth.locks = false) {pc : Nat} {H : Heap} {ls : Array Slot} (hdg : decode code pc = .ok (.ireturn, 1)) : W p l e room_1 s m #[Value.ref b] below meth c H [] 600000 7290000 (lw_Z below #[Value.ref b] s) (F0 m pc ls [.int 1]) := by
  intro T hT X
  obtain ⟨fs, hret, hrun, hended, hW, hframe⟩ := X.leave (v := some (.int 1)) (hlocks := hlocks) (fun h => by rw [hr] at h; cases h)
  have hmeth' : T.vm.method? m = some meth := X.method'
  refine ⟨T.setFrames fs, ?_, .returned (some (.int 1)), hrun, hended, rfl, ⟨_, rfl⟩, hW, hframe⟩
  jvm_step X.here [X.here.top, hx, hb, hdg, hmeth', hr, ret, narrow_b1]
  (try refine ⟨rfl, ?_⟩); (try refine ⟨rfl, ?_⟩)
  first | (intro acts; rw [hret _ acts rfl rfl rfl]) | rw [hret _ _ rfl rfl rfl]
  exact Steps.refl _
/-- what holds at the law's entry: the machine, the code, the tables' words (any of lw_tbl by 'hts w (by decide +kernel)'), the script of L ints xs at the cell b, what the Statement gives of the start (any of its parts by flat_of_before) -/
def lw_At (p : Program) (s : State) (m : MethodId) (meth : Method) (c : Code) (b L : Nat) (xs : Nat → Int32) : Prop :=
  p.tables.exec = Jvm.exec ∧ c.code = code ∧ meth.sig.returnType = ret ∧ c.maxLocals = 4 ∧ s.vm.findClass R_law = some m.cls ∧ (∀ w ∈ lw_tbl, w.before #[Value.ref b] s = true) ∧ va_X b L xs s s.heap ∧ b < s.heap.size ∧ meth.locks = false ∧ (Jvm.Cond.and given_1 narrow_1).before #[Value.ref b] s = true
section LW1
variable {σ : Type} {D : va_G} {V : σ → va_W} {A : Nat → Prop} {x : σ}
/-- behind a call: the callee's world, and the rest of the caller's, which is unchanged -/
theorem g_join {x' : σ} {rr : va_W} {H H1 : Heap} (hV : gSame V) (hP : va_P D vwCl (V x ++ rr) H) (hD : va_D A (V x ++ rr)) (hk : ∀ q : Nat, q < H.size → ¬ gA V H.size q → H1[q]? = H[q]?) (hF : ∀ q, gA V H.size q → A q) (hP1 : va_P D vwCl (V x') H1) (hD1 : va_D (gA V H.size) (V x')) : va_P D vwCl (V x' ++ rr) H1 ∧ va_D A (V x' ++ rr) := by
  have hat : ∀ (k : Nat) (q : Nat × va_E), rr[k]? = some q → (V x ++ rr)[(V x).length + k]? = some q := by
    intro k q h
    rw [List.getElem?_append_right (by omega), Nat.add_sub_cancel_left]
    exact h
  have hav : ∀ (k : Nat) (q : Nat × va_E), (V x)[k]? = some q → (V x ++ rr)[k]? = some q := by
    intro k q h
    rw [List.getElem?_append_left (List.getElem?_eq_some_iff.mp h).1]
    exact h
  have apart : ∀ (k : Nat) (q : Nat × va_E), rr[k]? = some q → ∀ (x2 : σ) (i : Nat) (q2 : Nat × va_E), (V x2)[i]? = some q2 → q2.1 ≠ q.1 := by
    intro k q h x2 i q2 h2 e
    obtain ⟨q3, h3, h4⟩ := hV x x2 i q2 h2
    have := hD.1 i ((V x).length + k) q3 q (hav i q3 h3) (hat k q h) (by rw [h4, e])
    have hl := (List.getElem?_eq_some_iff.mp h3).1
    omega
  have hkeep : ∀ (k : Nat) (q : Nat × va_E), rr[k]? = some q → H1[q.1]? = H[q.1]? := by
    intro k q h
    have hl := (hP _ q (hat k q h)).lt
    refine hk q.1 hl ?_
    rintro (⟨x2, i, e, h2⟩ | h2)
    · exact apart k q h x2 i (q.1, e) h2 rfl
    · omega
  refine ⟨va_P.app hP1 (fun k q h => (hP _ q (hat k q h)).kept (hkeep k q h)), va_D.app (hD1.weaken (fun _ q _ h => hF q.1 h)) ⟨fun i j p q h1 h2 e => ?_, fun k q h => hD.2 _ q (hat k q h)⟩ (fun i j p q h1 h2 e => apart j q h2 x' i p h1 e)⟩
  have := hD.1 _ _ p q (hat i p h1) (hat j q h2) e
  omega
end LW1
section LW2
variable {σ : Type} {p : Program} {l : Launch} {e : Env} {R : Room} {s : State} {m : MethodId} {args : Array Value} {below : List Frame} {meth : Method} {c : Code} {H : Heap} {locs : List Loc} {cells slots : Nat} {Q : State → Prop}
variable {cc : ByteArray} {pc : Nat} {ls : Array Slot} {rest st0 : List Value} {nL : Nat} {own : String}
variable {D : va_G} {tys : List (ClassId × FieldType)} {V : σ → va_W} {A : Nat → Prop} {x : σ}
theorem g_callR {C : String} {y : MethodName} {bytes : ByteArray} {maxL idx b : Nat} {ret : FieldType} {rm : Room} {post : Int32 → σ → Prop} {As : List Value} {rr : va_W} (F : CallFix p m c cc nL s args lw_all own) (hA : ∀ q, s.heap.size ≤ q → A q) (hV : gSame V) (hK : va_K D vwCl tys s) (hP : va_P D vwCl (V x ++ rr) H) (hD : va_D A (V x ++ rr)) (hS : va_S A s.heap H locs)
    (hM : gMi l y bytes maxL ret rm D tys V (.ref b :: As) x post) (cw : CallW R s args own C idx y bytes maxL (some ret) (ws_ y bytes maxL (some ret)) rm 0 0 As.length) (hrec : ∃ cell : Cell, H[b]? = some cell ∧ cell.vm.isStatics = false ∧ s.vm.findClass C = some cell.cls)
    (hst : st0 = As.reverse ++ .ref b :: rest) (hc : cells ≤ R.cells ∧ slots ≤ R.slots) (hsz : ls.size = nL) (hroom : (rest.map fun v => v.category).sum ≤ 8) (hdg : decode cc pc = .ok (.invokevirtual idx, 3))
    (kk : ∀ (r : Int32) (x' : σ) (H1 : Heap) (locs1 : List Loc), post r x' → va_P D vwCl (V x' ++ rr) H1 → va_D A (V x' ++ rr) → va_S A s.heap H1 locs1 → W p l e R s m args below meth c H1 locs1 cells slots Q (F0 m (pc + 3) ls (.int r :: rest))) : W p l e R s m args below meth c H locs cells slots Q (F0 m pc ls st0) := by
  have hPV : va_P D vwCl (V x) H := fun k q h => hP k q (by rw [List.getElem?_append_left (List.getElem?_eq_some_iff.mp h).1]; exact h)
  have hDV : va_D A (V x) := ⟨fun i j p q h1 h2 e => hD.1 i j p q (by rw [List.getElem?_append_left (List.getElem?_eq_some_iff.mp h1).1]; exact h1) (by rw [List.getElem?_append_left (List.getElem?_eq_some_iff.mp h2).1]; exact h2) e, fun k q h => hD.2 k q (by rw [List.getElem?_append_left (List.getElem?_eq_some_iff.mp h).1]; exact h)⟩
  have hfree := gFree (x := x) hA hV ⟨hK, hPV, hDV, hS⟩
  refine va_calli (va_runV (As := As) (rest := rest) F (hM H.size) cw ⟨?_, hrec, fun U hU hW => ⟨rfl, by rw [hU], by rw [hU]; exact hPV, va_K.moved hW.alike hK, hDV.weaken (fun _ _ _ _ => trivial)⟩⟩ rfl rfl hsz hst (lv_room hroom) hdg hc) hS (fun q _ h => hfree q h) hfree (fun r x' t H1 locs1 ht hvm hp hB hz hk hS1 => ?_)
  · exact fun a U g mk q => by
      obtain ⟨q0, q1, qP, qK, qD⟩ := q
      exact ⟨q0, q1, qP, va_K.moved (u := U) (U := U.calling g mk a) (Vm.Alike.refl U.vm) qK, qD⟩
  · obtain ⟨hP1, hK1, hD1⟩ := hB
    rw [ht] at hP1
    obtain ⟨g1, g2⟩ := g_join hV hP hD hk hfree hP1 hD1
    exact kk r x' H1 locs1 hp g1 g2 hS1
/-- the law's world: both objects -/
def lG (D : va_G) (a : Nat → Nat) (k : Nat → ClassId) (mb : Nat → Nat) (k2 : Nat → ClassId) (A : Nat → Prop) (s : State) (X : JX) (Y : MX) (H : Heap) (locs : List Loc) : Prop := va_K D vwCl (JT k ++ MT k2) s ∧ va_P D vwCl (JW a k X ++ MW mb k2 Y) H ∧ va_D A (JW a k X ++ MW mb k2 Y) ∧ va_S A s.heap H locs
variable {a mb : Nat → Nat} {k k2 : Nat → ClassId} {w : Nat → Bool} {le dr ma op : Nat → Nat} {oc gl : Nat} {la : Int} {fa : Nat → Int} {w2 : Nat → Bool}
theorem l_callJ {y : MethodName} {bytes : ByteArray} {maxL idx : Nat} {ret : FieldType} {rm : Room} {post : Int32 → JX → Prop} {As : List Value} {Y : MX} (F : CallFix p m c cc nL s args lw_all own) (hA : ∀ q, s.heap.size ≤ q → A q) (G : lG D a k mb k2 A s (w, le, dr, ma, op, oc, gl, la) Y H locs)
    (hM : gMi l y bytes maxL ret rm D (JT k) (JW a k) (.ref (a 0) :: As) (w, le, dr, ma, op, oc, gl, la) post) (cw : CallW R s args own RX0 idx y bytes maxL (some ret) (ws_ y bytes maxL (some ret)) rm 0 0 As.length)
    (hst : st0 = As.reverse ++ .ref (a 0) :: rest) (hc : cells ≤ R.cells ∧ slots ≤ R.slots) (hsz : ls.size = nL) (hroom : (rest.map fun v => v.category).sum ≤ 8) (hdg : decode cc pc = .ok (.invokevirtual idx, 3))
    (kk : ∀ (r : Int32) (X : JX) (H1 : Heap) (locs1 : List Loc), post r X → lG D a k mb k2 A s X Y H1 locs1 → W p l e R s m args below meth c H1 locs1 cells slots Q (F0 m (pc + 3) ls (.int r :: rest))) : W p l e R s m args below meth c H locs cells slots Q (F0 m pc ls st0) := by
  obtain ⟨hK, hP, hD, hS⟩ := G
  exact g_callR F hA (JW_same a k) (hK.sub (tys' := JT k) [0, 1, 2, 3, 4] rfl) hP hD hS hM cw (va_recv hK hP (ci := 0) (q0 := 0) rfl rfl) hst hc hsz hroom hdg (fun r X H1 locs1 hp h1 h2 h3 => kk r X H1 locs1 hp ⟨hK, h1, h2, h3⟩)
theorem l_callM {y : MethodName} {bytes : ByteArray} {maxL idx : Nat} {ret : FieldType} {rm : Room} {post : Int32 → MX → Prop} {As : List Value} {X : JX} (F : CallFix p m c cc nL s args lw_all own) (hA : ∀ q, s.heap.size ≤ q → A q) (G : lG D a k mb k2 A s X (w2, fa) H locs)
    (hM : gMi l y bytes maxL ret rm D (MT k2) (MW mb k2) (.ref (mb 0) :: As) (w2, fa) post) (cw : CallW R s args own RX1 idx y bytes maxL (some ret) (ws_ y bytes maxL (some ret)) rm 0 0 As.length)
    (hst : st0 = As.reverse ++ .ref (mb 0) :: rest) (hc : cells ≤ R.cells ∧ slots ≤ R.slots) (hsz : ls.size = nL) (hroom : (rest.map fun v => v.category).sum ≤ 8) (hdg : decode cc pc = .ok (.invokevirtual idx, 3))
    (kk : ∀ (r : Int32) (Y : MX) (H1 : Heap) (locs1 : List Loc), post r Y → lG D a k mb k2 A s X Y H1 locs1 → W p l e R s m args below meth c H1 locs1 cells slots Q (F0 m (pc + 3) ls (.int r :: rest))) : W p l e R s m args below meth c H locs cells slots Q (F0 m pc ls st0) := by
  obtain ⟨hK, hP, hD, hS⟩ := G
  have hP' : va_P D vwCl (MW mb k2 (w2, fa) ++ JW a k X) H := va_P.swap (a := []) hP
  have hD' : va_D A (MW mb k2 (w2, fa) ++ JW a k X) := va_D.swap (a := []) hD
  exact g_callR F hA (MW_same mb k2) (hK.sub (tys' := MT k2) [5, 6] rfl) hP' hD' hS hM cw (va_recv hK hP' (ci := 1) (q0 := 0) rfl rfl) hst hc hsz hroom hdg (fun r Y H1 locs1 hp h1 h2 h3 => kk r Y H1 locs1 hp ⟨hK, va_P.swap (a := []) h1, va_D.swap (a := []) h2, h3⟩)
theorem l_ld (F : CallFix p m c cc nL s args lw_all own) {sb L : Nat} {xs : Nat → Int32} (hX : va_X sb L xs s s.heap) (hbl : sb < s.heap.size) (hbA : ¬ A sb) (hS : va_S A s.heap H locs) {z : Int} (i : Nat) (hz : z = (i : Int)) (hi : i < L) (hL : L ≤ 256) {v : Int32} (hv : xs i = v) (hdg : decode cc pc = .ok (.iaload, 1)) (kk : W p l e R s m args below meth c H locs cells slots Q (F0 m (pc + 1) ls (.int v :: rest))) : W p l e R s m args below meth c H locs cells slots Q (F0 m pc ls (.int (iI z) :: .ref sb :: rest)) :=
  va_sld F.1 F.2.1 hX hbl hbA hS (iI_in hz hi (by omega)) hdg (by rw [iI_clamp hz (by omega), hv]; exact kk)
theorem l_len (F : CallFix p m c cc nL s args lw_all own) {sb L : Nat} {xs : Nat → Int32} (hX : va_X sb L xs s s.heap) (hbl : sb < s.heap.size) (hbA : ¬ A sb) (hS : va_S A s.heap H locs) (hdg : decode cc pc = .ok (.arraylength, 1)) (kk : W p l e R s m args below meth c H locs cells slots Q (F0 m (pc + 1) ls (.int (iI (L : Int)) :: rest))) : W p l e R s m args below meth c H locs cells slots Q (F0 m pc ls (.ref sb :: rest)) :=
  va_slen F.1 F.2.1 hX hbl hbA hS hdg (by rw [iI_nat] at kk; exact kk)
end LW2
end
section
set_option maxHeartbeats 4000000 in
set_option maxRecDepth 100000 in
theorem law_loop {p : Program} {e : Env} {s : State} {m : MethodId} {below : List Frame} {meth : Method} {c : Code} (l : Launch) {sb L : Nat} {xs : Nat → Int32} (hL : L ≤ 256) (F : CallFix p m c code 4 s #[Value.ref sb] lw_all R_law) (hr : meth.sig.returnType = ret) (hlocks : meth.locks = false) (hX : va_X sb L xs s s.heap) (hbl : sb < s.heap.size) (D : va_G) (a mb : Nat → Nat) (k k2 : Nat → ClassId) : ∀ (n i : Nat) (w : Nat → Bool) (le dr ma op : Nat → Nat) (oc gl : Nat) (la : Int) (fa : Nat → Int) (H : Heap) (locs : List Loc) (ls : Array Slot), L < i + n → i ≤ L → lG D a k mb k2 (fun q : Nat => s.heap.size ≤ q) s (w, le, dr, ma, op, oc, gl, la) (w, fa) H locs → lv_has ls 4 [(3, .int (iI (((i : Nat) : Int)))), (2, .ref (mb 0)), (1, .ref (a 0)), (0, .ref (sb))] → W p l e room_1 s m #[Value.ref sb] below meth c H locs 9 1018 (lw_Z below #[Value.ref sb] s) (F0 m 18 ls []) := by
  have hA : ∀ q : Nat, s.heap.size ≤ q → (fun q : Nat => s.heap.size ≤ q) q := fun _ h => h
  have hbA : ¬ (fun q : Nat => s.heap.size ≤ q) sb := Nat.not_le.mpr hbl
  intro n
  induction n with
  | zero =>
    intro i w le dr ma op oc gl la fa H locs ls hn hi
    omega
  | succ n ih =>
    intro i w le dr ma op oc gl la fa H locs ls hn hi G hl
    refine j_iload_n F dL_law_18 rfl (lv_at hl 0 rfl) ?_
    refine j_aload_n F dL_law_19 rfl (lv_at hl 3 rfl) ?_
    refine l_len F hX hbl hbA G.2.2.2 dL_law_20 ?_
    refine j_iconst F dL_law_21 ?_
    refine j_isub F dL_law_22 ?_
    refine j_icmp_gt F 409 dL_law_23 (by decide) (by omega) (fun c_23 => ?_) (fun c_23 => ?_)
    · refine lv_iconst (v := 1) F.1 F.2.1 dL_law_409 (by decide +kernel) ?_
      refine va_forget G.2.2.2.2.2 ?_
      refine W.widen (k := 600000) (n := 7290000) (Nat.le_of_ble_eq_true rfl) (Nat.le_of_ble_eq_true rfl) ?_
      exact lw_ret F.1 F.2.1 hr hlocks dL_law_410
    · obtain ⟨z1, e1, r1⟩ := iI_of (xs (i + 1))
      obtain ⟨z2, e2, r2⟩ := iI_of (xs (i + 2))
      obtain ⟨z3, e3, r3⟩ := iI_of (xs (i + 3))
      refine j_aload_n F dL_law_26 rfl (lv_at hl 3 rfl) ?_
      refine j_iload_n F dL_law_27 rfl (lv_at hl 0 rfl) ?_
      refine l_ld F hX hbl hbA G.2.2.2 i rfl (by omega) hL rfl dL_law_28 ?_
      refine j_bipush F dL_law_29 (by decide +kernel) ?_
      refine lv_iand F.1 F.2.1 dL_law_31 ?_
      obtain ⟨j, hj, ej⟩ := pk_andE (xs i) (m := iI 15) 4 (by decide +kernel)
      rw [ej]
      rcases (show j = 0 ∨ j = 1 ∨ j = 2 ∨ j = 3 ∨ j = 4 ∨ j = 5 ∨ j = 6 ∨ j = 7 ∨ j = 8 ∨ 9 ≤ j by omega) with rfl | rfl | rfl | rfl | rfl | rfl | rfl | rfl | rfl | h9
      · refine lv_tableIn (x := nI 0) (off := 52) (tgt := 84) F.1 F.2.1 dL_law_32 (by decide +kernel) (by decide +kernel) (by decide +kernel) (by decide) ?_
        refine j_aload_n F dL_law_84 rfl (lv_at hl 2 rfl) ?_
        refine j_aload_n F dL_law_85 rfl (lv_at hl 3 rfl) ?_
        refine j_iload_n F dL_law_86 rfl (lv_at hl 0 rfl) ?_
        refine j_iconst F dL_law_87 ?_
        refine j_iadd F dL_law_88 ?_
        refine l_ld F hX hbl hbA G.2.2.2 (i + 1) (by omega) (by omega) hL e1 dL_law_89 ?_
        refine j_aload_n F dL_law_90 rfl (lv_at hl 3 rfl) ?_
        refine j_iload_n F dL_law_91 rfl (lv_at hl 0 rfl) ?_
        refine j_iconst F dL_law_92 ?_
        refine j_iadd F dL_law_93 ?_
        refine l_ld F hX hbl hbA G.2.2.2 (i + 2) (by omega) (by omega) hL e2 dL_law_94 ?_
        refine j_if_eq F 102 dL_law_95 (by decide) (by omega) (fun c_95 => ?_) (fun c_95 => ?_)
        · skip
          refine j_iconst F dL_law_102 ?_
          refine j_eq (bz (!decide (z2 = 0))) (by rw [decide_eq_true c_95]; rfl) ?_
          refine l_callJ (As := [.int (iI z1), .int (iI (bz (!decide (z2 = 0))))]) (rest := []) F hA G (c0_wall l D a k w le dr ma op oc gl la z1 (!decide (z2 = 0)) (by omega)) (cwV 2 F.2.2.2.2 (lw_V q55 q56 q57 q17 q58) rfl rfl rfl (by decide +kernel) ⟨Nat.le_of_ble_eq_true rfl, Nat.le_of_ble_eq_true rfl⟩) rfl (by decide) hl.1 (Nat.le_of_ble_eq_true rfl) dL_law_103 (fun r X H locs hp G => ?_)
          obtain ⟨rfl, rfl⟩ := hp
          refine j_aload_n F dL_law_106 rfl (lv_at hl 1 rfl) ?_
          refine j_aload_n F dL_law_107 rfl (lv_at hl 3 rfl) ?_
          refine j_iload_n F dL_law_108 rfl (lv_at hl 0 rfl) ?_
          refine j_iconst F dL_law_109 ?_
          refine j_iadd F dL_law_110 ?_
          refine l_ld F hX hbl hbA G.2.2.2 (i + 1) (by omega) (by omega) hL e1 dL_law_111 ?_
          refine j_aload_n F dL_law_112 rfl (lv_at hl 3 rfl) ?_
          refine j_iload_n F dL_law_113 rfl (lv_at hl 0 rfl) ?_
          refine j_iconst F dL_law_114 ?_
          refine j_iadd F dL_law_115 ?_
          refine l_ld F hX hbl hbA G.2.2.2 (i + 2) (by omega) (by omega) hL e2 dL_law_116 ?_
          refine j_if_eq F 124 dL_law_117 (by decide) (by omega) (fun c_117 => ?_) (fun c_117 => ?_)
          · skip
            refine j_iconst F dL_law_124 ?_
            refine j_eq (bz (!decide (z2 = 0))) (by rw [decide_eq_true c_117]; rfl) ?_
            refine l_callM (As := [.int (iI z1), .int (iI (bz (!decide (z2 = 0))))]) (rest := [.int (iI (bz (jisc z1)))]) F hA G (c1_wall l D mb k2 w fa z1 (!decide (z2 = 0)) (by omega)) (cwV 2 F.2.2.2.2 (lw_V q153 q154 q155 q18 q156) rfl rfl rfl (by decide +kernel) ⟨Nat.le_of_ble_eq_true rfl, Nat.le_of_ble_eq_true rfl⟩) rfl (by decide) hl.1 (Nat.le_of_ble_eq_true rfl) dL_law_125 (fun r Y H locs hp G => ?_)
            obtain ⟨rfl, rfl⟩ := hp
            refine lv_icmp_eq (tgt := 403) F.1 F.2.1 dL_law_128 (by decide) (fun c_128 => ?_) (fun c_128 => ?_)
            · skip
              refine j_iinc F (((i + 4 : Nat) : Int)) [(3, .int (iI (((i + 4 : Nat) : Int)))), (2, .ref (mb 0)), (1, .ref (a 0)), (0, .ref (sb))] (k := 0) dL_law_403 hl rfl (by omega) (by decide) rfl (fun ls hl => ?_)
              refine j_goto F 18 dL_law_406 (by decide) ?_
              exact ih (i + 4) (jwal w z1 (!decide (z2 = 0))) le dr ma op oc gl la fa H locs ls (by omega) (by omega) G (lv_sub hl [0, 1, 2, 3] rfl)
            · skip
              exact absurd rfl c_128
          · skip
            refine j_iconst F dL_law_120 ?_
            refine j_goto F 125 dL_law_121 (by decide) ?_
            refine j_eq (bz (!decide (z2 = 0))) (by rw [decide_eq_false c_117]; rfl) ?_
            refine l_callM (As := [.int (iI z1), .int (iI (bz (!decide (z2 = 0))))]) (rest := [.int (iI (bz (jisc z1)))]) F hA G (c1_wall l D mb k2 w fa z1 (!decide (z2 = 0)) (by omega)) (cwV 2 F.2.2.2.2 (lw_V q153 q154 q155 q18 q156) rfl rfl rfl (by decide +kernel) ⟨Nat.le_of_ble_eq_true rfl, Nat.le_of_ble_eq_true rfl⟩) rfl (by decide) hl.1 (Nat.le_of_ble_eq_true rfl) dL_law_125 (fun r Y H locs hp G => ?_)
            obtain ⟨rfl, rfl⟩ := hp
            refine lv_icmp_eq (tgt := 403) F.1 F.2.1 dL_law_128 (by decide) (fun c_128 => ?_) (fun c_128 => ?_)
            · skip
              refine j_iinc F (((i + 4 : Nat) : Int)) [(3, .int (iI (((i + 4 : Nat) : Int)))), (2, .ref (mb 0)), (1, .ref (a 0)), (0, .ref (sb))] (k := 0) dL_law_403 hl rfl (by omega) (by decide) rfl (fun ls hl => ?_)
              refine j_goto F 18 dL_law_406 (by decide) ?_
              exact ih (i + 4) (jwal w z1 (!decide (z2 = 0))) le dr ma op oc gl la fa H locs ls (by omega) (by omega) G (lv_sub hl [0, 1, 2, 3] rfl)
            · skip
              exact absurd rfl c_128
        · skip
          refine j_iconst F dL_law_98 ?_
          refine j_goto F 103 dL_law_99 (by decide) ?_
          refine j_eq (bz (!decide (z2 = 0))) (by rw [decide_eq_false c_95]; rfl) ?_
          refine l_callJ (As := [.int (iI z1), .int (iI (bz (!decide (z2 = 0))))]) (rest := []) F hA G (c0_wall l D a k w le dr ma op oc gl la z1 (!decide (z2 = 0)) (by omega)) (cwV 2 F.2.2.2.2 (lw_V q55 q56 q57 q17 q58) rfl rfl rfl (by decide +kernel) ⟨Nat.le_of_ble_eq_true rfl, Nat.le_of_ble_eq_true rfl⟩) rfl (by decide) hl.1 (Nat.le_of_ble_eq_true rfl) dL_law_103 (fun r X H locs hp G => ?_)
          obtain ⟨rfl, rfl⟩ := hp
          refine j_aload_n F dL_law_106 rfl (lv_at hl 1 rfl) ?_
          refine j_aload_n F dL_law_107 rfl (lv_at hl 3 rfl) ?_
          refine j_iload_n F dL_law_108 rfl (lv_at hl 0 rfl) ?_
          refine j_iconst F dL_law_109 ?_
          refine j_iadd F dL_law_110 ?_
          refine l_ld F hX hbl hbA G.2.2.2 (i + 1) (by omega) (by omega) hL e1 dL_law_111 ?_
          refine j_aload_n F dL_law_112 rfl (lv_at hl 3 rfl) ?_
          refine j_iload_n F dL_law_113 rfl (lv_at hl 0 rfl) ?_
          refine j_iconst F dL_law_114 ?_
          refine j_iadd F dL_law_115 ?_
          refine l_ld F hX hbl hbA G.2.2.2 (i + 2) (by omega) (by omega) hL e2 dL_law_116 ?_
          refine j_if_eq F 124 dL_law_117 (by decide) (by omega) (fun c_117 => ?_) (fun c_117 => ?_)
          · skip
            refine j_iconst F dL_law_124 ?_
            refine j_eq (bz (!decide (z2 = 0))) (by rw [decide_eq_true c_117]; rfl) ?_
            refine l_callM (As := [.int (iI z1), .int (iI (bz (!decide (z2 = 0))))]) (rest := [.int (iI (bz (jisc z1)))]) F hA G (c1_wall l D mb k2 w fa z1 (!decide (z2 = 0)) (by omega)) (cwV 2 F.2.2.2.2 (lw_V q153 q154 q155 q18 q156) rfl rfl rfl (by decide +kernel) ⟨Nat.le_of_ble_eq_true rfl, Nat.le_of_ble_eq_true rfl⟩) rfl (by decide) hl.1 (Nat.le_of_ble_eq_true rfl) dL_law_125 (fun r Y H locs hp G => ?_)
            obtain ⟨rfl, rfl⟩ := hp
            refine lv_icmp_eq (tgt := 403) F.1 F.2.1 dL_law_128 (by decide) (fun c_128 => ?_) (fun c_128 => ?_)
            · skip
              refine j_iinc F (((i + 4 : Nat) : Int)) [(3, .int (iI (((i + 4 : Nat) : Int)))), (2, .ref (mb 0)), (1, .ref (a 0)), (0, .ref (sb))] (k := 0) dL_law_403 hl rfl (by omega) (by decide) rfl (fun ls hl => ?_)
              refine j_goto F 18 dL_law_406 (by decide) ?_
              exact ih (i + 4) (jwal w z1 (!decide (z2 = 0))) le dr ma op oc gl la fa H locs ls (by omega) (by omega) G (lv_sub hl [0, 1, 2, 3] rfl)
            · skip
              exact absurd rfl c_128
          · skip
            refine j_iconst F dL_law_120 ?_
            refine j_goto F 125 dL_law_121 (by decide) ?_
            refine j_eq (bz (!decide (z2 = 0))) (by rw [decide_eq_false c_117]; rfl) ?_
            refine l_callM (As := [.int (iI z1), .int (iI (bz (!decide (z2 = 0))))]) (rest := [.int (iI (bz (jisc z1)))]) F hA G (c1_wall l D mb k2 w fa z1 (!decide (z2 = 0)) (by omega)) (cwV 2 F.2.2.2.2 (lw_V q153 q154 q155 q18 q156) rfl rfl rfl (by decide +kernel) ⟨Nat.le_of_ble_eq_true rfl, Nat.le_of_ble_eq_true rfl⟩) rfl (by decide) hl.1 (Nat.le_of_ble_eq_true rfl) dL_law_125 (fun r Y H locs hp G => ?_)
            obtain ⟨rfl, rfl⟩ := hp
            refine lv_icmp_eq (tgt := 403) F.1 F.2.1 dL_law_128 (by decide) (fun c_128 => ?_) (fun c_128 => ?_)
            · skip
              refine j_iinc F (((i + 4 : Nat) : Int)) [(3, .int (iI (((i + 4 : Nat) : Int)))), (2, .ref (mb 0)), (1, .ref (a 0)), (0, .ref (sb))] (k := 0) dL_law_403 hl rfl (by omega) (by decide) rfl (fun ls hl => ?_)
              refine j_goto F 18 dL_law_406 (by decide) ?_
              exact ih (i + 4) (jwal w z1 (!decide (z2 = 0))) le dr ma op oc gl la fa H locs ls (by omega) (by omega) G (lv_sub hl [0, 1, 2, 3] rfl)
            · skip
              exact absurd rfl c_128
      · refine lv_tableIn (x := nI 1) (off := 101) (tgt := 133) F.1 F.2.1 dL_law_32 (by decide +kernel) (by decide +kernel) (by decide +kernel) (by decide) ?_
        refine j_aload_n F dL_law_133 rfl (lv_at hl 2 rfl) ?_
        refine j_aload_n F dL_law_134 rfl (lv_at hl 3 rfl) ?_
        refine j_iload_n F dL_law_135 rfl (lv_at hl 0 rfl) ?_
        refine j_iconst F dL_law_136 ?_
        refine j_iadd F dL_law_137 ?_
        refine l_ld F hX hbl hbA G.2.2.2 (i + 1) (by omega) (by omega) hL e1 dL_law_138 ?_
        refine j_aload_n F dL_law_139 rfl (lv_at hl 3 rfl) ?_
        refine j_iload_n F dL_law_140 rfl (lv_at hl 0 rfl) ?_
        refine j_iconst F dL_law_141 ?_
        refine j_iadd F dL_law_142 ?_
        refine l_ld F hX hbl hbA G.2.2.2 (i + 2) (by omega) (by omega) hL e2 dL_law_143 ?_
        refine j_if_eq F 151 dL_law_144 (by decide) (by omega) (fun c_144 => ?_) (fun c_144 => ?_)
        · skip
          refine j_iconst F dL_law_151 ?_
          refine j_eq (bz (!decide (z2 = 0))) (by rw [decide_eq_true c_144]; rfl) ?_
          refine l_callJ (As := [.int (iI z1), .int (iI (bz (!decide (z2 = 0))))]) (rest := []) F hA G (c0_block l D a k w le dr ma op oc gl la z1 (!decide (z2 = 0)) (by omega)) (cwV 2 F.2.2.2.2 (lw_V q59 q60 q61 q17 q62) rfl rfl rfl (by decide +kernel) ⟨Nat.le_of_ble_eq_true rfl, Nat.le_of_ble_eq_true rfl⟩) rfl (by decide) hl.1 (Nat.le_of_ble_eq_true rfl) dL_law_152 (fun r X H locs hp G => ?_)
          obtain ⟨rfl, rfl⟩ := hp
          refine j_aload_n F dL_law_155 rfl (lv_at hl 1 rfl) ?_
          refine j_aload_n F dL_law_156 rfl (lv_at hl 3 rfl) ?_
          refine j_iload_n F dL_law_157 rfl (lv_at hl 0 rfl) ?_
          refine j_iconst F dL_law_158 ?_
          refine j_iadd F dL_law_159 ?_
          refine l_ld F hX hbl hbA G.2.2.2 (i + 1) (by omega) (by omega) hL e1 dL_law_160 ?_
          refine j_aload_n F dL_law_161 rfl (lv_at hl 3 rfl) ?_
          refine j_iload_n F dL_law_162 rfl (lv_at hl 0 rfl) ?_
          refine j_iconst F dL_law_163 ?_
          refine j_iadd F dL_law_164 ?_
          refine l_ld F hX hbl hbA G.2.2.2 (i + 2) (by omega) (by omega) hL e2 dL_law_165 ?_
          refine j_if_eq F 173 dL_law_166 (by decide) (by omega) (fun c_166 => ?_) (fun c_166 => ?_)
          · skip
            refine j_iconst F dL_law_173 ?_
            refine j_eq (bz (!decide (z2 = 0))) (by rw [decide_eq_true c_166]; rfl) ?_
            refine l_callM (As := [.int (iI z1), .int (iI (bz (!decide (z2 = 0))))]) (rest := [.int (iI ((jblk w z1 (!decide (z2 = 0))).2))]) F hA G (c1_block l D mb k2 w fa z1 (!decide (z2 = 0)) (by omega)) (cwV 2 F.2.2.2.2 (lw_V q161 q162 q163 q18 q164) rfl rfl rfl (by decide +kernel) ⟨Nat.le_of_ble_eq_true rfl, Nat.le_of_ble_eq_true rfl⟩) rfl (by decide) hl.1 (Nat.le_of_ble_eq_true rfl) dL_law_174 (fun r Y H locs hp G => ?_)
            obtain ⟨rfl, rfl⟩ := hp
            refine lv_icmp_eq (tgt := 403) F.1 F.2.1 dL_law_177 (by decide) (fun c_177 => ?_) (fun c_177 => ?_)
            · skip
              refine j_iinc F (((i + 4 : Nat) : Int)) [(3, .int (iI (((i + 4 : Nat) : Int)))), (2, .ref (mb 0)), (1, .ref (a 0)), (0, .ref (sb))] (k := 0) dL_law_403 hl rfl (by omega) (by decide) rfl (fun ls hl => ?_)
              refine j_goto F 18 dL_law_406 (by decide) ?_
              exact ih (i + 4) (jblk w z1 (!decide (z2 = 0))).1 le dr ma op oc gl la fa H locs ls (by omega) (by omega) G (lv_sub hl [0, 1, 2, 3] rfl)
            · skip
              exact absurd rfl c_177
          · skip
            refine j_iconst F dL_law_169 ?_
            refine j_goto F 174 dL_law_170 (by decide) ?_
            refine j_eq (bz (!decide (z2 = 0))) (by rw [decide_eq_false c_166]; rfl) ?_
            refine l_callM (As := [.int (iI z1), .int (iI (bz (!decide (z2 = 0))))]) (rest := [.int (iI ((jblk w z1 (!decide (z2 = 0))).2))]) F hA G (c1_block l D mb k2 w fa z1 (!decide (z2 = 0)) (by omega)) (cwV 2 F.2.2.2.2 (lw_V q161 q162 q163 q18 q164) rfl rfl rfl (by decide +kernel) ⟨Nat.le_of_ble_eq_true rfl, Nat.le_of_ble_eq_true rfl⟩) rfl (by decide) hl.1 (Nat.le_of_ble_eq_true rfl) dL_law_174 (fun r Y H locs hp G => ?_)
            obtain ⟨rfl, rfl⟩ := hp
            refine lv_icmp_eq (tgt := 403) F.1 F.2.1 dL_law_177 (by decide) (fun c_177 => ?_) (fun c_177 => ?_)
            · skip
              refine j_iinc F (((i + 4 : Nat) : Int)) [(3, .int (iI (((i + 4 : Nat) : Int)))), (2, .ref (mb 0)), (1, .ref (a 0)), (0, .ref (sb))] (k := 0) dL_law_403 hl rfl (by omega) (by decide) rfl (fun ls hl => ?_)
              refine j_goto F 18 dL_law_406 (by decide) ?_
              exact ih (i + 4) (jblk w z1 (!decide (z2 = 0))).1 le dr ma op oc gl la fa H locs ls (by omega) (by omega) G (lv_sub hl [0, 1, 2, 3] rfl)
            · skip
              exact absurd rfl c_177
        · skip
          refine j_iconst F dL_law_147 ?_
          refine j_goto F 152 dL_law_148 (by decide) ?_
          refine j_eq (bz (!decide (z2 = 0))) (by rw [decide_eq_false c_144]; rfl) ?_
          refine l_callJ (As := [.int (iI z1), .int (iI (bz (!decide (z2 = 0))))]) (rest := []) F hA G (c0_block l D a k w le dr ma op oc gl la z1 (!decide (z2 = 0)) (by omega)) (cwV 2 F.2.2.2.2 (lw_V q59 q60 q61 q17 q62) rfl rfl rfl (by decide +kernel) ⟨Nat.le_of_ble_eq_true rfl, Nat.le_of_ble_eq_true rfl⟩) rfl (by decide) hl.1 (Nat.le_of_ble_eq_true rfl) dL_law_152 (fun r X H locs hp G => ?_)
          obtain ⟨rfl, rfl⟩ := hp
          refine j_aload_n F dL_law_155 rfl (lv_at hl 1 rfl) ?_
          refine j_aload_n F dL_law_156 rfl (lv_at hl 3 rfl) ?_
          refine j_iload_n F dL_law_157 rfl (lv_at hl 0 rfl) ?_
          refine j_iconst F dL_law_158 ?_
          refine j_iadd F dL_law_159 ?_
          refine l_ld F hX hbl hbA G.2.2.2 (i + 1) (by omega) (by omega) hL e1 dL_law_160 ?_
          refine j_aload_n F dL_law_161 rfl (lv_at hl 3 rfl) ?_
          refine j_iload_n F dL_law_162 rfl (lv_at hl 0 rfl) ?_
          refine j_iconst F dL_law_163 ?_
          refine j_iadd F dL_law_164 ?_
          refine l_ld F hX hbl hbA G.2.2.2 (i + 2) (by omega) (by omega) hL e2 dL_law_165 ?_
          refine j_if_eq F 173 dL_law_166 (by decide) (by omega) (fun c_166 => ?_) (fun c_166 => ?_)
          · skip
            refine j_iconst F dL_law_173 ?_
            refine j_eq (bz (!decide (z2 = 0))) (by rw [decide_eq_true c_166]; rfl) ?_
            refine l_callM (As := [.int (iI z1), .int (iI (bz (!decide (z2 = 0))))]) (rest := [.int (iI ((jblk w z1 (!decide (z2 = 0))).2))]) F hA G (c1_block l D mb k2 w fa z1 (!decide (z2 = 0)) (by omega)) (cwV 2 F.2.2.2.2 (lw_V q161 q162 q163 q18 q164) rfl rfl rfl (by decide +kernel) ⟨Nat.le_of_ble_eq_true rfl, Nat.le_of_ble_eq_true rfl⟩) rfl (by decide) hl.1 (Nat.le_of_ble_eq_true rfl) dL_law_174 (fun r Y H locs hp G => ?_)
            obtain ⟨rfl, rfl⟩ := hp
            refine lv_icmp_eq (tgt := 403) F.1 F.2.1 dL_law_177 (by decide) (fun c_177 => ?_) (fun c_177 => ?_)
            · skip
              refine j_iinc F (((i + 4 : Nat) : Int)) [(3, .int (iI (((i + 4 : Nat) : Int)))), (2, .ref (mb 0)), (1, .ref (a 0)), (0, .ref (sb))] (k := 0) dL_law_403 hl rfl (by omega) (by decide) rfl (fun ls hl => ?_)
              refine j_goto F 18 dL_law_406 (by decide) ?_
              exact ih (i + 4) (jblk w z1 (!decide (z2 = 0))).1 le dr ma op oc gl la fa H locs ls (by omega) (by omega) G (lv_sub hl [0, 1, 2, 3] rfl)
            · skip
              exact absurd rfl c_177
          · skip
            refine j_iconst F dL_law_169 ?_
            refine j_goto F 174 dL_law_170 (by decide) ?_
            refine j_eq (bz (!decide (z2 = 0))) (by rw [decide_eq_false c_166]; rfl) ?_
            refine l_callM (As := [.int (iI z1), .int (iI (bz (!decide (z2 = 0))))]) (rest := [.int (iI ((jblk w z1 (!decide (z2 = 0))).2))]) F hA G (c1_block l D mb k2 w fa z1 (!decide (z2 = 0)) (by omega)) (cwV 2 F.2.2.2.2 (lw_V q161 q162 q163 q18 q164) rfl rfl rfl (by decide +kernel) ⟨Nat.le_of_ble_eq_true rfl, Nat.le_of_ble_eq_true rfl⟩) rfl (by decide) hl.1 (Nat.le_of_ble_eq_true rfl) dL_law_174 (fun r Y H locs hp G => ?_)
            obtain ⟨rfl, rfl⟩ := hp
            refine lv_icmp_eq (tgt := 403) F.1 F.2.1 dL_law_177 (by decide) (fun c_177 => ?_) (fun c_177 => ?_)
            · skip
              refine j_iinc F (((i + 4 : Nat) : Int)) [(3, .int (iI (((i + 4 : Nat) : Int)))), (2, .ref (mb 0)), (1, .ref (a 0)), (0, .ref (sb))] (k := 0) dL_law_403 hl rfl (by omega) (by decide) rfl (fun ls hl => ?_)
              refine j_goto F 18 dL_law_406 (by decide) ?_
              exact ih (i + 4) (jblk w z1 (!decide (z2 = 0))).1 le dr ma op oc gl la fa H locs ls (by omega) (by omega) G (lv_sub hl [0, 1, 2, 3] rfl)
            · skip
              exact absurd rfl c_177
      · refine lv_tableIn (x := nI 2) (off := 150) (tgt := 182) F.1 F.2.1 dL_law_32 (by decide +kernel) (by decide +kernel) (by decide +kernel) (by decide) ?_
        refine j_aload_n F dL_law_182 rfl (lv_at hl 2 rfl) ?_
        refine j_aload_n F dL_law_183 rfl (lv_at hl 3 rfl) ?_
        refine j_iload_n F dL_law_184 rfl (lv_at hl 0 rfl) ?_
        refine j_iconst F dL_law_185 ?_
        refine j_iadd F dL_law_186 ?_
        refine l_ld F hX hbl hbA G.2.2.2 (i + 1) (by omega) (by omega) hL e1 dL_law_187 ?_
        refine l_callJ (As := [.int (iI z1)]) (rest := []) F hA G (c0_isWall l D a k w le dr ma op oc gl la z1 (by omega)) (cwV 1 F.2.2.2.2 (lw_V q63 q64 q65 q17 q66) rfl rfl rfl (by decide +kernel) ⟨Nat.le_of_ble_eq_true rfl, Nat.le_of_ble_eq_true rfl⟩) rfl (by decide) hl.1 (Nat.le_of_ble_eq_true rfl) dL_law_188 (fun r X H locs hp G => ?_)
        obtain ⟨rfl, rfl⟩ := hp
        refine j_aload_n F dL_law_191 rfl (lv_at hl 1 rfl) ?_
        refine j_aload_n F dL_law_192 rfl (lv_at hl 3 rfl) ?_
        refine j_iload_n F dL_law_193 rfl (lv_at hl 0 rfl) ?_
        refine j_iconst F dL_law_194 ?_
        refine j_iadd F dL_law_195 ?_
        refine l_ld F hX hbl hbA G.2.2.2 (i + 1) (by omega) (by omega) hL e1 dL_law_196 ?_
        refine l_callM (As := [.int (iI z1)]) (rest := [.int (iI (bz (jisw w z1)))]) F hA G (c1_isWall l D mb k2 w fa z1 (by omega)) (cwV 1 F.2.2.2.2 (lw_V q165 q166 q167 q18 q168) rfl rfl rfl (by decide +kernel) ⟨Nat.le_of_ble_eq_true rfl, Nat.le_of_ble_eq_true rfl⟩) rfl (by decide) hl.1 (Nat.le_of_ble_eq_true rfl) dL_law_197 (fun r Y H locs hp G => ?_)
        obtain ⟨rfl, rfl⟩ := hp
        refine lv_icmp_eq (tgt := 403) F.1 F.2.1 dL_law_200 (by decide) (fun c_200 => ?_) (fun c_200 => ?_)
        · skip
          refine j_iinc F (((i + 4 : Nat) : Int)) [(3, .int (iI (((i + 4 : Nat) : Int)))), (2, .ref (mb 0)), (1, .ref (a 0)), (0, .ref (sb))] (k := 0) dL_law_403 hl rfl (by omega) (by decide) rfl (fun ls hl => ?_)
          refine j_goto F 18 dL_law_406 (by decide) ?_
          exact ih (i + 4) w le dr ma op oc gl la fa H locs ls (by omega) (by omega) G (lv_sub hl [0, 1, 2, 3] rfl)
        · skip
          exact absurd rfl c_200
      · refine lv_tableIn (x := nI 3) (off := 173) (tgt := 205) F.1 F.2.1 dL_law_32 (by decide +kernel) (by decide +kernel) (by decide +kernel) (by decide) ?_
        refine j_aload_n F dL_law_205 rfl (lv_at hl 2 rfl) ?_
        refine j_aload_n F dL_law_206 rfl (lv_at hl 3 rfl) ?_
        refine j_iload_n F dL_law_207 rfl (lv_at hl 0 rfl) ?_
        refine j_iconst F dL_law_208 ?_
        refine j_iadd F dL_law_209 ?_
        refine l_ld F hX hbl hbA G.2.2.2 (i + 1) (by omega) (by omega) hL e1 dL_law_210 ?_
        refine j_aload_n F dL_law_211 rfl (lv_at hl 3 rfl) ?_
        refine j_iload_n F dL_law_212 rfl (lv_at hl 0 rfl) ?_
        refine j_iconst F dL_law_213 ?_
        refine j_iadd F dL_law_214 ?_
        refine l_ld F hX hbl hbA G.2.2.2 (i + 2) (by omega) (by omega) hL e2 dL_law_215 ?_
        refine l_callJ (As := [.int (iI z1), .int (iI z2)]) (rest := []) F hA G (c0_distance l D a k w le dr ma op oc gl la z1 z2 (by omega)) (cwV 2 F.2.2.2.2 (lw_V q67 q68 q69 q17 q70) rfl rfl rfl (by decide +kernel) ⟨Nat.le_of_ble_eq_true rfl, Nat.le_of_ble_eq_true rfl⟩) rfl (by decide) hl.1 (Nat.le_of_ble_eq_true rfl) dL_law_216 (fun r X H locs hp G => ?_)
        obtain ⟨rfl, hw1⟩ := hp
        obtain ⟨w1, le1, dr1, ma1, op1, oc1, gl1, la1⟩ := X
        have hw1 : w = w1 := Eq.symm hw1
        subst hw1
        refine j_aload_n F dL_law_219 rfl (lv_at hl 1 rfl) ?_
        refine j_aload_n F dL_law_220 rfl (lv_at hl 3 rfl) ?_
        refine j_iload_n F dL_law_221 rfl (lv_at hl 0 rfl) ?_
        refine j_iconst F dL_law_222 ?_
        refine j_iadd F dL_law_223 ?_
        refine l_ld F hX hbl hbA G.2.2.2 (i + 1) (by omega) (by omega) hL e1 dL_law_224 ?_
        refine j_aload_n F dL_law_225 rfl (lv_at hl 3 rfl) ?_
        refine j_iload_n F dL_law_226 rfl (lv_at hl 0 rfl) ?_
        refine j_iconst F dL_law_227 ?_
        refine j_iadd F dL_law_228 ?_
        refine l_ld F hX hbl hbA G.2.2.2 (i + 2) (by omega) (by omega) hL e2 dL_law_229 ?_
        refine l_callM (As := [.int (iI z1), .int (iI z2)]) (rest := [.int (iI (jqd w z1 z2))]) F hA G (c1_distance l D mb k2 w fa z1 z2 (by omega)) (cwV 2 F.2.2.2.2 (lw_V q169 q170 q171 q18 q172) rfl rfl rfl (by decide +kernel) ⟨Nat.le_of_ble_eq_true rfl, Nat.le_of_ble_eq_true rfl⟩) rfl (by decide) hl.1 (Nat.le_of_ble_eq_true rfl) dL_law_230 (fun r Y H locs hp G => ?_)
        obtain ⟨rfl, _, fa1, rfl⟩ := hp
        refine lv_icmp_eq (tgt := 403) F.1 F.2.1 dL_law_233 (by decide) (fun c_233 => ?_) (fun c_233 => ?_)
        · skip
          refine j_iinc F (((i + 4 : Nat) : Int)) [(3, .int (iI (((i + 4 : Nat) : Int)))), (2, .ref (mb 0)), (1, .ref (a 0)), (0, .ref (sb))] (k := 0) dL_law_403 hl rfl (by omega) (by decide) rfl (fun ls hl => ?_)
          refine j_goto F 18 dL_law_406 (by decide) ?_
          exact ih (i + 4) w le1 dr1 ma1 op1 oc1 gl1 la1 fa1 H locs ls (by omega) (by omega) G (lv_sub hl [0, 1, 2, 3] rfl)
        · skip
          exact absurd rfl c_233
      · refine lv_tableIn (x := nI 4) (off := 206) (tgt := 238) F.1 F.2.1 dL_law_32 (by decide +kernel) (by decide +kernel) (by decide +kernel) (by decide) ?_
        refine j_aload_n F dL_law_238 rfl (lv_at hl 2 rfl) ?_
        refine j_aload_n F dL_law_239 rfl (lv_at hl 3 rfl) ?_
        refine j_iload_n F dL_law_240 rfl (lv_at hl 0 rfl) ?_
        refine j_iconst F dL_law_241 ?_
        refine j_iadd F dL_law_242 ?_
        refine l_ld F hX hbl hbA G.2.2.2 (i + 1) (by omega) (by omega) hL e1 dL_law_243 ?_
        refine j_aload_n F dL_law_244 rfl (lv_at hl 3 rfl) ?_
        refine j_iload_n F dL_law_245 rfl (lv_at hl 0 rfl) ?_
        refine j_iconst F dL_law_246 ?_
        refine j_iadd F dL_law_247 ?_
        refine l_ld F hX hbl hbA G.2.2.2 (i + 2) (by omega) (by omega) hL e2 dL_law_248 ?_
        refine j_aload_n F dL_law_249 rfl (lv_at hl 3 rfl) ?_
        refine j_iload_n F dL_law_250 rfl (lv_at hl 0 rfl) ?_
        refine j_iconst F dL_law_251 ?_
        refine j_iadd F dL_law_252 ?_
        refine l_ld F hX hbl hbA G.2.2.2 (i + 3) (by omega) (by omega) hL e3 dL_law_253 ?_
        refine l_callJ (As := [.int (iI z1), .int (iI z2), .int (iI z3)]) (rest := []) F hA G (c0_nearer l D a k w le dr ma op oc gl la z1 z2 z3 (by omega)) (cwV 3 F.2.2.2.2 (lw_V q119 q120 q121 q17 q122) rfl rfl rfl (by decide +kernel) ⟨Nat.le_of_ble_eq_true rfl, Nat.le_of_ble_eq_true rfl⟩) rfl (by decide) hl.1 (Nat.le_of_ble_eq_true rfl) dL_law_254 (fun r X H locs hp G => ?_)
        obtain ⟨rfl, hw1⟩ := hp
        obtain ⟨w1, le1, dr1, ma1, op1, oc1, gl1, la1⟩ := X
        have hw1 : w = w1 := Eq.symm hw1
        subst hw1
        refine j_aload_n F dL_law_257 rfl (lv_at hl 1 rfl) ?_
        refine j_aload_n F dL_law_258 rfl (lv_at hl 3 rfl) ?_
        refine j_iload_n F dL_law_259 rfl (lv_at hl 0 rfl) ?_
        refine j_iconst F dL_law_260 ?_
        refine j_iadd F dL_law_261 ?_
        refine l_ld F hX hbl hbA G.2.2.2 (i + 1) (by omega) (by omega) hL e1 dL_law_262 ?_
        refine j_aload_n F dL_law_263 rfl (lv_at hl 3 rfl) ?_
        refine j_iload_n F dL_law_264 rfl (lv_at hl 0 rfl) ?_
        refine j_iconst F dL_law_265 ?_
        refine j_iadd F dL_law_266 ?_
        refine l_ld F hX hbl hbA G.2.2.2 (i + 2) (by omega) (by omega) hL e2 dL_law_267 ?_
        refine j_aload_n F dL_law_268 rfl (lv_at hl 3 rfl) ?_
        refine j_iload_n F dL_law_269 rfl (lv_at hl 0 rfl) ?_
        refine j_iconst F dL_law_270 ?_
        refine j_iadd F dL_law_271 ?_
        refine l_ld F hX hbl hbA G.2.2.2 (i + 3) (by omega) (by omega) hL e3 dL_law_272 ?_
        refine l_callM (As := [.int (iI z1), .int (iI z2), .int (iI z3)]) (rest := [.int (iI (jqn w z1 z2 z3))]) F hA G (c1_nearer l D mb k2 w fa z1 z2 z3 (by omega)) (cwV 3 F.2.2.2.2 (lw_V q185 q186 q187 q18 q188) rfl rfl rfl (by decide +kernel) ⟨Nat.le_of_ble_eq_true rfl, Nat.le_of_ble_eq_true rfl⟩) rfl (by decide) hl.1 (Nat.le_of_ble_eq_true rfl) dL_law_273 (fun r Y H locs hp G => ?_)
        obtain ⟨rfl, fa1, rfl⟩ := hp
        refine lv_icmp_eq (tgt := 403) F.1 F.2.1 dL_law_276 (by decide) (fun c_276 => ?_) (fun c_276 => ?_)
        · skip
          refine j_iinc F (((i + 4 : Nat) : Int)) [(3, .int (iI (((i + 4 : Nat) : Int)))), (2, .ref (mb 0)), (1, .ref (a 0)), (0, .ref (sb))] (k := 0) dL_law_403 hl rfl (by omega) (by decide) rfl (fun ls hl => ?_)
          refine j_goto F 18 dL_law_406 (by decide) ?_
          exact ih (i + 4) w le1 dr1 ma1 op1 oc1 gl1 la1 fa1 H locs ls (by omega) (by omega) G (lv_sub hl [0, 1, 2, 3] rfl)
        · skip
          exact absurd rfl c_276
      · refine lv_tableIn (x := nI 5) (off := 249) (tgt := 281) F.1 F.2.1 dL_law_32 (by decide +kernel) (by decide +kernel) (by decide +kernel) (by decide) ?_
        refine j_aload_n F dL_law_281 rfl (lv_at hl 2 rfl) ?_
        refine j_aload_n F dL_law_282 rfl (lv_at hl 3 rfl) ?_
        refine j_iload_n F dL_law_283 rfl (lv_at hl 0 rfl) ?_
        refine j_iconst F dL_law_284 ?_
        refine j_iadd F dL_law_285 ?_
        refine l_ld F hX hbl hbA G.2.2.2 (i + 1) (by omega) (by omega) hL e1 dL_law_286 ?_
        refine j_aload_n F dL_law_287 rfl (lv_at hl 3 rfl) ?_
        refine j_iload_n F dL_law_288 rfl (lv_at hl 0 rfl) ?_
        refine j_iconst F dL_law_289 ?_
        refine j_iadd F dL_law_290 ?_
        refine l_ld F hX hbl hbA G.2.2.2 (i + 2) (by omega) (by omega) hL e2 dL_law_291 ?_
        refine j_aload_n F dL_law_292 rfl (lv_at hl 3 rfl) ?_
        refine j_iload_n F dL_law_293 rfl (lv_at hl 0 rfl) ?_
        refine j_iconst F dL_law_294 ?_
        refine j_iadd F dL_law_295 ?_
        refine l_ld F hX hbl hbA G.2.2.2 (i + 3) (by omega) (by omega) hL e3 dL_law_296 ?_
        refine l_callJ (As := [.int (iI z1), .int (iI z2), .int (iI z3)]) (rest := []) F hA G (c0_vital l D a k w le dr ma op oc gl la z1 z2 z3 (by omega)) (cwV 3 F.2.2.2.2 (lw_V q123 q124 q125 q17 q126) rfl rfl rfl (by decide +kernel) ⟨Nat.le_of_ble_eq_true rfl, Nat.le_of_ble_eq_true rfl⟩) rfl (by decide) hl.1 (Nat.le_of_ble_eq_true rfl) dL_law_297 (fun r X H locs hp G => ?_)
        obtain ⟨rfl, hw1⟩ := hp
        obtain ⟨w1, le1, dr1, ma1, op1, oc1, gl1, la1⟩ := X
        have hw1 : w = w1 := Eq.symm hw1
        subst hw1
        refine j_aload_n F dL_law_300 rfl (lv_at hl 1 rfl) ?_
        refine j_aload_n F dL_law_301 rfl (lv_at hl 3 rfl) ?_
        refine j_iload_n F dL_law_302 rfl (lv_at hl 0 rfl) ?_
        refine j_iconst F dL_law_303 ?_
        refine j_iadd F dL_law_304 ?_
        refine l_ld F hX hbl hbA G.2.2.2 (i + 1) (by omega) (by omega) hL e1 dL_law_305 ?_
        refine j_aload_n F dL_law_306 rfl (lv_at hl 3 rfl) ?_
        refine j_iload_n F dL_law_307 rfl (lv_at hl 0 rfl) ?_
        refine j_iconst F dL_law_308 ?_
        refine j_iadd F dL_law_309 ?_
        refine l_ld F hX hbl hbA G.2.2.2 (i + 2) (by omega) (by omega) hL e2 dL_law_310 ?_
        refine j_aload_n F dL_law_311 rfl (lv_at hl 3 rfl) ?_
        refine j_iload_n F dL_law_312 rfl (lv_at hl 0 rfl) ?_
        refine j_iconst F dL_law_313 ?_
        refine j_iadd F dL_law_314 ?_
        refine l_ld F hX hbl hbA G.2.2.2 (i + 3) (by omega) (by omega) hL e3 dL_law_315 ?_
        refine l_callM (As := [.int (iI z1), .int (iI z2), .int (iI z3)]) (rest := [.int (iI (bz (jqv w z1 z2 z3)))]) F hA G (c1_vital l D mb k2 w fa z1 z2 z3 (by omega)) (cwV 3 F.2.2.2.2 (lw_V q189 q190 q191 q18 q192) rfl rfl rfl (by decide +kernel) ⟨Nat.le_of_ble_eq_true rfl, Nat.le_of_ble_eq_true rfl⟩) rfl (by decide) hl.1 (Nat.le_of_ble_eq_true rfl) dL_law_316 (fun r Y H locs hp G => ?_)
        obtain ⟨rfl, fa1, rfl⟩ := hp
        refine lv_icmp_eq (tgt := 403) F.1 F.2.1 dL_law_319 (by decide) (fun c_319 => ?_) (fun c_319 => ?_)
        · skip
          refine j_iinc F (((i + 4 : Nat) : Int)) [(3, .int (iI (((i + 4 : Nat) : Int)))), (2, .ref (mb 0)), (1, .ref (a 0)), (0, .ref (sb))] (k := 0) dL_law_403 hl rfl (by omega) (by decide) rfl (fun ls hl => ?_)
          refine j_goto F 18 dL_law_406 (by decide) ?_
          exact ih (i + 4) w le1 dr1 ma1 op1 oc1 gl1 la1 fa1 H locs ls (by omega) (by omega) G (lv_sub hl [0, 1, 2, 3] rfl)
        · skip
          exact absurd rfl c_319
      · refine lv_tableIn (x := nI 6) (off := 292) (tgt := 324) F.1 F.2.1 dL_law_32 (by decide +kernel) (by decide +kernel) (by decide +kernel) (by decide) ?_
        refine j_aload_n F dL_law_324 rfl (lv_at hl 2 rfl) ?_
        refine j_aload_n F dL_law_325 rfl (lv_at hl 3 rfl) ?_
        refine j_iload_n F dL_law_326 rfl (lv_at hl 0 rfl) ?_
        refine j_iconst F dL_law_327 ?_
        refine j_iadd F dL_law_328 ?_
        refine l_ld F hX hbl hbA G.2.2.2 (i + 1) (by omega) (by omega) hL e1 dL_law_329 ?_
        refine l_callJ (As := [.int (iI z1)]) (rest := []) F hA G (c0_farthest l D a k w le dr ma op oc gl la z1 (by omega)) (cwV 1 F.2.2.2.2 (lw_V q127 q128 q129 q17 q130) rfl rfl rfl (by decide +kernel) ⟨Nat.le_of_ble_eq_true rfl, Nat.le_of_ble_eq_true rfl⟩) rfl (by decide) hl.1 (Nat.le_of_ble_eq_true rfl) dL_law_330 (fun r X H locs hp G => ?_)
        obtain ⟨rfl, hw1⟩ := hp
        obtain ⟨w1, le1, dr1, ma1, op1, oc1, gl1, la1⟩ := X
        have hw1 : w = w1 := Eq.symm hw1
        subst hw1
        refine j_aload_n F dL_law_333 rfl (lv_at hl 1 rfl) ?_
        refine j_aload_n F dL_law_334 rfl (lv_at hl 3 rfl) ?_
        refine j_iload_n F dL_law_335 rfl (lv_at hl 0 rfl) ?_
        refine j_iconst F dL_law_336 ?_
        refine j_iadd F dL_law_337 ?_
        refine l_ld F hX hbl hbA G.2.2.2 (i + 1) (by omega) (by omega) hL e1 dL_law_338 ?_
        refine l_callM (As := [.int (iI z1)]) (rest := [.int (iI (jqf w z1))]) F hA G (c1_farthest l D mb k2 w fa z1 (by omega)) (cwV 1 F.2.2.2.2 (lw_V q194 q195 q196 q18 q197) rfl rfl rfl (by decide +kernel) ⟨Nat.le_of_ble_eq_true rfl, Nat.le_of_ble_eq_true rfl⟩) rfl (by decide) hl.1 (Nat.le_of_ble_eq_true rfl) dL_law_339 (fun r Y H locs hp G => ?_)
        obtain ⟨rfl, fa1, rfl⟩ := hp
        refine lv_icmp_eq (tgt := 403) F.1 F.2.1 dL_law_342 (by decide) (fun c_342 => ?_) (fun c_342 => ?_)
        · skip
          refine j_iinc F (((i + 4 : Nat) : Int)) [(3, .int (iI (((i + 4 : Nat) : Int)))), (2, .ref (mb 0)), (1, .ref (a 0)), (0, .ref (sb))] (k := 0) dL_law_403 hl rfl (by omega) (by decide) rfl (fun ls hl => ?_)
          refine j_goto F 18 dL_law_406 (by decide) ?_
          exact ih (i + 4) w le1 dr1 ma1 op1 oc1 gl1 la1 fa1 H locs ls (by omega) (by omega) G (lv_sub hl [0, 1, 2, 3] rfl)
        · skip
          exact absurd rfl c_342
      · refine lv_tableIn (x := nI 7) (off := 315) (tgt := 347) F.1 F.2.1 dL_law_32 (by decide +kernel) (by decide +kernel) (by decide +kernel) (by decide) ?_
        refine j_aload_n F dL_law_347 rfl (lv_at hl 2 rfl) ?_
        refine j_aload_n F dL_law_348 rfl (lv_at hl 3 rfl) ?_
        refine j_iload_n F dL_law_349 rfl (lv_at hl 0 rfl) ?_
        refine j_iconst F dL_law_350 ?_
        refine j_iadd F dL_law_351 ?_
        refine l_ld F hX hbl hbA G.2.2.2 (i + 1) (by omega) (by omega) hL e1 dL_law_352 ?_
        refine l_callJ (As := [.int (iI z1)]) (rest := []) F hA G (c0_reach l D a k w le dr ma op oc gl la z1 (by omega)) (cwV 1 F.2.2.2.2 (lw_V q131 q132 q133 q17 q134) rfl rfl rfl (by decide +kernel) ⟨Nat.le_of_ble_eq_true rfl, Nat.le_of_ble_eq_true rfl⟩) rfl (by decide) hl.1 (Nat.le_of_ble_eq_true rfl) dL_law_353 (fun r X H locs hp G => ?_)
        obtain ⟨rfl, hw1⟩ := hp
        obtain ⟨w1, le1, dr1, ma1, op1, oc1, gl1, la1⟩ := X
        have hw1 : w = w1 := Eq.symm hw1
        subst hw1
        refine j_aload_n F dL_law_356 rfl (lv_at hl 1 rfl) ?_
        refine j_aload_n F dL_law_357 rfl (lv_at hl 3 rfl) ?_
        refine j_iload_n F dL_law_358 rfl (lv_at hl 0 rfl) ?_
        refine j_iconst F dL_law_359 ?_
        refine j_iadd F dL_law_360 ?_
        refine l_ld F hX hbl hbA G.2.2.2 (i + 1) (by omega) (by omega) hL e1 dL_law_361 ?_
        refine l_callM (As := [.int (iI z1)]) (rest := [.int (iI (jqr w z1))]) F hA G (c1_reach l D mb k2 w fa z1 (by omega)) (cwV 1 F.2.2.2.2 (lw_V q198 q199 q200 q18 q201) rfl rfl rfl (by decide +kernel) ⟨Nat.le_of_ble_eq_true rfl, Nat.le_of_ble_eq_true rfl⟩) rfl (by decide) hl.1 (Nat.le_of_ble_eq_true rfl) dL_law_362 (fun r Y H locs hp G => ?_)
        obtain ⟨rfl, fa1, rfl⟩ := hp
        refine lv_icmp_eq (tgt := 403) F.1 F.2.1 dL_law_365 (by decide) (fun c_365 => ?_) (fun c_365 => ?_)
        · skip
          refine j_iinc F (((i + 4 : Nat) : Int)) [(3, .int (iI (((i + 4 : Nat) : Int)))), (2, .ref (mb 0)), (1, .ref (a 0)), (0, .ref (sb))] (k := 0) dL_law_403 hl rfl (by omega) (by decide) rfl (fun ls hl => ?_)
          refine j_goto F 18 dL_law_406 (by decide) ?_
          exact ih (i + 4) w le1 dr1 ma1 op1 oc1 gl1 la1 fa1 H locs ls (by omega) (by omega) G (lv_sub hl [0, 1, 2, 3] rfl)
        · skip
          exact absurd rfl c_365
      · refine lv_tableIn (x := nI 8) (off := 338) (tgt := 370) F.1 F.2.1 dL_law_32 (by decide +kernel) (by decide +kernel) (by decide +kernel) (by decide) ?_
        refine j_aload_n F dL_law_370 rfl (lv_at hl 2 rfl) ?_
        refine j_aload_n F dL_law_371 rfl (lv_at hl 3 rfl) ?_
        refine j_iload_n F dL_law_372 rfl (lv_at hl 0 rfl) ?_
        refine j_iconst F dL_law_373 ?_
        refine j_iadd F dL_law_374 ?_
        refine l_ld F hX hbl hbA G.2.2.2 (i + 1) (by omega) (by omega) hL e1 dL_law_375 ?_
        refine j_aload_n F dL_law_376 rfl (lv_at hl 3 rfl) ?_
        refine j_iload_n F dL_law_377 rfl (lv_at hl 0 rfl) ?_
        refine j_iconst F dL_law_378 ?_
        refine j_iadd F dL_law_379 ?_
        refine l_ld F hX hbl hbA G.2.2.2 (i + 2) (by omega) (by omega) hL e2 dL_law_380 ?_
        refine l_callJ (As := [.int (iI z1), .int (iI z2)]) (rest := []) F hA G (c0_at l D a k w le dr ma op oc gl la z1 z2 (by omega)) (cwV 2 F.2.2.2.2 (lw_V q135 q136 q137 q17 q138) rfl rfl rfl (by decide +kernel) ⟨Nat.le_of_ble_eq_true rfl, Nat.le_of_ble_eq_true rfl⟩) rfl (by decide) hl.1 (Nat.le_of_ble_eq_true rfl) dL_law_381 (fun r X H locs hp G => ?_)
        obtain ⟨rfl, hw1⟩ := hp
        obtain ⟨w1, le1, dr1, ma1, op1, oc1, gl1, la1⟩ := X
        have hw1 : w = w1 := Eq.symm hw1
        subst hw1
        refine j_aload_n F dL_law_384 rfl (lv_at hl 1 rfl) ?_
        refine j_aload_n F dL_law_385 rfl (lv_at hl 3 rfl) ?_
        refine j_iload_n F dL_law_386 rfl (lv_at hl 0 rfl) ?_
        refine j_iconst F dL_law_387 ?_
        refine j_iadd F dL_law_388 ?_
        refine l_ld F hX hbl hbA G.2.2.2 (i + 1) (by omega) (by omega) hL e1 dL_law_389 ?_
        refine j_aload_n F dL_law_390 rfl (lv_at hl 3 rfl) ?_
        refine j_iload_n F dL_law_391 rfl (lv_at hl 0 rfl) ?_
        refine j_iconst F dL_law_392 ?_
        refine j_iadd F dL_law_393 ?_
        refine l_ld F hX hbl hbA G.2.2.2 (i + 2) (by omega) (by omega) hL e2 dL_law_394 ?_
        refine l_callM (As := [.int (iI z1), .int (iI z2)]) (rest := [.int (iI (jqa w z1 z2))]) F hA G (c1_at l D mb k2 w fa z1 z2 (by omega)) (cwV 2 F.2.2.2.2 (lw_V q202 q203 q204 q18 q205) rfl rfl rfl (by decide +kernel) ⟨Nat.le_of_ble_eq_true rfl, Nat.le_of_ble_eq_true rfl⟩) rfl (by decide) hl.1 (Nat.le_of_ble_eq_true rfl) dL_law_395 (fun r Y H locs hp G => ?_)
        obtain ⟨rfl, fa1, rfl⟩ := hp
        refine lv_icmp_eq (tgt := 403) F.1 F.2.1 dL_law_398 (by decide) (fun c_398 => ?_) (fun c_398 => ?_)
        · skip
          refine j_iinc F (((i + 4 : Nat) : Int)) [(3, .int (iI (((i + 4 : Nat) : Int)))), (2, .ref (mb 0)), (1, .ref (a 0)), (0, .ref (sb))] (k := 0) dL_law_403 hl rfl (by omega) (by decide) rfl (fun ls hl => ?_)
          refine j_goto F 18 dL_law_406 (by decide) ?_
          exact ih (i + 4) w le1 dr1 ma1 op1 oc1 gl1 la1 fa1 H locs ls (by omega) (by omega) G (lv_sub hl [0, 1, 2, 3] rfl)
        · skip
          exact absurd rfl c_398
      · refine lv_tableOut (x := nI j) (tgt := 403) F.1 F.2.1 dL_law_32 (Or.inr (by rw [nI_toInt (by omega)]; omega)) (by decide) ?_
        refine j_iinc F (((i + 4 : Nat) : Int)) [(3, .int (iI (((i + 4 : Nat) : Int)))), (2, .ref (mb 0)), (1, .ref (a 0)), (0, .ref (sb))] (k := 0) dL_law_403 hl rfl (by omega) (by decide) rfl (fun ls hl => ?_)
        refine j_goto F 18 dL_law_406 (by decide) ?_
        exact ih (i + 4) w le dr ma op oc gl la fa H locs ls (by omega) (by omega) G hl
end
section
set_option maxHeartbeats 4000000 in
set_option maxRecDepth 100000 in
/-- from the entry, for every script of at most 256 ints, the law comes to its end with true -/
theorem whole_start {p : Program} {e : Env} {s : State} {m : MethodId} {below : List Frame} {meth : Method} {c : Code} (l : Launch) {b L : Nat} {xs : Nat → Int32} (hL : L ≤ 256) (C0 : lw_At p s m meth c b L xs) : W p l e room_1 s m #[Value.ref b] below meth c s.heap [] 0 0 (lw_Z below #[Value.ref b] s) (entryFrame m ([Value.ref b] : List Value).toArray 4) := by
  obtain ⟨hx, hb, hr, hml, hown, hts0, hX, hbl, hlocks, hgv⟩ := id C0
  have hts : ∀ w ∈ lw_all, w.before #[Value.ref b] s = true := fun w h => hts0 w (lw_all_tbl h)
  have hA : ∀ q : Nat, s.heap.size ≤ q → (fun q : Nat => s.heap.size ≤ q) q := fun _ h => h
  obtain ⟨c0, iS0, hKn0⟩ := u_known (C := RX0) (T := TX0) (N := 8) (n := 8) hts0 (fun w h => lw_all_tbl (in_X0 w h)) (hts _ q20)
  obtain ⟨c1, iS1, hKn1⟩ := u_known (C := RX1) (T := TX1) (N := 2) (n := 2) hts0 (fun w h => lw_all_tbl (in_X1 w h)) (hts _ q140)
  obtain ⟨D, hKc⟩ : ∃ D : va_G, ∀ (k : Nat) (q : vw_C), vwCl[k]? = some q → u_Kn s q.1 q.2.1 q.2.2 (D.1 k) (D.2 k) := by
    refine ⟨(fun k => if k = 0 then c0 else c1, fun k => if k = 0 then iS0 else iS1), ?_⟩
    intro k q hq
    match k, hq with
    | 0, hq => cases hq; exact hKn0
    | 1, hq => cases hq; exact hKn1
    | k + 2, hq => simp [vwCl] at hq
  have hS : va_S (fun q : Nat => s.heap.size ≤ q) s.heap s.heap [] := va_S.rf
  have hK : va_K D vwCl [] s := ⟨hKc, fun k q h => by simp at h⟩
  have hP : va_P D vwCl [] s.heap := fun k q h => by simp at h
  have hD : va_D (fun q : Nat => s.heap.size ≤ q) [] := ⟨fun i j p q h => by simp at h, fun k q h => by simp at h⟩
  have hl := lv_entry ([.ref b]) (n := 4) (Nat.le_of_ble_eq_true rfl)
  rw [lg_entry_eq]
  generalize (lg_sl ([.ref b]) ++ List.replicate (4 - (lg_sl ([.ref b])).length) Slot.unset).toArray = ls at hl ⊢
  have hl : lv_has ls 4 [(0, .ref b)] := hl
  refine va_new (ci := 0) (fs := [.null, .null, .null, .null, .null, .int (iI 0), .int (iI 0), .int (iI 0)]) (C := RX0) (T := TX0) (N := 8) hx hb hts in_X0 tyX0 tyX0_ok hown (hts _ q19) (hts _ q20) (hts _ q17) hK hP hD hS hA rfl (fun j hj => by rcases (show j = 0 ∨ j = 1 ∨ j = 2 ∨ j = 3 ∨ j = 4 ∨ j = 5 ∨ j = 6 ∨ j = 7 by omega) with rfl | rfl | rfl | rfl | rfl | rfl | rfl | rfl <;> rfl) (Nat.le_of_ble_eq_true rfl) (Nat.le_of_ble_eq_true rfl) dL_law_0 (fun q0 H hP hD hS => ?_)
  have hP : va_P D vwCl (w0I q0) H := hP
  have hD : va_D (fun q : Nat => s.heap.size ≤ q) (w0I q0) := hD
  refine W.widen (k := 1) (n := 8) (Nat.le_of_ble_eq_true rfl) (Nat.le_of_ble_eq_true rfl) ?_
  refine lv_dup hx hb dL_law_3 rfl ?_
  have hFc := va_free (wc := w0I q0) hD hS hA [0] rfl
  refine va_callv (va_runI (As := []) (rest := [.ref q0]) ⟨hx, hb, hml, hown, hts⟩ (c0_init l D q0 H.size) (cwI 0 hts (lw_meth q23) rfl rfl rfl (hts _ q17) (hts _ q21) (hts _ q22) rfl (by decide +kernel) ⟨Nat.le_of_ble_eq_true rfl, Nat.le_of_ble_eq_true rfl⟩) ⟨fun a U g mk q => by obtain ⟨q0, q1, qP, qK, qD⟩ := q; exact ⟨q0, q1, qP, va_K.moved (u := U) (U := U.calling g mk a) (Vm.Alike.refl U.vm) qK, qD⟩, fun U hU hW => ⟨rfl, by rw [hU], by rw [hU]; exact hP, va_K.moved hW.alike hK, hD.weaken (fun _ _ _ _ => trivial)⟩⟩ rfl rfl hl.1 rfl (lv_room (Nat.le_of_ble_eq_true rfl)) dL_law_4 ⟨Nat.le_of_ble_eq_true rfl, Nat.le_of_ble_eq_true rfl⟩) hS (fun q _ h => hFc q h) hFc (fun u t H1 locs ht hvm hw1 hB hz1 hk1 hS => ?_)
  obtain ⟨a, k⟩ := u
  have ha0 : a 0 = q0 := hw1
  obtain ⟨hP1, hK1, hD1⟩ := hB
  rw [ht] at hP1
  have hK : va_K D vwCl (JT k) s := va_K.moved hvm.symm hK1
  obtain ⟨hPj, hDj⟩ := va_join (wr := []) (w1 := JW a k jX0) hP hD [0] [] rfl rfl (by decide) (by decide) hk1 hFc hP1 hD1
  have hPj : va_P D vwCl (JW a k jX0) H1 := hPj
  have hDj : va_D (fun q : Nat => s.heap.size ≤ q) (JW a k jX0) := hDj
  have hSj := hS
  subst ha0
  refine W.widen (k := 6) (n := 728) (Nat.le_of_ble_eq_true rfl) (Nat.le_of_ble_eq_true rfl) ?_
  refine lv_astore_n (lv' := [(1, .ref (a 0)), (0, .ref b)]) hx hb dL_law_7 rfl hl (by decide) rfl (fun ls hl => ?_)
  refine va_new (ci := 1) (fs := [.null, .null]) (C := RX1) (T := TX1) (N := 2) hx hb hts in_X1 tyX1 tyX1_ok hown (hts _ q139) (hts _ q140) (hts _ q18) hK hPj hDj hSj hA rfl (fun j hj => by rcases (show j = 0 ∨ j = 1 by omega) with rfl | rfl <;> rfl) (Nat.le_of_ble_eq_true rfl) (Nat.le_of_ble_eq_true rfl) dL_law_8 (fun q1 H hP hD hS => ?_)
  have hP : va_P D vwCl (JW a k jX0 ++ w1I q1) H := hP
  have hD : va_D (fun q : Nat => s.heap.size ≤ q) (JW a k jX0 ++ w1I q1) := hD
  refine W.widen (k := 7) (n := 730) (Nat.le_of_ble_eq_true rfl) (Nat.le_of_ble_eq_true rfl) ?_
  refine lv_dup hx hb dL_law_11 rfl ?_
  have hPc := hP.sub (ws' := w1I q1) [6] rfl
  have hDc := hD.sub (ws' := w1I q1) [6] (by decide) rfl
  have hKc := hK.sub (tys' := []) [] rfl
  have hFc := va_free (wc := w1I q1) hD hS hA [6] rfl
  refine va_callv (va_runI (As := []) (rest := [.ref q1]) ⟨hx, hb, hml, hown, hts⟩ (c1_init l D q1 H.size) (cwI 0 hts (lw_meth q143) rfl rfl rfl (hts _ q18) (hts _ q141) (hts _ q142) rfl (by decide +kernel) ⟨Nat.le_of_ble_eq_true rfl, Nat.le_of_ble_eq_true rfl⟩) ⟨fun a U g mk q => by obtain ⟨q0, q1, qP, qK, qD⟩ := q; exact ⟨q0, q1, qP, va_K.moved (u := U) (U := U.calling g mk a) (Vm.Alike.refl U.vm) qK, qD⟩, fun U hU hW => ⟨rfl, by rw [hU], by rw [hU]; exact hPc, va_K.moved hW.alike hKc, hDc.weaken (fun _ _ _ _ => trivial)⟩⟩ rfl rfl hl.1 rfl (lv_room (Nat.le_of_ble_eq_true rfl)) dL_law_12 ⟨Nat.le_of_ble_eq_true rfl, Nat.le_of_ble_eq_true rfl⟩) hS (fun q _ h => hFc q h) hFc (fun u t H1 locs ht hvm hw1 hB hz1 hk1 hS => ?_)
  obtain ⟨mb, k2⟩ := u
  have hb0 : mb 0 = q1 := hw1
  obtain ⟨hP1, hK1, hD1⟩ := hB
  rw [ht] at hP1
  have hK1 : va_K D vwCl (MT k2) s := va_K.moved hvm.symm hK1
  obtain ⟨hPm, hDm⟩ := va_join (wr := JW a k jX0) (w1 := MW mb k2 mX0) hP hD [6] [0, 1, 2, 3, 4, 5] rfl rfl (by decide) (by decide) hk1 hFc hP1 hD1
  have hKm := hK.app hK1
  have hSm := hS
  subst hb0
  refine W.widen (k := 9) (n := 1018) (Nat.le_of_ble_eq_true rfl) (Nat.le_of_ble_eq_true rfl) ?_
  refine lv_astore_n (lv' := [(2, .ref (mb 0)), (1, .ref (a 0)), (0, .ref b)]) hx hb dL_law_15 rfl hl (by decide) rfl (fun ls hl => ?_)
  have F : CallFix p m c code 4 s #[Value.ref b] lw_all R_law := ⟨hx, hb, hml, hown, hts⟩
  refine j_iconst F dL_law_16 ?_
  refine j_eq (((0 : Nat) : Int)) rfl ?_
  refine j_istore_n F [(3, .int (iI ((0 : Nat) : Int))), (2, .ref (mb 0)), (1, .ref (a 0)), (0, .ref b)] dL_law_17 rfl hl (by decide) rfl (fun ls hl => ?_)
  exact law_loop l hL F hr hlocks hX hbl D a mb k k2 (L + 1) 0 (fun _ => false) (fun _ => 0) (fun _ => 0) (fun _ => 0) (fun _ => 0) 0 0 0 (fun _ => 0) _ _ ls (by omega) (by omega) ⟨hKm, hPm, hDm, hSm⟩ hl
end
section
set_option maxHeartbeats 4000000 in
theorem lw_walk (l : Launch) (b : Addr) (xs : List Int32) : MetFree l x (headSpec (Jvm.Cond.code x code maxLocals ret :: tables_1) room_1) (lw_P b xs) (fun _ _ _ _ _ => True) lw_Q := by
  refine MetFree.of_bodyS (code := code) (maxLocals := maxLocals) (ret := ret) (by decide) ?_ ?_
  · intro args s m h hn
    obtain ⟨meth, c, h1, h2, h3, h4, h5, h6, -, -⟩ := Cond.code_spec hn (atoms_spec (ws := Jvm.Cond.code x code maxLocals ret :: tables_1) h _ List.mem_cons_self)
    exact ⟨meth, c, h1, h2, h3, h4, h5, h6⟩
  · intro p e s m args below meth c s₁ B hml0 hP _
    obtain ⟨rfl, hx, hbd, hgv⟩ := hP
    obtain ⟨scr, harrAt, hlist, hof, hsmall⟩ := hx
    obtain ⟨hcb, hkn, -, -⟩ := State.arrayAt?_spec harrAt
    have hown : s.vm.findClass R_law = some m.cls := findClass_of_methodNamed B.named
    have hts0 : ∀ c ∈ (Jvm.Cond.code x code maxLocals ret :: tables_1), c.before #[Value.ref b] s = true := atoms_spec (ws := Jvm.Cond.code x code maxLocals ret :: tables_1) B.pre
    have hts : ∀ w ∈ lw_tbl, w.before #[Value.ref b] s = true := k2_hts_sels lw_privs (fun w hw => hts0 w (List.mem_cons_of_mem _ hw)) lw_privs_ok
    have hml : c.maxLocals = 4 := B.maxLocals_eq (hts0 _ List.mem_cons_self)
    have X₀ : Stand p l e room_1 s m #[Value.ref b] below meth c s₁ [] 0 0 := Stand.of_body B
    have hh0 : s₁.heap = s.heap := by rw [B.state]; rfl
    have hsz : scr.slots.size = xs.length := by rw [← Array.length_toList, hlist, List.length_map]
    have hval : ∀ j : Nat, j < xs.length → scr.slots[j]? = some (.int (xs.getD j 0)) := fun j hj => by
      rw [← Array.getElem?_toList, hlist]
      simp [hj]
    have hbl : b < s.heap.size := (Array.getElem?_eq_some_iff.mp hcb).1
    have hX : va_X b xs.length (fun j => xs.getD j 0) s s.heap := ⟨scr, hcb, hof, hkn, hsz, hval⟩
    have K : W p l e room_1 s m #[Value.ref b] below meth c s₁.heap [] 0 0 (lw_Z below #[Value.ref b] s) (entryFrame m ([Value.ref b] : List Value).toArray 4) := by
      rw [hh0]
      exact whole_start l hbd ⟨B.exec, B.bytes, B.returns, hml, hown, hts, hX, hbl, B.notSynchronized, hgv⟩
    obtain ⟨t, a1, o, b1, b2, b3⟩ := K s₁ rfl X₀
    exact ⟨t, o, a1, b1, b2, b3⟩
theorem lw_pre_spec {args : Array Value} {s : State} (h : (Jvm.Cond.and given_1 narrow_1).before args s = true) (hr : rest_1_c.before args s = true) : ∃ (b : Addr) (xs : List Int32), lw_P b xs args s := by
  have hs := flat_of_before _ h
  have hq := flat_of_before _ hr
  have hc : (Cond.count 1).before args s = true := hs _ (by decide +kernel)
  have harr : (Cond.arrayOf (.arg 0) .int).before args s = true := hs _ (by decide +kernel)
  have hle : (Cond.le (.length (.arg 0)) (.int 256)).before args s = true := hs _ (by decide +kernel)
  have hlen : (Cond.isInt (.length (.arg 0))).before args s = true := hq _ (by decide +kernel)
  have hall : (Cond.all (.arg 0) (.isInt (.elem (.arg 0) (.index 0)))).before args s = true := hq _ (by decide +kernel)
  obtain ⟨b, xs, hb, hx⟩ := State.ints_of_pre rfl harr hlen hall
  have hsm : xs.length < 2 ^ 31 := hx.choose_spec.2.2.2
  have hev : (Term.length (.arg 0)).eval args s none [] s = some (.int xs.length.toInt32) := hx.length_eval hb
  have hv := Cond.le_ints hev (show (Term.int 256).eval args s none [] s = some (.int 256) from rfl)
  have hd : xs.length.toInt32 ≤ 256 := by
    simpa [Cond.before, Cond.holds, hv] using hle
  have hN : xs.length ≤ 256 := (Int32.ofNat_le_ofNat hsm (by decide)).mp (show Int32.ofNat xs.length ≤ Int32.ofNat 256 from hd)
  exact ⟨b, xs, Cond.one_arg hc (show args[0]? = some (.ref b) from hb), hx, hN, h⟩
theorem lw_comes (l : Launch) : Comes l x (Jvm.Cond.code x code maxLocals ret :: tables_1) room_1 (fun tb e args s => Calls_1 tb e args s ∧ rest_1 tb e args s ∧ Pre_1 tb e args s)
    (fun _ _ args s o t => lw_Q args s o t) := by
  intro p e ha hc hk s m args below hf hfit hheap happ hpre
  obtain ⟨b, xs, hP⟩ := lw_pre_spec hpre.2.2 hpre.2.1
  obtain ⟨k, o, h1, h2, h3, hQ⟩ := lw_walk l b xs p e ha hc hk s m args below hf ((Spec.applies_iff_loose hf).mp happ).1 hP trivial
  exact ⟨k, o, h1, h2, h3, hQ⟩
theorem lw_frame {s t : State} {o : Outcome} {args : Array Value} (h : Framed s o t [] 600000 7290000) :
    Framed s o t (fieldLocs frame_1_writes args s ++ arrayLocs frame_1_arrays args s ++ staticLocs frame_1_statics s) 600000 7290000 := h
theorem lw_limb (L : Cond) (hL : ∀ (args : Array Value) (s t : State), L.after args s (.returned (some (.int 1))) t = true) :
    ArmFor flags0 classFile x code maxLocals ret World_1 tables_1 room_1 Calls_1 rest_1 Pre_1
      (fun tb e a s o t => postC L tb e a s o t ∧ Framed s o t (fieldLocs frame_1_writes a s ++ arrayLocs frame_1_arrays a s ++ staticLocs frame_1_statics s) 600000 7290000) := by
  intro l _ _ _ p e ha hc hk s m args below hf hfit hheap happ hpre
  obtain ⟨k, o, h1, h2, h3, rfl, hF⟩ := lw_comes l p e ha hc hk s m args below hf hfit hheap happ hpre
  exact ⟨k, _, h1, h2, h3, hL args s _, lw_frame hF⟩
theorem i_vc : Claimed_1_1 ∧ Claimed_1_2 := ⟨lw_limb limb_1_1 (fun args s t => by simp [limb_1_1, Cond.after, Cond.holds, Cond.value]), lw_limb limb_1_2 (fun args s t => Cond.after_iff.mpr (by
  first | (rw [show limb_1_2 = Cond.eq .result (.int 1) from rfl, Cond.eq_ints (x := 1) (y := 1) rfl rfl]; simp; done) | (simp [limb_1_2, Cond.value, Term.eval]; done)))⟩
end
