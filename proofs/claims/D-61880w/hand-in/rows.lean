section
-- ===== PART A: goes FIRST, ahead of the names: the tables' words, and 'selects' of the private methods out of them =====
/-- a private method of a class that the tables say can be made, by its rows of tables_1 -/
def lw_okq (q : MethodName × Nat) : Prop := (q.1.cls ≠ "java/lang/invoke/MethodHandle" ∧ q.1.cls ≠ "java/lang/invoke/VarHandle") ∧ Cond.instantiable q.1.cls q.2 ∈ tables_1 ∧ Cond.privateMethod q.1 ∈ tables_1 ∧ Cond.instanceMethod q.1 ∈ tables_1
set_option maxRecDepth 100000
theorem lw_p0 : lw_okq (⟨"FlashMap", "startUp", "()V"⟩, 10) := ⟨⟨by decide +kernel, by decide +kernel⟩, List.mem_of_getElem? (i := 4) rfl, List.mem_of_getElem? (i := 12) rfl, List.mem_of_getElem? (i := 13) rfl⟩
theorem lw_p1 : lw_okq (⟨"FlashMap", "isErased", "(I)Z"⟩, 10) := ⟨⟨by decide +kernel, by decide +kernel⟩, List.mem_of_getElem? (i := 4) rfl, List.mem_of_getElem? (i := 16) rfl, List.mem_of_getElem? (i := 17) rfl⟩
theorem lw_p2 : lw_okq (⟨"FlashMap", "isPage", "(I)Z"⟩, 10) := ⟨⟨by decide +kernel, by decide +kernel⟩, List.mem_of_getElem? (i := 4) rfl, List.mem_of_getElem? (i := 58) rfl, List.mem_of_getElem? (i := 59) rfl⟩
theorem lw_p3 : lw_okq (⟨"FlashMap", "program", "(IIZ)V"⟩, 10) := ⟨⟨by decide +kernel, by decide +kernel⟩, List.mem_of_getElem? (i := 4) rfl, List.mem_of_getElem? (i := 66) rfl, List.mem_of_getElem? (i := 67) rfl⟩
theorem lw_p4 : lw_okq (⟨"FlashMap", "freshPage", "()I"⟩, 10) := ⟨⟨by decide +kernel, by decide +kernel⟩, List.mem_of_getElem? (i := 4) rfl, List.mem_of_getElem? (i := 70) rfl, List.mem_of_getElem? (i := 71) rfl⟩
theorem lw_p5 : lw_okq (⟨"FlashMap", "nextInBlock", "()I"⟩, 10) := ⟨⟨by decide +kernel, by decide +kernel⟩, List.mem_of_getElem? (i := 4) rfl, List.mem_of_getElem? (i := 74) rfl, List.mem_of_getElem? (i := 75) rfl⟩
theorem lw_p6 : lw_okq (⟨"FlashMap", "freeBlocks", "()I"⟩, 10) := ⟨⟨by decide +kernel, by decide +kernel⟩, List.mem_of_getElem? (i := 4) rfl, List.mem_of_getElem? (i := 78) rfl, List.mem_of_getElem? (i := 79) rfl⟩
theorem lw_p7 : lw_okq (⟨"FlashMap", "leastValidBlock", "()I"⟩, 10) := ⟨⟨by decide +kernel, by decide +kernel⟩, List.mem_of_getElem? (i := 4) rfl, List.mem_of_getElem? (i := 82) rfl, List.mem_of_getElem? (i := 83) rfl⟩
theorem lw_p8 : lw_okq (⟨"FlashMap", "validIn", "(I)I"⟩, 10) := ⟨⟨by decide +kernel, by decide +kernel⟩, List.mem_of_getElem? (i := 4) rfl, List.mem_of_getElem? (i := 86) rfl, List.mem_of_getElem? (i := 87) rfl⟩
theorem lw_p9 : lw_okq (⟨"FlashMap", "isValid", "(I)Z"⟩, 10) := ⟨⟨by decide +kernel, by decide +kernel⟩, List.mem_of_getElem? (i := 4) rfl, List.mem_of_getElem? (i := 90) rfl, List.mem_of_getElem? (i := 91) rfl⟩
theorem lw_p10 : lw_okq (⟨"FlashMap", "leastWornFreeBlock", "()I"⟩, 10) := ⟨⟨by decide +kernel, by decide +kernel⟩, List.mem_of_getElem? (i := 4) rfl, List.mem_of_getElem? (i := 94) rfl, List.mem_of_getElem? (i := 95) rfl⟩
theorem lw_p11 : lw_okq (⟨"FlashMap", "empty", "(I)V"⟩, 10) := ⟨⟨by decide +kernel, by decide +kernel⟩, List.mem_of_getElem? (i := 4) rfl, List.mem_of_getElem? (i := 98) rfl, List.mem_of_getElem? (i := 99) rfl⟩
theorem lw_p12 : lw_okq (⟨"FlashMap", "fillPage", "(IIIZ)V"⟩, 10) := ⟨⟨by decide +kernel, by decide +kernel⟩, List.mem_of_getElem? (i := 4) rfl, List.mem_of_getElem? (i := 102) rfl, List.mem_of_getElem? (i := 103) rfl⟩
theorem lw_p13 : lw_okq (⟨"FlashMap", "replace", "(IIZ)V"⟩, 10) := ⟨⟨by decide +kernel, by decide +kernel⟩, List.mem_of_getElem? (i := 4) rfl, List.mem_of_getElem? (i := 141) rfl, List.mem_of_getElem? (i := 142) rfl⟩
theorem lw_p14 : lw_okq (⟨"FlashMapModel", "isPage", "(I)Z"⟩, 2) := ⟨⟨by decide +kernel, by decide +kernel⟩, List.mem_of_getElem? (i := 153) rfl, List.mem_of_getElem? (i := 170) rfl, List.mem_of_getElem? (i := 171) rfl⟩
def lw_privs_1 : List (MethodName × Nat) := [(⟨"FlashMap", "startUp", "()V"⟩, 10), (⟨"FlashMap", "isErased", "(I)Z"⟩, 10), (⟨"FlashMap", "isPage", "(I)Z"⟩, 10), (⟨"FlashMap", "program", "(IIZ)V"⟩, 10), (⟨"FlashMap", "freshPage", "()I"⟩, 10), (⟨"FlashMap", "nextInBlock", "()I"⟩, 10), (⟨"FlashMap", "freeBlocks", "()I"⟩, 10), (⟨"FlashMap", "leastValidBlock", "()I"⟩, 10), (⟨"FlashMap", "validIn", "(I)I"⟩, 10), (⟨"FlashMap", "isValid", "(I)Z"⟩, 10), (⟨"FlashMap", "leastWornFreeBlock", "()I"⟩, 10), (⟨"FlashMap", "empty", "(I)V"⟩, 10), (⟨"FlashMap", "fillPage", "(IIIZ)V"⟩, 10), (⟨"FlashMap", "replace", "(IIZ)V"⟩, 10), (⟨"FlashMapModel", "isPage", "(I)Z"⟩, 2)]
theorem lw_r1 : ∀ q ∈ lw_privs_1, lw_okq q := List.forall_mem_cons.mpr ⟨lw_p0, List.forall_mem_cons.mpr ⟨lw_p1, List.forall_mem_cons.mpr ⟨lw_p2, List.forall_mem_cons.mpr ⟨lw_p3, List.forall_mem_cons.mpr ⟨lw_p4, List.forall_mem_cons.mpr ⟨lw_p5, List.forall_mem_cons.mpr ⟨lw_p6, List.forall_mem_cons.mpr ⟨lw_p7, List.forall_mem_cons.mpr ⟨lw_p8, List.forall_mem_cons.mpr ⟨lw_p9, List.forall_mem_cons.mpr ⟨lw_p10, List.forall_mem_cons.mpr ⟨lw_p11, List.forall_mem_cons.mpr ⟨lw_p12, List.forall_mem_cons.mpr ⟨lw_p13, List.forall_mem_cons.mpr ⟨lw_p14, fun _ h => absurd h List.not_mem_nil⟩⟩⟩⟩⟩⟩⟩⟩⟩⟩⟩⟩⟩⟩⟩
def lw_privs : List (MethodName × Nat) := lw_privs_1
def lw_tbl : List Cond := k2_sels lw_privs ++ tables_1
theorem lw_privs_ok : ∀ q ∈ lw_privs, lw_okq q := lw_r1
-- ===== ONE list of words for every method: the tables' words that hold all through a run =====
def lw_all : List Cond := lw_tbl.filter goodWord
/-- a word of the tables by its place: claim/WORDS.tsv -/
theorem lw_w {w : Cond} (i : Nat) (h : lw_tbl[i]? = some w) (g : goodWord w = true) : w ∈ lw_all := List.mem_filter.mpr ⟨List.mem_of_getElem? h, g⟩
theorem lw_all_tbl {w : Cond} (h : w ∈ lw_all) : w ∈ lw_tbl := (List.mem_filter.mp h).1
theorem lw_self : GoodIn lw_all lw_all := fun w h => ⟨h, good_of_word (List.mem_filter.mp h).2⟩
/-- a class's field words, by their places -/
theorem lw_in (ws : List Cond) (ps : List Nat) (hp : ws = ps.filterMap (fun i => lw_tbl[i]?)) (hg : ws.all goodWord = true) : ∀ w ∈ ws, w ∈ lw_all := by
  intro w h
  have h1 := List.all_eq_true.mp hg w h
  rw [hp] at h
  obtain ⟨i, -, hi⟩ := List.mem_filterMap.mp h
  exact lw_w i hi h1
/-- the words of a contract for the method y with code b, L locals, answer r -/
abbrev ws_ (y : MethodName) (b : ByteArray) (L : Nat) (r : Option FieldType) : List Cond := Cond.code y b L r :: lw_all
theorem lw_meth {y : MethodName} {b : ByteArray} {L : Nat} {r : Option FieldType} (h : Cond.code y b L r ∈ lw_all) : GoodIn lw_all (ws_ y b L r) := by
  intro w hw
  rcases List.mem_cons.mp hw with e | e
  · rw [e]
    exact lw_self _ h
  · exact lw_self _ e
theorem lw_app {a c : List Cond} (ha : ∀ w ∈ a, w ∈ lw_all) (hc : GoodIn lw_all c) : GoodIn lw_all (a ++ c) := by
  intro w hw
  rcases List.mem_append.mp hw with e | e
  · exact lw_self w (ha w e)
  · exact hc w e
/-- what a call through an object asks: cwV n hts (lw_V ..) -/
theorem lw_V {own : String} {idx : Nat} {C : String} {y : MethodName} {b : ByteArray} {L : Nat} {r : Option FieldType} (h1 : Cond.methodLink own idx y ∈ lw_all) (h2 : Cond.instanceMethod y ∈ lw_all) (h3 : Cond.selects C y y ∈ lw_all) (h4 : Cond.initialized C ∈ lw_all) (h5 : Cond.code y b L r ∈ lw_all) : GoodIn lw_all (wsV own idx C y (ws_ y b L r)) := by
  refine lw_app ?_ (lw_meth h5)
  intro w hw
  simp only [List.mem_cons, List.not_mem_nil, or_false] at hw
  rcases hw with e | e | e | e
  · rw [e]; exact h1
  · rw [e]; exact h2
  · rw [e]; exact h3
  · rw [e]; exact h4
/-- what a static call asks: va_cwS n hts (lw_S ..) -/
theorem lw_S {own : String} {idx : Nat} {y : MethodName} {b : ByteArray} {L : Nat} {r : Option FieldType} (h1 : Cond.methodLink own idx y ∈ lw_all) (h2 : Cond.static y ∈ lw_all) (h3 : Cond.initialized y.cls ∈ lw_all) (h4 : Cond.code y b L r ∈ lw_all) : GoodIn lw_all (va_wsS own idx y (ws_ y b L r)) := by
  refine lw_app ?_ (lw_meth h4)
  intro w hw
  simp only [List.mem_cons, List.not_mem_nil, or_false] at hw
  rcases hw with e | e | e
  · rw [e]; exact h1
  · rw [e]; exact h2
  · rw [e]; exact h3
/-- the words of a contract for a method WITH HANDLERS (hh: its table) -/
abbrev wsW_ (y : MethodName) (b : ByteArray) (L : Nat) (r : Option FieldType) (hh : List (Nat × Nat × Nat × Nat)) : List Cond := Cond.codeWith y b L r hh :: lw_all
theorem lw_methW {y : MethodName} {b : ByteArray} {L : Nat} {r : Option FieldType} {hh : List (Nat × Nat × Nat × Nat)} (h : Cond.codeWith y b L r hh ∈ lw_all) : GoodIn lw_all (wsW_ y b L r hh) := by
  intro w hw
  rcases List.mem_cons.mp hw with e | e
  · rw [e]
    exact lw_self _ h
  · exact lw_self _ e
/-- any list of words by their places (lw_in), good -/
theorem lw_good {ws : List Cond} (h : ∀ w ∈ ws, w ∈ lw_all) : GoodIn lw_all ws := fun w hw => lw_self w (h w hw)
/-- what a call of a method with handlers asks: vx_cwVW n hts (lw_VW ..), vx_cwSW n hts (lw_SW ..) -/
theorem lw_VW {own : String} {idx : Nat} {C : String} {y : MethodName} {b : ByteArray} {L : Nat} {r : Option FieldType} {hh : List (Nat × Nat × Nat × Nat)} (h1 : Cond.methodLink own idx y ∈ lw_all) (h2 : Cond.instanceMethod y ∈ lw_all) (h3 : Cond.selects C y y ∈ lw_all) (h4 : Cond.initialized C ∈ lw_all) (h5 : Cond.codeWith y b L r hh ∈ lw_all) : GoodIn lw_all (wsV own idx C y (wsW_ y b L r hh)) := by
  refine lw_app ?_ (lw_methW h5)
  intro w hw
  simp only [List.mem_cons, List.not_mem_nil, or_false] at hw
  rcases hw with e | e | e | e
  · rw [e]; exact h1
  · rw [e]; exact h2
  · rw [e]; exact h3
  · rw [e]; exact h4
theorem lw_SW {own : String} {idx : Nat} {y : MethodName} {b : ByteArray} {L : Nat} {r : Option FieldType} {hh : List (Nat × Nat × Nat × Nat)} (h1 : Cond.methodLink own idx y ∈ lw_all) (h2 : Cond.static y ∈ lw_all) (h3 : Cond.initialized y.cls ∈ lw_all) (h4 : Cond.codeWith y b L r hh ∈ lw_all) : GoodIn lw_all (va_wsS own idx y (wsW_ y b L r hh)) := by
  refine lw_app ?_ (lw_methW h4)
  intro w hw
  simp only [List.mem_cons, List.not_mem_nil, or_false] at hw
  rcases hw with e | e | e
  · rw [e]; exact h1
  · rw [e]; exact h2
  · rw [e]; exact h3
/-- a word by its place in its run of the tables -/
theorem lw_at {r : List Cond} (hr : ∀ w ∈ r, w ∈ lw_tbl) {w : Cond} (i : Nat) (h : r[i]? = some w) : w ∈ lw_tbl := hr w (List.mem_of_getElem? h)
theorem lw_g {w : Cond} (h : w ∈ lw_tbl) (g : goodWord w = true) : w ∈ lw_all := List.mem_filter.mpr ⟨h, g⟩
theorem lw_ms : ∀ w ∈ k2_sels lw_privs, w ∈ lw_tbl := fun w h => show w ∈ k2_sels lw_privs ++ tables_1 from List.mem_append_left _ h
theorem lw_m0 : ∀ w ∈ tables_1, w ∈ lw_tbl := fun w h => show w ∈ k2_sels lw_privs ++ tables_1 from List.mem_append_right (k2_sels lw_privs) h
theorem qs0 : (Cond.selects "FlashMap" ⟨"FlashMap", "startUp", "()V"⟩ ⟨"FlashMap", "startUp", "()V"⟩) ∈ lw_all := lw_g (lw_at lw_ms 0 rfl) rfl
theorem qs1 : (Cond.selects "FlashMap" ⟨"FlashMap", "isErased", "(I)Z"⟩ ⟨"FlashMap", "isErased", "(I)Z"⟩) ∈ lw_all := lw_g (lw_at lw_ms 1 rfl) rfl
theorem qs2 : (Cond.selects "FlashMap" ⟨"FlashMap", "isPage", "(I)Z"⟩ ⟨"FlashMap", "isPage", "(I)Z"⟩) ∈ lw_all := lw_g (lw_at lw_ms 2 rfl) rfl
theorem qs3 : (Cond.selects "FlashMap" ⟨"FlashMap", "program", "(IIZ)V"⟩ ⟨"FlashMap", "program", "(IIZ)V"⟩) ∈ lw_all := lw_g (lw_at lw_ms 3 rfl) rfl
theorem qs4 : (Cond.selects "FlashMap" ⟨"FlashMap", "freshPage", "()I"⟩ ⟨"FlashMap", "freshPage", "()I"⟩) ∈ lw_all := lw_g (lw_at lw_ms 4 rfl) rfl
theorem qs5 : (Cond.selects "FlashMap" ⟨"FlashMap", "nextInBlock", "()I"⟩ ⟨"FlashMap", "nextInBlock", "()I"⟩) ∈ lw_all := lw_g (lw_at lw_ms 5 rfl) rfl
theorem qs6 : (Cond.selects "FlashMap" ⟨"FlashMap", "freeBlocks", "()I"⟩ ⟨"FlashMap", "freeBlocks", "()I"⟩) ∈ lw_all := lw_g (lw_at lw_ms 6 rfl) rfl
theorem qs7 : (Cond.selects "FlashMap" ⟨"FlashMap", "leastValidBlock", "()I"⟩ ⟨"FlashMap", "leastValidBlock", "()I"⟩) ∈ lw_all := lw_g (lw_at lw_ms 7 rfl) rfl
theorem qs8 : (Cond.selects "FlashMap" ⟨"FlashMap", "validIn", "(I)I"⟩ ⟨"FlashMap", "validIn", "(I)I"⟩) ∈ lw_all := lw_g (lw_at lw_ms 8 rfl) rfl
theorem qs9 : (Cond.selects "FlashMap" ⟨"FlashMap", "isValid", "(I)Z"⟩ ⟨"FlashMap", "isValid", "(I)Z"⟩) ∈ lw_all := lw_g (lw_at lw_ms 9 rfl) rfl
theorem qs10 : (Cond.selects "FlashMap" ⟨"FlashMap", "leastWornFreeBlock", "()I"⟩ ⟨"FlashMap", "leastWornFreeBlock", "()I"⟩) ∈ lw_all := lw_g (lw_at lw_ms 10 rfl) rfl
theorem qs11 : (Cond.selects "FlashMap" ⟨"FlashMap", "empty", "(I)V"⟩ ⟨"FlashMap", "empty", "(I)V"⟩) ∈ lw_all := lw_g (lw_at lw_ms 11 rfl) rfl
theorem qs12 : (Cond.selects "FlashMap" ⟨"FlashMap", "fillPage", "(IIIZ)V"⟩ ⟨"FlashMap", "fillPage", "(IIIZ)V"⟩) ∈ lw_all := lw_g (lw_at lw_ms 12 rfl) rfl
theorem qs13 : (Cond.selects "FlashMap" ⟨"FlashMap", "replace", "(IIZ)V"⟩ ⟨"FlashMap", "replace", "(IIZ)V"⟩) ∈ lw_all := lw_g (lw_at lw_ms 13 rfl) rfl
theorem qs14 : (Cond.selects "FlashMapModel" ⟨"FlashMapModel", "isPage", "(I)Z"⟩ ⟨"FlashMapModel", "isPage", "(I)Z"⟩) ∈ lw_all := lw_g (lw_at lw_ms 14 rfl) rfl
end
section
/-! FlashMap -/
set_option maxRecDepth 100000
def RX1 : String := "FlashMap"
def TX1 : u_T := fun k => match k with
  | 0 => ("FlashMap", "state", "[B", true)
  | 1 => ("FlashMap", "data", "[I", true)
  | 2 => ("FlashMap", "logical", "[B", true)
  | 3 => ("FlashMap", "empty", "[Z", true)
  | 4 => ("FlashMap", "running", "[I", true)
  | 5 => ("FlashMap", "erasures", "[I", true)
  | 6 => ("FlashMap", "spareBlocks", "I", false)
  | 7 => ("FlashMap", "place", "[B", true)
  | 8 => ("FlashMap", "openBlock", "I", false)
  | _ => ("FlashMap", "nextNumber", "I", false)
def tyX1 : Nat → FieldType := fun k => match k with
  | 0 => .array .byte
  | 1 => .array .int
  | 2 => .array .byte
  | 3 => .array .boolean
  | 4 => .array .int
  | 5 => .array .int
  | 6 => .int
  | 7 => .array .byte
  | 8 => .int
  | _ => .int
abbrev wsX10 : List Cond := u_ws RX1 TX1 10
theorem nmX1 : ∀ a, a < 10 → ∀ b, b < 10 → a ≠ b → (TX1 a).2.1 ≠ (TX1 b).2.1 := by decide +kernel
theorem tyX1_ok : ∀ k, k < 10 → parseFieldDescriptor (TX1 k).2.2.1 = some (tyX1 k) := by decide +kernel
abbrev cX1_init : ByteArray := prog_1_method_1_code
def yX1_init : MethodName := ⟨RX1, "<init>", "(I)V"⟩
theorem dX1_init_0 : decode cX1_init 0 = .ok (.aload_n 0, 1) := by decide +kernel
theorem dX1_init_1 : decode cX1_init 1 = .ok (.invokespecial 1, 3) := by decide +kernel
theorem dX1_init_4 : decode cX1_init 4 = .ok (.aload_n 0, 1) := by decide +kernel
theorem dX1_init_5 : decode cX1_init 5 = .ok (.bipush 32, 2) := by decide +kernel
theorem dX1_init_7 : decode cX1_init 7 = .ok (.newarray .byte, 2) := by decide +kernel
theorem dX1_init_9 : decode cX1_init 9 = .ok (.putfield 7, 3) := by decide +kernel
theorem dX1_init_12 : decode cX1_init 12 = .ok (.aload_n 0, 1) := by decide +kernel
theorem dX1_init_13 : decode cX1_init 13 = .ok (.bipush 32, 2) := by decide +kernel
theorem dX1_init_15 : decode cX1_init 15 = .ok (.newarray .int, 2) := by decide +kernel
theorem dX1_init_17 : decode cX1_init 17 = .ok (.putfield 13, 3) := by decide +kernel
theorem dX1_init_20 : decode cX1_init 20 = .ok (.aload_n 0, 1) := by decide +kernel
theorem dX1_init_21 : decode cX1_init 21 = .ok (.bipush 32, 2) := by decide +kernel
theorem dX1_init_23 : decode cX1_init 23 = .ok (.newarray .byte, 2) := by decide +kernel
theorem dX1_init_25 : decode cX1_init 25 = .ok (.putfield 17, 3) := by decide +kernel
theorem dX1_init_28 : decode cX1_init 28 = .ok (.aload_n 0, 1) := by decide +kernel
theorem dX1_init_29 : decode cX1_init 29 = .ok (.bipush 32, 2) := by decide +kernel
theorem dX1_init_31 : decode cX1_init 31 = .ok (.newarray .boolean, 2) := by decide +kernel
theorem dX1_init_33 : decode cX1_init 33 = .ok (.putfield 20, 3) := by decide +kernel
theorem dX1_init_36 : decode cX1_init 36 = .ok (.aload_n 0, 1) := by decide +kernel
theorem dX1_init_37 : decode cX1_init 37 = .ok (.bipush 32, 2) := by decide +kernel
theorem dX1_init_39 : decode cX1_init 39 = .ok (.newarray .int, 2) := by decide +kernel
theorem dX1_init_41 : decode cX1_init 41 = .ok (.putfield 24, 3) := by decide +kernel
theorem dX1_init_44 : decode cX1_init 44 = .ok (.aload_n 0, 1) := by decide +kernel
theorem dX1_init_45 : decode cX1_init 45 = .ok (.bipush 8, 2) := by decide +kernel
theorem dX1_init_47 : decode cX1_init 47 = .ok (.newarray .int, 2) := by decide +kernel
theorem dX1_init_49 : decode cX1_init 49 = .ok (.putfield 27, 3) := by decide +kernel
theorem dX1_init_52 : decode cX1_init 52 = .ok (.aload_n 0, 1) := by decide +kernel
theorem dX1_init_53 : decode cX1_init 53 = .ok (.bipush 12, 2) := by decide +kernel
theorem dX1_init_55 : decode cX1_init 55 = .ok (.newarray .byte, 2) := by decide +kernel
theorem dX1_init_57 : decode cX1_init 57 = .ok (.putfield 30, 3) := by decide +kernel
theorem dX1_init_60 : decode cX1_init 60 = .ok (.aload_n 0, 1) := by decide +kernel
theorem dX1_init_61 : decode cX1_init 61 = .ok (.iload_n 1, 1) := by decide +kernel
theorem dX1_init_62 : decode cX1_init 62 = .ok (.iconst 1, 1) := by decide +kernel
theorem dX1_init_63 : decode cX1_init 63 = .ok (.if_icmp .ge 7, 3) := by decide +kernel
theorem dX1_init_66 : decode cX1_init 66 = .ok (.iconst 1, 1) := by decide +kernel
theorem dX1_init_67 : decode cX1_init 67 = .ok (.goto 13, 3) := by decide +kernel
theorem dX1_init_70 : decode cX1_init 70 = .ok (.iload_n 1, 1) := by decide +kernel
theorem dX1_init_71 : decode cX1_init 71 = .ok (.iconst 3, 1) := by decide +kernel
theorem dX1_init_72 : decode cX1_init 72 = .ok (.if_icmp .le 7, 3) := by decide +kernel
theorem dX1_init_75 : decode cX1_init 75 = .ok (.iconst 3, 1) := by decide +kernel
theorem dX1_init_76 : decode cX1_init 76 = .ok (.goto 4, 3) := by decide +kernel
theorem dX1_init_79 : decode cX1_init 79 = .ok (.iload_n 1, 1) := by decide +kernel
theorem dX1_init_80 : decode cX1_init 80 = .ok (.putfield 33, 3) := by decide +kernel
theorem dX1_init_83 : decode cX1_init 83 = .ok (.aload_n 0, 1) := by decide +kernel
theorem dX1_init_84 : decode cX1_init 84 = .ok (.invokevirtual 37, 3) := by decide +kernel
theorem dX1_init_87 : decode cX1_init 87 = .ok (.return_, 1) := by decide +kernel
abbrev cX1_startUp : ByteArray := prog_1_method_26_code
def yX1_startUp : MethodName := ⟨RX1, "startUp", "()V"⟩
theorem dX1_startUp_0 : decode cX1_startUp 0 = .ok (.aload_n 0, 1) := by decide +kernel
theorem dX1_startUp_1 : decode cX1_startUp 1 = .ok (.iconst 1, 1) := by decide +kernel
theorem dX1_startUp_2 : decode cX1_startUp 2 = .ok (.putfield 55, 3) := by decide +kernel
theorem dX1_startUp_5 : decode cX1_startUp 5 = .ok (.aload_n 0, 1) := by decide +kernel
theorem dX1_startUp_6 : decode cX1_startUp 6 = .ok (.iconst (-1), 1) := by decide +kernel
theorem dX1_startUp_7 : decode cX1_startUp 7 = .ok (.putfield 87, 3) := by decide +kernel
theorem dX1_startUp_10 : decode cX1_startUp 10 = .ok (.iconst 0, 1) := by decide +kernel
theorem dX1_startUp_11 : decode cX1_startUp 11 = .ok (.istore_n 1, 1) := by decide +kernel
theorem dX1_startUp_12 : decode cX1_startUp 12 = .ok (.iload_n 1, 1) := by decide +kernel
theorem dX1_startUp_13 : decode cX1_startUp 13 = .ok (.bipush 12, 2) := by decide +kernel
theorem dX1_startUp_15 : decode cX1_startUp 15 = .ok (.if_icmp .ge 16, 3) := by decide +kernel
theorem dX1_startUp_18 : decode cX1_startUp 18 = .ok (.aload_n 0, 1) := by decide +kernel
theorem dX1_startUp_19 : decode cX1_startUp 19 = .ok (.getfield 30, 3) := by decide +kernel
theorem dX1_startUp_22 : decode cX1_startUp 22 = .ok (.iload_n 1, 1) := by decide +kernel
theorem dX1_startUp_23 : decode cX1_startUp 23 = .ok (.iconst (-1), 1) := by decide +kernel
theorem dX1_startUp_24 : decode cX1_startUp 24 = .ok (.bastore, 1) := by decide +kernel
theorem dX1_startUp_25 : decode cX1_startUp 25 = .ok (.iinc 1 1, 3) := by decide +kernel
theorem dX1_startUp_28 : decode cX1_startUp 28 = .ok (.goto (-16), 3) := by decide +kernel
theorem dX1_startUp_31 : decode cX1_startUp 31 = .ok (.iconst 0, 1) := by decide +kernel
theorem dX1_startUp_32 : decode cX1_startUp 32 = .ok (.istore_n 1, 1) := by decide +kernel
theorem dX1_startUp_33 : decode cX1_startUp 33 = .ok (.iload_n 1, 1) := by decide +kernel
theorem dX1_startUp_34 : decode cX1_startUp 34 = .ok (.bipush 32, 2) := by decide +kernel
theorem dX1_startUp_36 : decode cX1_startUp 36 = .ok (.if_icmp .ge 91, 3) := by decide +kernel
theorem dX1_startUp_39 : decode cX1_startUp 39 = .ok (.aload_n 0, 1) := by decide +kernel
theorem dX1_startUp_40 : decode cX1_startUp 40 = .ok (.getfield 7, 3) := by decide +kernel
theorem dX1_startUp_43 : decode cX1_startUp 43 = .ok (.iload_n 1, 1) := by decide +kernel
theorem dX1_startUp_44 : decode cX1_startUp 44 = .ok (.baload, 1) := by decide +kernel
theorem dX1_startUp_45 : decode cX1_startUp 45 = .ok (.iconst 1, 1) := by decide +kernel
theorem dX1_startUp_46 : decode cX1_startUp 46 = .ok (.if_icmp .eq 6, 3) := by decide +kernel
theorem dX1_startUp_49 : decode cX1_startUp 49 = .ok (.goto 72, 3) := by decide +kernel
theorem dX1_startUp_52 : decode cX1_startUp 52 = .ok (.aload_n 0, 1) := by decide +kernel
theorem dX1_startUp_53 : decode cX1_startUp 53 = .ok (.getfield 17, 3) := by decide +kernel
theorem dX1_startUp_56 : decode cX1_startUp 56 = .ok (.iload_n 1, 1) := by decide +kernel
theorem dX1_startUp_57 : decode cX1_startUp 57 = .ok (.baload, 1) := by decide +kernel
theorem dX1_startUp_58 : decode cX1_startUp 58 = .ok (.istore_n 2, 1) := by decide +kernel
theorem dX1_startUp_59 : decode cX1_startUp 59 = .ok (.aload_n 0, 1) := by decide +kernel
theorem dX1_startUp_60 : decode cX1_startUp 60 = .ok (.getfield 30, 3) := by decide +kernel
theorem dX1_startUp_63 : decode cX1_startUp 63 = .ok (.iload_n 2, 1) := by decide +kernel
theorem dX1_startUp_64 : decode cX1_startUp 64 = .ok (.baload, 1) := by decide +kernel
theorem dX1_startUp_65 : decode cX1_startUp 65 = .ok (.ifCond .lt 23, 3) := by decide +kernel
theorem dX1_startUp_68 : decode cX1_startUp 68 = .ok (.aload_n 0, 1) := by decide +kernel
theorem dX1_startUp_69 : decode cX1_startUp 69 = .ok (.getfield 24, 3) := by decide +kernel
theorem dX1_startUp_72 : decode cX1_startUp 72 = .ok (.iload_n 1, 1) := by decide +kernel
theorem dX1_startUp_73 : decode cX1_startUp 73 = .ok (.iaload, 1) := by decide +kernel
theorem dX1_startUp_74 : decode cX1_startUp 74 = .ok (.aload_n 0, 1) := by decide +kernel
theorem dX1_startUp_75 : decode cX1_startUp 75 = .ok (.getfield 24, 3) := by decide +kernel
theorem dX1_startUp_78 : decode cX1_startUp 78 = .ok (.aload_n 0, 1) := by decide +kernel
theorem dX1_startUp_79 : decode cX1_startUp 79 = .ok (.getfield 30, 3) := by decide +kernel
theorem dX1_startUp_82 : decode cX1_startUp 82 = .ok (.iload_n 2, 1) := by decide +kernel
theorem dX1_startUp_83 : decode cX1_startUp 83 = .ok (.baload, 1) := by decide +kernel
theorem dX1_startUp_84 : decode cX1_startUp 84 = .ok (.iaload, 1) := by decide +kernel
theorem dX1_startUp_85 : decode cX1_startUp 85 = .ok (.if_icmp .le 11, 3) := by decide +kernel
theorem dX1_startUp_88 : decode cX1_startUp 88 = .ok (.aload_n 0, 1) := by decide +kernel
theorem dX1_startUp_89 : decode cX1_startUp 89 = .ok (.getfield 30, 3) := by decide +kernel
theorem dX1_startUp_92 : decode cX1_startUp 92 = .ok (.iload_n 2, 1) := by decide +kernel
theorem dX1_startUp_93 : decode cX1_startUp 93 = .ok (.iload_n 1, 1) := by decide +kernel
theorem dX1_startUp_94 : decode cX1_startUp 94 = .ok (.i2b, 1) := by decide +kernel
theorem dX1_startUp_95 : decode cX1_startUp 95 = .ok (.bastore, 1) := by decide +kernel
theorem dX1_startUp_96 : decode cX1_startUp 96 = .ok (.aload_n 0, 1) := by decide +kernel
theorem dX1_startUp_97 : decode cX1_startUp 97 = .ok (.getfield 24, 3) := by decide +kernel
theorem dX1_startUp_100 : decode cX1_startUp 100 = .ok (.iload_n 1, 1) := by decide +kernel
theorem dX1_startUp_101 : decode cX1_startUp 101 = .ok (.iaload, 1) := by decide +kernel
theorem dX1_startUp_102 : decode cX1_startUp 102 = .ok (.aload_n 0, 1) := by decide +kernel
theorem dX1_startUp_103 : decode cX1_startUp 103 = .ok (.getfield 55, 3) := by decide +kernel
theorem dX1_startUp_106 : decode cX1_startUp 106 = .ok (.if_icmp .lt 15, 3) := by decide +kernel
theorem dX1_startUp_109 : decode cX1_startUp 109 = .ok (.aload_n 0, 1) := by decide +kernel
theorem dX1_startUp_110 : decode cX1_startUp 110 = .ok (.aload_n 0, 1) := by decide +kernel
theorem dX1_startUp_111 : decode cX1_startUp 111 = .ok (.getfield 24, 3) := by decide +kernel
theorem dX1_startUp_114 : decode cX1_startUp 114 = .ok (.iload_n 1, 1) := by decide +kernel
theorem dX1_startUp_115 : decode cX1_startUp 115 = .ok (.iaload, 1) := by decide +kernel
theorem dX1_startUp_116 : decode cX1_startUp 116 = .ok (.iconst 1, 1) := by decide +kernel
theorem dX1_startUp_117 : decode cX1_startUp 117 = .ok (.iadd, 1) := by decide +kernel
theorem dX1_startUp_118 : decode cX1_startUp 118 = .ok (.putfield 55, 3) := by decide +kernel
theorem dX1_startUp_121 : decode cX1_startUp 121 = .ok (.iinc 1 1, 3) := by decide +kernel
theorem dX1_startUp_124 : decode cX1_startUp 124 = .ok (.goto (-91), 3) := by decide +kernel
theorem dX1_startUp_127 : decode cX1_startUp 127 = .ok (.iconst 0, 1) := by decide +kernel
theorem dX1_startUp_128 : decode cX1_startUp 128 = .ok (.istore_n 1, 1) := by decide +kernel
theorem dX1_startUp_129 : decode cX1_startUp 129 = .ok (.iload_n 1, 1) := by decide +kernel
theorem dX1_startUp_130 : decode cX1_startUp 130 = .ok (.bipush 8, 2) := by decide +kernel
theorem dX1_startUp_132 : decode cX1_startUp 132 = .ok (.if_icmp .ge 35, 3) := by decide +kernel
theorem dX1_startUp_135 : decode cX1_startUp 135 = .ok (.aload_n 0, 1) := by decide +kernel
theorem dX1_startUp_136 : decode cX1_startUp 136 = .ok (.iload_n 1, 1) := by decide +kernel
theorem dX1_startUp_137 : decode cX1_startUp 137 = .ok (.invokevirtual 93, 3) := by decide +kernel
theorem dX1_startUp_140 : decode cX1_startUp 140 = .ok (.ifCond .ne 21, 3) := by decide +kernel
theorem dX1_startUp_143 : decode cX1_startUp 143 = .ok (.aload_n 0, 1) := by decide +kernel
theorem dX1_startUp_144 : decode cX1_startUp 144 = .ok (.getfield 7, 3) := by decide +kernel
theorem dX1_startUp_147 : decode cX1_startUp 147 = .ok (.iconst 4, 1) := by decide +kernel
theorem dX1_startUp_148 : decode cX1_startUp 148 = .ok (.iload_n 1, 1) := by decide +kernel
theorem dX1_startUp_149 : decode cX1_startUp 149 = .ok (.imul, 1) := by decide +kernel
theorem dX1_startUp_150 : decode cX1_startUp 150 = .ok (.iconst 3, 1) := by decide +kernel
theorem dX1_startUp_151 : decode cX1_startUp 151 = .ok (.iadd, 1) := by decide +kernel
theorem dX1_startUp_152 : decode cX1_startUp 152 = .ok (.baload, 1) := by decide +kernel
theorem dX1_startUp_153 : decode cX1_startUp 153 = .ok (.ifCond .ne 8, 3) := by decide +kernel
theorem dX1_startUp_156 : decode cX1_startUp 156 = .ok (.aload_n 0, 1) := by decide +kernel
theorem dX1_startUp_157 : decode cX1_startUp 157 = .ok (.iload_n 1, 1) := by decide +kernel
theorem dX1_startUp_158 : decode cX1_startUp 158 = .ok (.putfield 87, 3) := by decide +kernel
theorem dX1_startUp_161 : decode cX1_startUp 161 = .ok (.iinc 1 1, 3) := by decide +kernel
theorem dX1_startUp_164 : decode cX1_startUp 164 = .ok (.goto (-35), 3) := by decide +kernel
theorem dX1_startUp_167 : decode cX1_startUp 167 = .ok (.return_, 1) := by decide +kernel
abbrev cX1_isErased : ByteArray := prog_1_method_19_code
def yX1_isErased : MethodName := ⟨RX1, "isErased", "(I)Z"⟩
theorem dX1_isErased_0 : decode cX1_isErased 0 = .ok (.iconst 4, 1) := by decide +kernel
theorem dX1_isErased_1 : decode cX1_isErased 1 = .ok (.iload_n 1, 1) := by decide +kernel
theorem dX1_isErased_2 : decode cX1_isErased 2 = .ok (.imul, 1) := by decide +kernel
theorem dX1_isErased_3 : decode cX1_isErased 3 = .ok (.istore_n 2, 1) := by decide +kernel
theorem dX1_isErased_4 : decode cX1_isErased 4 = .ok (.iload_n 2, 1) := by decide +kernel
theorem dX1_isErased_5 : decode cX1_isErased 5 = .ok (.iconst 4, 1) := by decide +kernel
theorem dX1_isErased_6 : decode cX1_isErased 6 = .ok (.iload_n 1, 1) := by decide +kernel
theorem dX1_isErased_7 : decode cX1_isErased 7 = .ok (.imul, 1) := by decide +kernel
theorem dX1_isErased_8 : decode cX1_isErased 8 = .ok (.iconst 4, 1) := by decide +kernel
theorem dX1_isErased_9 : decode cX1_isErased 9 = .ok (.iadd, 1) := by decide +kernel
theorem dX1_isErased_10 : decode cX1_isErased 10 = .ok (.if_icmp .ge 20, 3) := by decide +kernel
theorem dX1_isErased_13 : decode cX1_isErased 13 = .ok (.aload_n 0, 1) := by decide +kernel
theorem dX1_isErased_14 : decode cX1_isErased 14 = .ok (.getfield 7, 3) := by decide +kernel
theorem dX1_isErased_17 : decode cX1_isErased 17 = .ok (.iload_n 2, 1) := by decide +kernel
theorem dX1_isErased_18 : decode cX1_isErased 18 = .ok (.baload, 1) := by decide +kernel
theorem dX1_isErased_19 : decode cX1_isErased 19 = .ok (.ifCond .eq 5, 3) := by decide +kernel
theorem dX1_isErased_22 : decode cX1_isErased 22 = .ok (.iconst 0, 1) := by decide +kernel
theorem dX1_isErased_23 : decode cX1_isErased 23 = .ok (.ireturn, 1) := by decide +kernel
theorem dX1_isErased_24 : decode cX1_isErased 24 = .ok (.iinc 2 1, 3) := by decide +kernel
theorem dX1_isErased_27 : decode cX1_isErased 27 = .ok (.goto (-23), 3) := by decide +kernel
theorem dX1_isErased_30 : decode cX1_isErased 30 = .ok (.iconst 1, 1) := by decide +kernel
theorem dX1_isErased_31 : decode cX1_isErased 31 = .ok (.ireturn, 1) := by decide +kernel
abbrev cX1_write : ByteArray := prog_1_method_2_code
def yX1_write : MethodName := ⟨RX1, "write", "(II)I"⟩
theorem dX1_write_0 : decode cX1_write 0 = .ok (.aload_n 0, 1) := by decide +kernel
theorem dX1_write_1 : decode cX1_write 1 = .ok (.iload_n 1, 1) := by decide +kernel
theorem dX1_write_2 : decode cX1_write 2 = .ok (.invokevirtual 40, 3) := by decide +kernel
theorem dX1_write_5 : decode cX1_write 5 = .ok (.ifCond .ne 5, 3) := by decide +kernel
theorem dX1_write_8 : decode cX1_write 8 = .ok (.iconst (-1), 1) := by decide +kernel
theorem dX1_write_9 : decode cX1_write 9 = .ok (.ireturn, 1) := by decide +kernel
theorem dX1_write_10 : decode cX1_write 10 = .ok (.aload_n 0, 1) := by decide +kernel
theorem dX1_write_11 : decode cX1_write 11 = .ok (.iload_n 1, 1) := by decide +kernel
theorem dX1_write_12 : decode cX1_write 12 = .ok (.invokevirtual 44, 3) := by decide +kernel
theorem dX1_write_15 : decode cX1_write 15 = .ok (.ifCond .eq 7, 3) := by decide +kernel
theorem dX1_write_18 : decode cX1_write 18 = .ok (.iconst 1, 1) := by decide +kernel
theorem dX1_write_19 : decode cX1_write 19 = .ok (.goto 4, 3) := by decide +kernel
theorem dX1_write_22 : decode cX1_write 22 = .ok (.iconst 0, 1) := by decide +kernel
theorem dX1_write_23 : decode cX1_write 23 = .ok (.istore_n 3, 1) := by decide +kernel
theorem dX1_write_24 : decode cX1_write 24 = .ok (.aload_n 0, 1) := by decide +kernel
theorem dX1_write_25 : decode cX1_write 25 = .ok (.iload_n 1, 1) := by decide +kernel
theorem dX1_write_26 : decode cX1_write 26 = .ok (.iload_n 2, 1) := by decide +kernel
theorem dX1_write_27 : decode cX1_write 27 = .ok (.iconst 0, 1) := by decide +kernel
theorem dX1_write_28 : decode cX1_write 28 = .ok (.invokevirtual 47, 3) := by decide +kernel
theorem dX1_write_31 : decode cX1_write 31 = .ok (.iload_n 3, 1) := by decide +kernel
theorem dX1_write_32 : decode cX1_write 32 = .ok (.ireturn, 1) := by decide +kernel
abbrev cX1_isPage : ByteArray := prog_1_method_13_code
def yX1_isPage : MethodName := ⟨RX1, "isPage", "(I)Z"⟩
theorem dX1_isPage_0 : decode cX1_isPage 0 = .ok (.iload_n 1, 1) := by decide +kernel
theorem dX1_isPage_1 : decode cX1_isPage 1 = .ok (.ifCond .lt 13, 3) := by decide +kernel
theorem dX1_isPage_4 : decode cX1_isPage 4 = .ok (.iload_n 1, 1) := by decide +kernel
theorem dX1_isPage_5 : decode cX1_isPage 5 = .ok (.bipush 11, 2) := by decide +kernel
theorem dX1_isPage_7 : decode cX1_isPage 7 = .ok (.if_icmp .gt 7, 3) := by decide +kernel
theorem dX1_isPage_10 : decode cX1_isPage 10 = .ok (.iconst 1, 1) := by decide +kernel
theorem dX1_isPage_11 : decode cX1_isPage 11 = .ok (.goto 4, 3) := by decide +kernel
theorem dX1_isPage_14 : decode cX1_isPage 14 = .ok (.iconst 0, 1) := by decide +kernel
theorem dX1_isPage_15 : decode cX1_isPage 15 = .ok (.ireturn, 1) := by decide +kernel
abbrev cX1_has : ByteArray := prog_1_method_6_code
def yX1_has : MethodName := ⟨RX1, "has", "(I)Z"⟩
theorem dX1_has_0 : decode cX1_has 0 = .ok (.aload_n 0, 1) := by decide +kernel
theorem dX1_has_1 : decode cX1_has 1 = .ok (.iload_n 1, 1) := by decide +kernel
theorem dX1_has_2 : decode cX1_has 2 = .ok (.invokevirtual 40, 3) := by decide +kernel
theorem dX1_has_5 : decode cX1_has 5 = .ok (.ifCond .eq 30, 3) := by decide +kernel
theorem dX1_has_8 : decode cX1_has 8 = .ok (.aload_n 0, 1) := by decide +kernel
theorem dX1_has_9 : decode cX1_has 9 = .ok (.getfield 30, 3) := by decide +kernel
theorem dX1_has_12 : decode cX1_has 12 = .ok (.iload_n 1, 1) := by decide +kernel
theorem dX1_has_13 : decode cX1_has 13 = .ok (.baload, 1) := by decide +kernel
theorem dX1_has_14 : decode cX1_has 14 = .ok (.ifCond .lt 21, 3) := by decide +kernel
theorem dX1_has_17 : decode cX1_has 17 = .ok (.aload_n 0, 1) := by decide +kernel
theorem dX1_has_18 : decode cX1_has 18 = .ok (.getfield 20, 3) := by decide +kernel
theorem dX1_has_21 : decode cX1_has 21 = .ok (.aload_n 0, 1) := by decide +kernel
theorem dX1_has_22 : decode cX1_has 22 = .ok (.getfield 30, 3) := by decide +kernel
theorem dX1_has_25 : decode cX1_has 25 = .ok (.iload_n 1, 1) := by decide +kernel
theorem dX1_has_26 : decode cX1_has 26 = .ok (.baload, 1) := by decide +kernel
theorem dX1_has_27 : decode cX1_has 27 = .ok (.baload, 1) := by decide +kernel
theorem dX1_has_28 : decode cX1_has 28 = .ok (.ifCond .ne 7, 3) := by decide +kernel
theorem dX1_has_31 : decode cX1_has 31 = .ok (.iconst 1, 1) := by decide +kernel
theorem dX1_has_32 : decode cX1_has 32 = .ok (.goto 4, 3) := by decide +kernel
theorem dX1_has_35 : decode cX1_has 35 = .ok (.iconst 0, 1) := by decide +kernel
theorem dX1_has_36 : decode cX1_has 36 = .ok (.ireturn, 1) := by decide +kernel
abbrev cX1_program : ByteArray := prog_1_method_15_code
def yX1_program : MethodName := ⟨RX1, "program", "(IIZ)V"⟩
theorem dX1_program_0 : decode cX1_program 0 = .ok (.aload_n 0, 1) := by decide +kernel
theorem dX1_program_1 : decode cX1_program 1 = .ok (.invokevirtual 51, 3) := by decide +kernel
theorem dX1_program_4 : decode cX1_program 4 = .ok (.istore 4, 2) := by decide +kernel
theorem dX1_program_6 : decode cX1_program 6 = .ok (.aload_n 0, 1) := by decide +kernel
theorem dX1_program_7 : decode cX1_program 7 = .ok (.iload 4, 2) := by decide +kernel
theorem dX1_program_9 : decode cX1_program 9 = .ok (.iload_n 1, 1) := by decide +kernel
theorem dX1_program_10 : decode cX1_program 10 = .ok (.iload_n 2, 1) := by decide +kernel
theorem dX1_program_11 : decode cX1_program 11 = .ok (.iload_n 3, 1) := by decide +kernel
theorem dX1_program_12 : decode cX1_program 12 = .ok (.invokevirtual 71, 3) := by decide +kernel
theorem dX1_program_15 : decode cX1_program 15 = .ok (.return_, 1) := by decide +kernel
abbrev cX1_freshPage : ByteArray := prog_1_method_17_code
def yX1_freshPage : MethodName := ⟨RX1, "freshPage", "()I"⟩
theorem dX1_freshPage_0 : decode cX1_freshPage 0 = .ok (.aload_n 0, 1) := by decide +kernel
theorem dX1_freshPage_1 : decode cX1_freshPage 1 = .ok (.invokevirtual 75, 3) := by decide +kernel
theorem dX1_freshPage_4 : decode cX1_freshPage 4 = .ok (.istore_n 1, 1) := by decide +kernel
theorem dX1_freshPage_5 : decode cX1_freshPage 5 = .ok (.iload_n 1, 1) := by decide +kernel
theorem dX1_freshPage_6 : decode cX1_freshPage 6 = .ok (.ifCond .lt 5, 3) := by decide +kernel
theorem dX1_freshPage_9 : decode cX1_freshPage 9 = .ok (.iload_n 1, 1) := by decide +kernel
theorem dX1_freshPage_10 : decode cX1_freshPage 10 = .ok (.ireturn, 1) := by decide +kernel
theorem dX1_freshPage_11 : decode cX1_freshPage 11 = .ok (.aload_n 0, 1) := by decide +kernel
theorem dX1_freshPage_12 : decode cX1_freshPage 12 = .ok (.invokevirtual 78, 3) := by decide +kernel
theorem dX1_freshPage_15 : decode cX1_freshPage 15 = .ok (.aload_n 0, 1) := by decide +kernel
theorem dX1_freshPage_16 : decode cX1_freshPage 16 = .ok (.getfield 33, 3) := by decide +kernel
theorem dX1_freshPage_19 : decode cX1_freshPage 19 = .ok (.if_icmp .le 7, 3) := by decide +kernel
theorem dX1_freshPage_22 : decode cX1_freshPage 22 = .ok (.iconst 1, 1) := by decide +kernel
theorem dX1_freshPage_23 : decode cX1_freshPage 23 = .ok (.goto 4, 3) := by decide +kernel
theorem dX1_freshPage_26 : decode cX1_freshPage 26 = .ok (.iconst 0, 1) := by decide +kernel
theorem dX1_freshPage_27 : decode cX1_freshPage 27 = .ok (.istore_n 2, 1) := by decide +kernel
theorem dX1_freshPage_28 : decode cX1_freshPage 28 = .ok (.iload_n 2, 1) := by decide +kernel
theorem dX1_freshPage_29 : decode cX1_freshPage 29 = .ok (.ifCond .eq 7, 3) := by decide +kernel
theorem dX1_freshPage_32 : decode cX1_freshPage 32 = .ok (.iconst (-1), 1) := by decide +kernel
theorem dX1_freshPage_33 : decode cX1_freshPage 33 = .ok (.goto 7, 3) := by decide +kernel
theorem dX1_freshPage_36 : decode cX1_freshPage 36 = .ok (.aload_n 0, 1) := by decide +kernel
theorem dX1_freshPage_37 : decode cX1_freshPage 37 = .ok (.invokevirtual 81, 3) := by decide +kernel
theorem dX1_freshPage_40 : decode cX1_freshPage 40 = .ok (.istore_n 3, 1) := by decide +kernel
theorem dX1_freshPage_41 : decode cX1_freshPage 41 = .ok (.aload_n 0, 1) := by decide +kernel
theorem dX1_freshPage_42 : decode cX1_freshPage 42 = .ok (.aload_n 0, 1) := by decide +kernel
theorem dX1_freshPage_43 : decode cX1_freshPage 43 = .ok (.invokevirtual 84, 3) := by decide +kernel
theorem dX1_freshPage_46 : decode cX1_freshPage 46 = .ok (.putfield 87, 3) := by decide +kernel
theorem dX1_freshPage_49 : decode cX1_freshPage 49 = .ok (.iload_n 2, 1) := by decide +kernel
theorem dX1_freshPage_50 : decode cX1_freshPage 50 = .ok (.ifCond .ne 8, 3) := by decide +kernel
theorem dX1_freshPage_53 : decode cX1_freshPage 53 = .ok (.aload_n 0, 1) := by decide +kernel
theorem dX1_freshPage_54 : decode cX1_freshPage 54 = .ok (.iload_n 3, 1) := by decide +kernel
theorem dX1_freshPage_55 : decode cX1_freshPage 55 = .ok (.invokevirtual 90, 3) := by decide +kernel
theorem dX1_freshPage_58 : decode cX1_freshPage 58 = .ok (.aload_n 0, 1) := by decide +kernel
theorem dX1_freshPage_59 : decode cX1_freshPage 59 = .ok (.invokevirtual 75, 3) := by decide +kernel
theorem dX1_freshPage_62 : decode cX1_freshPage 62 = .ok (.ireturn, 1) := by decide +kernel
abbrev cX1_nextInBlock : ByteArray := prog_1_method_18_code
def yX1_nextInBlock : MethodName := ⟨RX1, "nextInBlock", "()I"⟩
theorem dX1_nextInBlock_0 : decode cX1_nextInBlock 0 = .ok (.aload_n 0, 1) := by decide +kernel
theorem dX1_nextInBlock_1 : decode cX1_nextInBlock 1 = .ok (.getfield 87, 3) := by decide +kernel
theorem dX1_nextInBlock_4 : decode cX1_nextInBlock 4 = .ok (.ifCond .ge 5, 3) := by decide +kernel
theorem dX1_nextInBlock_7 : decode cX1_nextInBlock 7 = .ok (.iconst (-1), 1) := by decide +kernel
theorem dX1_nextInBlock_8 : decode cX1_nextInBlock 8 = .ok (.ireturn, 1) := by decide +kernel
theorem dX1_nextInBlock_9 : decode cX1_nextInBlock 9 = .ok (.iconst 4, 1) := by decide +kernel
theorem dX1_nextInBlock_10 : decode cX1_nextInBlock 10 = .ok (.aload_n 0, 1) := by decide +kernel
theorem dX1_nextInBlock_11 : decode cX1_nextInBlock 11 = .ok (.getfield 87, 3) := by decide +kernel
theorem dX1_nextInBlock_14 : decode cX1_nextInBlock 14 = .ok (.imul, 1) := by decide +kernel
theorem dX1_nextInBlock_15 : decode cX1_nextInBlock 15 = .ok (.istore_n 1, 1) := by decide +kernel
theorem dX1_nextInBlock_16 : decode cX1_nextInBlock 16 = .ok (.iload_n 1, 1) := by decide +kernel
theorem dX1_nextInBlock_17 : decode cX1_nextInBlock 17 = .ok (.iconst 4, 1) := by decide +kernel
theorem dX1_nextInBlock_18 : decode cX1_nextInBlock 18 = .ok (.aload_n 0, 1) := by decide +kernel
theorem dX1_nextInBlock_19 : decode cX1_nextInBlock 19 = .ok (.getfield 87, 3) := by decide +kernel
theorem dX1_nextInBlock_22 : decode cX1_nextInBlock 22 = .ok (.imul, 1) := by decide +kernel
theorem dX1_nextInBlock_23 : decode cX1_nextInBlock 23 = .ok (.iconst 4, 1) := by decide +kernel
theorem dX1_nextInBlock_24 : decode cX1_nextInBlock 24 = .ok (.iadd, 1) := by decide +kernel
theorem dX1_nextInBlock_25 : decode cX1_nextInBlock 25 = .ok (.if_icmp .ge 20, 3) := by decide +kernel
theorem dX1_nextInBlock_28 : decode cX1_nextInBlock 28 = .ok (.aload_n 0, 1) := by decide +kernel
theorem dX1_nextInBlock_29 : decode cX1_nextInBlock 29 = .ok (.getfield 7, 3) := by decide +kernel
theorem dX1_nextInBlock_32 : decode cX1_nextInBlock 32 = .ok (.iload_n 1, 1) := by decide +kernel
theorem dX1_nextInBlock_33 : decode cX1_nextInBlock 33 = .ok (.baload, 1) := by decide +kernel
theorem dX1_nextInBlock_34 : decode cX1_nextInBlock 34 = .ok (.ifCond .ne 5, 3) := by decide +kernel
theorem dX1_nextInBlock_37 : decode cX1_nextInBlock 37 = .ok (.iload_n 1, 1) := by decide +kernel
theorem dX1_nextInBlock_38 : decode cX1_nextInBlock 38 = .ok (.ireturn, 1) := by decide +kernel
theorem dX1_nextInBlock_39 : decode cX1_nextInBlock 39 = .ok (.iinc 1 1, 3) := by decide +kernel
theorem dX1_nextInBlock_42 : decode cX1_nextInBlock 42 = .ok (.goto (-26), 3) := by decide +kernel
theorem dX1_nextInBlock_45 : decode cX1_nextInBlock 45 = .ok (.iconst (-1), 1) := by decide +kernel
theorem dX1_nextInBlock_46 : decode cX1_nextInBlock 46 = .ok (.ireturn, 1) := by decide +kernel
abbrev cX1_freeBlocks : ByteArray := prog_1_method_20_code
def yX1_freeBlocks : MethodName := ⟨RX1, "freeBlocks", "()I"⟩
theorem dX1_freeBlocks_0 : decode cX1_freeBlocks 0 = .ok (.iconst 0, 1) := by decide +kernel
theorem dX1_freeBlocks_1 : decode cX1_freeBlocks 1 = .ok (.istore_n 1, 1) := by decide +kernel
theorem dX1_freeBlocks_2 : decode cX1_freeBlocks 2 = .ok (.iconst 0, 1) := by decide +kernel
theorem dX1_freeBlocks_3 : decode cX1_freeBlocks 3 = .ok (.istore_n 2, 1) := by decide +kernel
theorem dX1_freeBlocks_4 : decode cX1_freeBlocks 4 = .ok (.iload_n 2, 1) := by decide +kernel
theorem dX1_freeBlocks_5 : decode cX1_freeBlocks 5 = .ok (.bipush 8, 2) := by decide +kernel
theorem dX1_freeBlocks_7 : decode cX1_freeBlocks 7 = .ok (.if_icmp .ge 20, 3) := by decide +kernel
theorem dX1_freeBlocks_10 : decode cX1_freeBlocks 10 = .ok (.aload_n 0, 1) := by decide +kernel
theorem dX1_freeBlocks_11 : decode cX1_freeBlocks 11 = .ok (.iload_n 2, 1) := by decide +kernel
theorem dX1_freeBlocks_12 : decode cX1_freeBlocks 12 = .ok (.invokevirtual 93, 3) := by decide +kernel
theorem dX1_freeBlocks_15 : decode cX1_freeBlocks 15 = .ok (.ifCond .eq 6, 3) := by decide +kernel
theorem dX1_freeBlocks_18 : decode cX1_freeBlocks 18 = .ok (.iinc 1 1, 3) := by decide +kernel
theorem dX1_freeBlocks_21 : decode cX1_freeBlocks 21 = .ok (.iinc 2 1, 3) := by decide +kernel
theorem dX1_freeBlocks_24 : decode cX1_freeBlocks 24 = .ok (.goto (-20), 3) := by decide +kernel
theorem dX1_freeBlocks_27 : decode cX1_freeBlocks 27 = .ok (.iload_n 1, 1) := by decide +kernel
theorem dX1_freeBlocks_28 : decode cX1_freeBlocks 28 = .ok (.ireturn, 1) := by decide +kernel
abbrev cX1_leastValidBlock : ByteArray := prog_1_method_24_code
def yX1_leastValidBlock : MethodName := ⟨RX1, "leastValidBlock", "()I"⟩
theorem dX1_leastValidBlock_0 : decode cX1_leastValidBlock 0 = .ok (.iconst (-1), 1) := by decide +kernel
theorem dX1_leastValidBlock_1 : decode cX1_leastValidBlock 1 = .ok (.istore_n 1, 1) := by decide +kernel
theorem dX1_leastValidBlock_2 : decode cX1_leastValidBlock 2 = .ok (.iconst 5, 1) := by decide +kernel
theorem dX1_leastValidBlock_3 : decode cX1_leastValidBlock 3 = .ok (.istore_n 2, 1) := by decide +kernel
theorem dX1_leastValidBlock_4 : decode cX1_leastValidBlock 4 = .ok (.iconst 0, 1) := by decide +kernel
theorem dX1_leastValidBlock_5 : decode cX1_leastValidBlock 5 = .ok (.istore_n 3, 1) := by decide +kernel
theorem dX1_leastValidBlock_6 : decode cX1_leastValidBlock 6 = .ok (.iload_n 3, 1) := by decide +kernel
theorem dX1_leastValidBlock_7 : decode cX1_leastValidBlock 7 = .ok (.bipush 8, 2) := by decide +kernel
theorem dX1_leastValidBlock_9 : decode cX1_leastValidBlock 9 = .ok (.if_icmp .ge 62, 3) := by decide +kernel
theorem dX1_leastValidBlock_12 : decode cX1_leastValidBlock 12 = .ok (.aload_n 0, 1) := by decide +kernel
theorem dX1_leastValidBlock_13 : decode cX1_leastValidBlock 13 = .ok (.iload_n 3, 1) := by decide +kernel
theorem dX1_leastValidBlock_14 : decode cX1_leastValidBlock 14 = .ok (.invokevirtual 93, 3) := by decide +kernel
theorem dX1_leastValidBlock_17 : decode cX1_leastValidBlock 17 = .ok (.ifCond .eq 6, 3) := by decide +kernel
theorem dX1_leastValidBlock_20 : decode cX1_leastValidBlock 20 = .ok (.goto 45, 3) := by decide +kernel
theorem dX1_leastValidBlock_23 : decode cX1_leastValidBlock 23 = .ok (.aload_n 0, 1) := by decide +kernel
theorem dX1_leastValidBlock_24 : decode cX1_leastValidBlock 24 = .ok (.iload_n 3, 1) := by decide +kernel
theorem dX1_leastValidBlock_25 : decode cX1_leastValidBlock 25 = .ok (.invokevirtual 99, 3) := by decide +kernel
theorem dX1_leastValidBlock_28 : decode cX1_leastValidBlock 28 = .ok (.istore 4, 2) := by decide +kernel
theorem dX1_leastValidBlock_30 : decode cX1_leastValidBlock 30 = .ok (.iload 4, 2) := by decide +kernel
theorem dX1_leastValidBlock_32 : decode cX1_leastValidBlock 32 = .ok (.iload_n 2, 1) := by decide +kernel
theorem dX1_leastValidBlock_33 : decode cX1_leastValidBlock 33 = .ok (.if_icmp .gt 32, 3) := by decide +kernel
theorem dX1_leastValidBlock_36 : decode cX1_leastValidBlock 36 = .ok (.iload 4, 2) := by decide +kernel
theorem dX1_leastValidBlock_38 : decode cX1_leastValidBlock 38 = .ok (.iload_n 2, 1) := by decide +kernel
theorem dX1_leastValidBlock_39 : decode cX1_leastValidBlock 39 = .ok (.if_icmp .ne 21, 3) := by decide +kernel
theorem dX1_leastValidBlock_42 : decode cX1_leastValidBlock 42 = .ok (.aload_n 0, 1) := by decide +kernel
theorem dX1_leastValidBlock_43 : decode cX1_leastValidBlock 43 = .ok (.getfield 27, 3) := by decide +kernel
theorem dX1_leastValidBlock_46 : decode cX1_leastValidBlock 46 = .ok (.iload_n 3, 1) := by decide +kernel
theorem dX1_leastValidBlock_47 : decode cX1_leastValidBlock 47 = .ok (.iaload, 1) := by decide +kernel
theorem dX1_leastValidBlock_48 : decode cX1_leastValidBlock 48 = .ok (.aload_n 0, 1) := by decide +kernel
theorem dX1_leastValidBlock_49 : decode cX1_leastValidBlock 49 = .ok (.getfield 27, 3) := by decide +kernel
theorem dX1_leastValidBlock_52 : decode cX1_leastValidBlock 52 = .ok (.iload_n 1, 1) := by decide +kernel
theorem dX1_leastValidBlock_53 : decode cX1_leastValidBlock 53 = .ok (.iaload, 1) := by decide +kernel
theorem dX1_leastValidBlock_54 : decode cX1_leastValidBlock 54 = .ok (.if_icmp .lt 6, 3) := by decide +kernel
theorem dX1_leastValidBlock_57 : decode cX1_leastValidBlock 57 = .ok (.goto 8, 3) := by decide +kernel
theorem dX1_leastValidBlock_60 : decode cX1_leastValidBlock 60 = .ok (.iload 4, 2) := by decide +kernel
theorem dX1_leastValidBlock_62 : decode cX1_leastValidBlock 62 = .ok (.istore_n 2, 1) := by decide +kernel
theorem dX1_leastValidBlock_63 : decode cX1_leastValidBlock 63 = .ok (.iload_n 3, 1) := by decide +kernel
theorem dX1_leastValidBlock_64 : decode cX1_leastValidBlock 64 = .ok (.istore_n 1, 1) := by decide +kernel
theorem dX1_leastValidBlock_65 : decode cX1_leastValidBlock 65 = .ok (.iinc 3 1, 3) := by decide +kernel
theorem dX1_leastValidBlock_68 : decode cX1_leastValidBlock 68 = .ok (.goto (-62), 3) := by decide +kernel
theorem dX1_leastValidBlock_71 : decode cX1_leastValidBlock 71 = .ok (.iload_n 1, 1) := by decide +kernel
theorem dX1_leastValidBlock_72 : decode cX1_leastValidBlock 72 = .ok (.ireturn, 1) := by decide +kernel
abbrev cX1_validIn : ByteArray := prog_1_method_23_code
def yX1_validIn : MethodName := ⟨RX1, "validIn", "(I)I"⟩
theorem dX1_validIn_0 : decode cX1_validIn 0 = .ok (.iconst 0, 1) := by decide +kernel
theorem dX1_validIn_1 : decode cX1_validIn 1 = .ok (.istore_n 2, 1) := by decide +kernel
theorem dX1_validIn_2 : decode cX1_validIn 2 = .ok (.iconst 4, 1) := by decide +kernel
theorem dX1_validIn_3 : decode cX1_validIn 3 = .ok (.iload_n 1, 1) := by decide +kernel
theorem dX1_validIn_4 : decode cX1_validIn 4 = .ok (.imul, 1) := by decide +kernel
theorem dX1_validIn_5 : decode cX1_validIn 5 = .ok (.istore_n 3, 1) := by decide +kernel
theorem dX1_validIn_6 : decode cX1_validIn 6 = .ok (.iload_n 3, 1) := by decide +kernel
theorem dX1_validIn_7 : decode cX1_validIn 7 = .ok (.iconst 4, 1) := by decide +kernel
theorem dX1_validIn_8 : decode cX1_validIn 8 = .ok (.iload_n 1, 1) := by decide +kernel
theorem dX1_validIn_9 : decode cX1_validIn 9 = .ok (.imul, 1) := by decide +kernel
theorem dX1_validIn_10 : decode cX1_validIn 10 = .ok (.iconst 4, 1) := by decide +kernel
theorem dX1_validIn_11 : decode cX1_validIn 11 = .ok (.iadd, 1) := by decide +kernel
theorem dX1_validIn_12 : decode cX1_validIn 12 = .ok (.if_icmp .ge 20, 3) := by decide +kernel
theorem dX1_validIn_15 : decode cX1_validIn 15 = .ok (.aload_n 0, 1) := by decide +kernel
theorem dX1_validIn_16 : decode cX1_validIn 16 = .ok (.iload_n 3, 1) := by decide +kernel
theorem dX1_validIn_17 : decode cX1_validIn 17 = .ok (.invokevirtual 96, 3) := by decide +kernel
theorem dX1_validIn_20 : decode cX1_validIn 20 = .ok (.ifCond .eq 6, 3) := by decide +kernel
theorem dX1_validIn_23 : decode cX1_validIn 23 = .ok (.iinc 2 1, 3) := by decide +kernel
theorem dX1_validIn_26 : decode cX1_validIn 26 = .ok (.iinc 3 1, 3) := by decide +kernel
theorem dX1_validIn_29 : decode cX1_validIn 29 = .ok (.goto (-23), 3) := by decide +kernel
theorem dX1_validIn_32 : decode cX1_validIn 32 = .ok (.iload_n 2, 1) := by decide +kernel
theorem dX1_validIn_33 : decode cX1_validIn 33 = .ok (.ireturn, 1) := by decide +kernel
abbrev cX1_isValid : ByteArray := prog_1_method_22_code
def yX1_isValid : MethodName := ⟨RX1, "isValid", "(I)Z"⟩
theorem dX1_isValid_0 : decode cX1_isValid 0 = .ok (.aload_n 0, 1) := by decide +kernel
theorem dX1_isValid_1 : decode cX1_isValid 1 = .ok (.getfield 7, 3) := by decide +kernel
theorem dX1_isValid_4 : decode cX1_isValid 4 = .ok (.iload_n 1, 1) := by decide +kernel
theorem dX1_isValid_5 : decode cX1_isValid 5 = .ok (.baload, 1) := by decide +kernel
theorem dX1_isValid_6 : decode cX1_isValid 6 = .ok (.iconst 1, 1) := by decide +kernel
theorem dX1_isValid_7 : decode cX1_isValid 7 = .ok (.if_icmp .ne 22, 3) := by decide +kernel
theorem dX1_isValid_10 : decode cX1_isValid 10 = .ok (.aload_n 0, 1) := by decide +kernel
theorem dX1_isValid_11 : decode cX1_isValid 11 = .ok (.getfield 30, 3) := by decide +kernel
theorem dX1_isValid_14 : decode cX1_isValid 14 = .ok (.aload_n 0, 1) := by decide +kernel
theorem dX1_isValid_15 : decode cX1_isValid 15 = .ok (.getfield 17, 3) := by decide +kernel
theorem dX1_isValid_18 : decode cX1_isValid 18 = .ok (.iload_n 1, 1) := by decide +kernel
theorem dX1_isValid_19 : decode cX1_isValid 19 = .ok (.baload, 1) := by decide +kernel
theorem dX1_isValid_20 : decode cX1_isValid 20 = .ok (.baload, 1) := by decide +kernel
theorem dX1_isValid_21 : decode cX1_isValid 21 = .ok (.iload_n 1, 1) := by decide +kernel
theorem dX1_isValid_22 : decode cX1_isValid 22 = .ok (.if_icmp .ne 7, 3) := by decide +kernel
theorem dX1_isValid_25 : decode cX1_isValid 25 = .ok (.iconst 1, 1) := by decide +kernel
theorem dX1_isValid_26 : decode cX1_isValid 26 = .ok (.goto 4, 3) := by decide +kernel
theorem dX1_isValid_29 : decode cX1_isValid 29 = .ok (.iconst 0, 1) := by decide +kernel
theorem dX1_isValid_30 : decode cX1_isValid 30 = .ok (.ireturn, 1) := by decide +kernel
abbrev cX1_leastWornFreeBlock : ByteArray := prog_1_method_21_code
def yX1_leastWornFreeBlock : MethodName := ⟨RX1, "leastWornFreeBlock", "()I"⟩
theorem dX1_leastWornFreeBlock_0 : decode cX1_leastWornFreeBlock 0 = .ok (.iconst (-1), 1) := by decide +kernel
theorem dX1_leastWornFreeBlock_1 : decode cX1_leastWornFreeBlock 1 = .ok (.istore_n 1, 1) := by decide +kernel
theorem dX1_leastWornFreeBlock_2 : decode cX1_leastWornFreeBlock 2 = .ok (.iconst 0, 1) := by decide +kernel
theorem dX1_leastWornFreeBlock_3 : decode cX1_leastWornFreeBlock 3 = .ok (.istore_n 2, 1) := by decide +kernel
theorem dX1_leastWornFreeBlock_4 : decode cX1_leastWornFreeBlock 4 = .ok (.iload_n 2, 1) := by decide +kernel
theorem dX1_leastWornFreeBlock_5 : decode cX1_leastWornFreeBlock 5 = .ok (.bipush 8, 2) := by decide +kernel
theorem dX1_leastWornFreeBlock_7 : decode cX1_leastWornFreeBlock 7 = .ok (.if_icmp .ge 38, 3) := by decide +kernel
theorem dX1_leastWornFreeBlock_10 : decode cX1_leastWornFreeBlock 10 = .ok (.aload_n 0, 1) := by decide +kernel
theorem dX1_leastWornFreeBlock_11 : decode cX1_leastWornFreeBlock 11 = .ok (.iload_n 2, 1) := by decide +kernel
theorem dX1_leastWornFreeBlock_12 : decode cX1_leastWornFreeBlock 12 = .ok (.invokevirtual 93, 3) := by decide +kernel
theorem dX1_leastWornFreeBlock_15 : decode cX1_leastWornFreeBlock 15 = .ok (.ifCond .eq 24, 3) := by decide +kernel
theorem dX1_leastWornFreeBlock_18 : decode cX1_leastWornFreeBlock 18 = .ok (.iload_n 1, 1) := by decide +kernel
theorem dX1_leastWornFreeBlock_19 : decode cX1_leastWornFreeBlock 19 = .ok (.ifCond .lt 18, 3) := by decide +kernel
theorem dX1_leastWornFreeBlock_22 : decode cX1_leastWornFreeBlock 22 = .ok (.aload_n 0, 1) := by decide +kernel
theorem dX1_leastWornFreeBlock_23 : decode cX1_leastWornFreeBlock 23 = .ok (.getfield 27, 3) := by decide +kernel
theorem dX1_leastWornFreeBlock_26 : decode cX1_leastWornFreeBlock 26 = .ok (.iload_n 2, 1) := by decide +kernel
theorem dX1_leastWornFreeBlock_27 : decode cX1_leastWornFreeBlock 27 = .ok (.iaload, 1) := by decide +kernel
theorem dX1_leastWornFreeBlock_28 : decode cX1_leastWornFreeBlock 28 = .ok (.aload_n 0, 1) := by decide +kernel
theorem dX1_leastWornFreeBlock_29 : decode cX1_leastWornFreeBlock 29 = .ok (.getfield 27, 3) := by decide +kernel
theorem dX1_leastWornFreeBlock_32 : decode cX1_leastWornFreeBlock 32 = .ok (.iload_n 1, 1) := by decide +kernel
theorem dX1_leastWornFreeBlock_33 : decode cX1_leastWornFreeBlock 33 = .ok (.iaload, 1) := by decide +kernel
theorem dX1_leastWornFreeBlock_34 : decode cX1_leastWornFreeBlock 34 = .ok (.if_icmp .ge 5, 3) := by decide +kernel
theorem dX1_leastWornFreeBlock_37 : decode cX1_leastWornFreeBlock 37 = .ok (.iload_n 2, 1) := by decide +kernel
theorem dX1_leastWornFreeBlock_38 : decode cX1_leastWornFreeBlock 38 = .ok (.istore_n 1, 1) := by decide +kernel
theorem dX1_leastWornFreeBlock_39 : decode cX1_leastWornFreeBlock 39 = .ok (.iinc 2 1, 3) := by decide +kernel
theorem dX1_leastWornFreeBlock_42 : decode cX1_leastWornFreeBlock 42 = .ok (.goto (-38), 3) := by decide +kernel
theorem dX1_leastWornFreeBlock_45 : decode cX1_leastWornFreeBlock 45 = .ok (.iload_n 1, 1) := by decide +kernel
theorem dX1_leastWornFreeBlock_46 : decode cX1_leastWornFreeBlock 46 = .ok (.ireturn, 1) := by decide +kernel
end
section
set_option maxRecDepth 100000
abbrev cX1_empty : ByteArray := prog_1_method_25_code
def yX1_empty : MethodName := ⟨RX1, "empty", "(I)V"⟩
theorem dX1_empty_0 : decode cX1_empty 0 = .ok (.iconst 4, 1) := by decide +kernel
theorem dX1_empty_1 : decode cX1_empty 1 = .ok (.iload_n 1, 1) := by decide +kernel
theorem dX1_empty_2 : decode cX1_empty 2 = .ok (.imul, 1) := by decide +kernel
theorem dX1_empty_3 : decode cX1_empty 3 = .ok (.istore_n 2, 1) := by decide +kernel
theorem dX1_empty_4 : decode cX1_empty 4 = .ok (.iload_n 2, 1) := by decide +kernel
theorem dX1_empty_5 : decode cX1_empty 5 = .ok (.iconst 4, 1) := by decide +kernel
theorem dX1_empty_6 : decode cX1_empty 6 = .ok (.iload_n 1, 1) := by decide +kernel
theorem dX1_empty_7 : decode cX1_empty 7 = .ok (.imul, 1) := by decide +kernel
theorem dX1_empty_8 : decode cX1_empty 8 = .ok (.iconst 4, 1) := by decide +kernel
theorem dX1_empty_9 : decode cX1_empty 9 = .ok (.iadd, 1) := by decide +kernel
theorem dX1_empty_10 : decode cX1_empty 10 = .ok (.if_icmp .ge 48, 3) := by decide +kernel
theorem dX1_empty_13 : decode cX1_empty 13 = .ok (.aload_n 0, 1) := by decide +kernel
theorem dX1_empty_14 : decode cX1_empty 14 = .ok (.iload_n 2, 1) := by decide +kernel
theorem dX1_empty_15 : decode cX1_empty 15 = .ok (.invokevirtual 96, 3) := by decide +kernel
theorem dX1_empty_18 : decode cX1_empty 18 = .ok (.ifCond .ne 6, 3) := by decide +kernel
theorem dX1_empty_21 : decode cX1_empty 21 = .ok (.goto 31, 3) := by decide +kernel
theorem dX1_empty_24 : decode cX1_empty 24 = .ok (.aload_n 0, 1) := by decide +kernel
theorem dX1_empty_25 : decode cX1_empty 25 = .ok (.invokevirtual 75, 3) := by decide +kernel
theorem dX1_empty_28 : decode cX1_empty 28 = .ok (.istore_n 3, 1) := by decide +kernel
theorem dX1_empty_29 : decode cX1_empty 29 = .ok (.aload_n 0, 1) := by decide +kernel
theorem dX1_empty_30 : decode cX1_empty 30 = .ok (.iload_n 3, 1) := by decide +kernel
theorem dX1_empty_31 : decode cX1_empty 31 = .ok (.aload_n 0, 1) := by decide +kernel
theorem dX1_empty_32 : decode cX1_empty 32 = .ok (.getfield 17, 3) := by decide +kernel
theorem dX1_empty_35 : decode cX1_empty 35 = .ok (.iload_n 2, 1) := by decide +kernel
theorem dX1_empty_36 : decode cX1_empty 36 = .ok (.baload, 1) := by decide +kernel
theorem dX1_empty_37 : decode cX1_empty 37 = .ok (.aload_n 0, 1) := by decide +kernel
theorem dX1_empty_38 : decode cX1_empty 38 = .ok (.getfield 13, 3) := by decide +kernel
theorem dX1_empty_41 : decode cX1_empty 41 = .ok (.iload_n 2, 1) := by decide +kernel
theorem dX1_empty_42 : decode cX1_empty 42 = .ok (.iaload, 1) := by decide +kernel
theorem dX1_empty_43 : decode cX1_empty 43 = .ok (.aload_n 0, 1) := by decide +kernel
theorem dX1_empty_44 : decode cX1_empty 44 = .ok (.getfield 20, 3) := by decide +kernel
theorem dX1_empty_47 : decode cX1_empty 47 = .ok (.iload_n 2, 1) := by decide +kernel
theorem dX1_empty_48 : decode cX1_empty 48 = .ok (.baload, 1) := by decide +kernel
theorem dX1_empty_49 : decode cX1_empty 49 = .ok (.invokevirtual 71, 3) := by decide +kernel
theorem dX1_empty_52 : decode cX1_empty 52 = .ok (.iinc 2 1, 3) := by decide +kernel
theorem dX1_empty_55 : decode cX1_empty 55 = .ok (.goto (-51), 3) := by decide +kernel
theorem dX1_empty_58 : decode cX1_empty 58 = .ok (.iconst 4, 1) := by decide +kernel
theorem dX1_empty_59 : decode cX1_empty 59 = .ok (.iload_n 1, 1) := by decide +kernel
theorem dX1_empty_60 : decode cX1_empty 60 = .ok (.imul, 1) := by decide +kernel
theorem dX1_empty_61 : decode cX1_empty 61 = .ok (.istore_n 2, 1) := by decide +kernel
theorem dX1_empty_62 : decode cX1_empty 62 = .ok (.iload_n 2, 1) := by decide +kernel
theorem dX1_empty_63 : decode cX1_empty 63 = .ok (.iconst 4, 1) := by decide +kernel
theorem dX1_empty_64 : decode cX1_empty 64 = .ok (.iload_n 1, 1) := by decide +kernel
theorem dX1_empty_65 : decode cX1_empty 65 = .ok (.imul, 1) := by decide +kernel
theorem dX1_empty_66 : decode cX1_empty 66 = .ok (.iconst 4, 1) := by decide +kernel
theorem dX1_empty_67 : decode cX1_empty 67 = .ok (.iadd, 1) := by decide +kernel
theorem dX1_empty_68 : decode cX1_empty 68 = .ok (.if_icmp .ge 16, 3) := by decide +kernel
theorem dX1_empty_71 : decode cX1_empty 71 = .ok (.aload_n 0, 1) := by decide +kernel
theorem dX1_empty_72 : decode cX1_empty 72 = .ok (.getfield 7, 3) := by decide +kernel
theorem dX1_empty_75 : decode cX1_empty 75 = .ok (.iload_n 2, 1) := by decide +kernel
theorem dX1_empty_76 : decode cX1_empty 76 = .ok (.iconst 0, 1) := by decide +kernel
theorem dX1_empty_77 : decode cX1_empty 77 = .ok (.bastore, 1) := by decide +kernel
theorem dX1_empty_78 : decode cX1_empty 78 = .ok (.iinc 2 1, 3) := by decide +kernel
theorem dX1_empty_81 : decode cX1_empty 81 = .ok (.goto (-19), 3) := by decide +kernel
theorem dX1_empty_84 : decode cX1_empty 84 = .ok (.aload_n 0, 1) := by decide +kernel
theorem dX1_empty_85 : decode cX1_empty 85 = .ok (.getfield 27, 3) := by decide +kernel
theorem dX1_empty_88 : decode cX1_empty 88 = .ok (.iload_n 1, 1) := by decide +kernel
theorem dX1_empty_89 : decode cX1_empty 89 = .ok (.dup2, 1) := by decide +kernel
theorem dX1_empty_90 : decode cX1_empty 90 = .ok (.iaload, 1) := by decide +kernel
theorem dX1_empty_91 : decode cX1_empty 91 = .ok (.iconst 1, 1) := by decide +kernel
theorem dX1_empty_92 : decode cX1_empty 92 = .ok (.iadd, 1) := by decide +kernel
theorem dX1_empty_93 : decode cX1_empty 93 = .ok (.iastore, 1) := by decide +kernel
theorem dX1_empty_94 : decode cX1_empty 94 = .ok (.return_, 1) := by decide +kernel
abbrev cX1_fillPage : ByteArray := prog_1_method_16_code
def yX1_fillPage : MethodName := ⟨RX1, "fillPage", "(IIIZ)V"⟩
theorem dX1_fillPage_0 : decode cX1_fillPage 0 = .ok (.aload_n 0, 1) := by decide +kernel
theorem dX1_fillPage_1 : decode cX1_fillPage 1 = .ok (.getfield 7, 3) := by decide +kernel
theorem dX1_fillPage_4 : decode cX1_fillPage 4 = .ok (.iload_n 1, 1) := by decide +kernel
theorem dX1_fillPage_5 : decode cX1_fillPage 5 = .ok (.iconst 1, 1) := by decide +kernel
theorem dX1_fillPage_6 : decode cX1_fillPage 6 = .ok (.bastore, 1) := by decide +kernel
theorem dX1_fillPage_7 : decode cX1_fillPage 7 = .ok (.aload_n 0, 1) := by decide +kernel
theorem dX1_fillPage_8 : decode cX1_fillPage 8 = .ok (.getfield 13, 3) := by decide +kernel
theorem dX1_fillPage_11 : decode cX1_fillPage 11 = .ok (.iload_n 1, 1) := by decide +kernel
theorem dX1_fillPage_12 : decode cX1_fillPage 12 = .ok (.iload_n 3, 1) := by decide +kernel
theorem dX1_fillPage_13 : decode cX1_fillPage 13 = .ok (.iastore, 1) := by decide +kernel
theorem dX1_fillPage_14 : decode cX1_fillPage 14 = .ok (.aload_n 0, 1) := by decide +kernel
theorem dX1_fillPage_15 : decode cX1_fillPage 15 = .ok (.getfield 17, 3) := by decide +kernel
theorem dX1_fillPage_18 : decode cX1_fillPage 18 = .ok (.iload_n 1, 1) := by decide +kernel
theorem dX1_fillPage_19 : decode cX1_fillPage 19 = .ok (.iload_n 2, 1) := by decide +kernel
theorem dX1_fillPage_20 : decode cX1_fillPage 20 = .ok (.i2b, 1) := by decide +kernel
theorem dX1_fillPage_21 : decode cX1_fillPage 21 = .ok (.bastore, 1) := by decide +kernel
theorem dX1_fillPage_22 : decode cX1_fillPage 22 = .ok (.aload_n 0, 1) := by decide +kernel
theorem dX1_fillPage_23 : decode cX1_fillPage 23 = .ok (.getfield 20, 3) := by decide +kernel
theorem dX1_fillPage_26 : decode cX1_fillPage 26 = .ok (.iload_n 1, 1) := by decide +kernel
theorem dX1_fillPage_27 : decode cX1_fillPage 27 = .ok (.iload 4, 2) := by decide +kernel
theorem dX1_fillPage_29 : decode cX1_fillPage 29 = .ok (.bastore, 1) := by decide +kernel
theorem dX1_fillPage_30 : decode cX1_fillPage 30 = .ok (.aload_n 0, 1) := by decide +kernel
theorem dX1_fillPage_31 : decode cX1_fillPage 31 = .ok (.getfield 24, 3) := by decide +kernel
theorem dX1_fillPage_34 : decode cX1_fillPage 34 = .ok (.iload_n 1, 1) := by decide +kernel
theorem dX1_fillPage_35 : decode cX1_fillPage 35 = .ok (.aload_n 0, 1) := by decide +kernel
theorem dX1_fillPage_36 : decode cX1_fillPage 36 = .ok (.getfield 55, 3) := by decide +kernel
theorem dX1_fillPage_39 : decode cX1_fillPage 39 = .ok (.iastore, 1) := by decide +kernel
theorem dX1_fillPage_40 : decode cX1_fillPage 40 = .ok (.aload_n 0, 1) := by decide +kernel
theorem dX1_fillPage_41 : decode cX1_fillPage 41 = .ok (.dup, 1) := by decide +kernel
theorem dX1_fillPage_42 : decode cX1_fillPage 42 = .ok (.getfield 55, 3) := by decide +kernel
theorem dX1_fillPage_45 : decode cX1_fillPage 45 = .ok (.iconst 1, 1) := by decide +kernel
theorem dX1_fillPage_46 : decode cX1_fillPage 46 = .ok (.iadd, 1) := by decide +kernel
theorem dX1_fillPage_47 : decode cX1_fillPage 47 = .ok (.putfield 55, 3) := by decide +kernel
theorem dX1_fillPage_50 : decode cX1_fillPage 50 = .ok (.aload_n 0, 1) := by decide +kernel
theorem dX1_fillPage_51 : decode cX1_fillPage 51 = .ok (.getfield 30, 3) := by decide +kernel
theorem dX1_fillPage_54 : decode cX1_fillPage 54 = .ok (.iload_n 2, 1) := by decide +kernel
theorem dX1_fillPage_55 : decode cX1_fillPage 55 = .ok (.iload_n 1, 1) := by decide +kernel
theorem dX1_fillPage_56 : decode cX1_fillPage 56 = .ok (.i2b, 1) := by decide +kernel
theorem dX1_fillPage_57 : decode cX1_fillPage 57 = .ok (.bastore, 1) := by decide +kernel
theorem dX1_fillPage_58 : decode cX1_fillPage 58 = .ok (.return_, 1) := by decide +kernel
abbrev cX1_torn : ByteArray := prog_1_method_3_code
def yX1_torn : MethodName := ⟨RX1, "torn", "(II)I"⟩
theorem dX1_torn_0 : decode cX1_torn 0 = .ok (.aload_n 0, 1) := by decide +kernel
theorem dX1_torn_1 : decode cX1_torn 1 = .ok (.iload_n 1, 1) := by decide +kernel
theorem dX1_torn_2 : decode cX1_torn 2 = .ok (.invokevirtual 40, 3) := by decide +kernel
theorem dX1_torn_5 : decode cX1_torn 5 = .ok (.ifCond .ne 5, 3) := by decide +kernel
theorem dX1_torn_8 : decode cX1_torn 8 = .ok (.iconst (-1), 1) := by decide +kernel
theorem dX1_torn_9 : decode cX1_torn 9 = .ok (.ireturn, 1) := by decide +kernel
theorem dX1_torn_10 : decode cX1_torn 10 = .ok (.aload_n 0, 1) := by decide +kernel
theorem dX1_torn_11 : decode cX1_torn 11 = .ok (.invokevirtual 51, 3) := by decide +kernel
theorem dX1_torn_14 : decode cX1_torn 14 = .ok (.istore_n 3, 1) := by decide +kernel
theorem dX1_torn_15 : decode cX1_torn 15 = .ok (.aload_n 0, 1) := by decide +kernel
theorem dX1_torn_16 : decode cX1_torn 16 = .ok (.getfield 7, 3) := by decide +kernel
theorem dX1_torn_19 : decode cX1_torn 19 = .ok (.iload_n 3, 1) := by decide +kernel
theorem dX1_torn_20 : decode cX1_torn 20 = .ok (.iconst 2, 1) := by decide +kernel
theorem dX1_torn_21 : decode cX1_torn 21 = .ok (.bastore, 1) := by decide +kernel
theorem dX1_torn_22 : decode cX1_torn 22 = .ok (.aload_n 0, 1) := by decide +kernel
theorem dX1_torn_23 : decode cX1_torn 23 = .ok (.getfield 13, 3) := by decide +kernel
theorem dX1_torn_26 : decode cX1_torn 26 = .ok (.iload_n 3, 1) := by decide +kernel
theorem dX1_torn_27 : decode cX1_torn 27 = .ok (.iload_n 2, 1) := by decide +kernel
theorem dX1_torn_28 : decode cX1_torn 28 = .ok (.iastore, 1) := by decide +kernel
theorem dX1_torn_29 : decode cX1_torn 29 = .ok (.aload_n 0, 1) := by decide +kernel
theorem dX1_torn_30 : decode cX1_torn 30 = .ok (.getfield 17, 3) := by decide +kernel
theorem dX1_torn_33 : decode cX1_torn 33 = .ok (.iload_n 3, 1) := by decide +kernel
theorem dX1_torn_34 : decode cX1_torn 34 = .ok (.iload_n 1, 1) := by decide +kernel
theorem dX1_torn_35 : decode cX1_torn 35 = .ok (.i2b, 1) := by decide +kernel
theorem dX1_torn_36 : decode cX1_torn 36 = .ok (.bastore, 1) := by decide +kernel
theorem dX1_torn_37 : decode cX1_torn 37 = .ok (.aload_n 0, 1) := by decide +kernel
theorem dX1_torn_38 : decode cX1_torn 38 = .ok (.getfield 24, 3) := by decide +kernel
theorem dX1_torn_41 : decode cX1_torn 41 = .ok (.iload_n 3, 1) := by decide +kernel
theorem dX1_torn_42 : decode cX1_torn 42 = .ok (.aload_n 0, 1) := by decide +kernel
theorem dX1_torn_43 : decode cX1_torn 43 = .ok (.getfield 55, 3) := by decide +kernel
theorem dX1_torn_46 : decode cX1_torn 46 = .ok (.iastore, 1) := by decide +kernel
theorem dX1_torn_47 : decode cX1_torn 47 = .ok (.aload_n 0, 1) := by decide +kernel
theorem dX1_torn_48 : decode cX1_torn 48 = .ok (.invokevirtual 37, 3) := by decide +kernel
theorem dX1_torn_51 : decode cX1_torn 51 = .ok (.iload_n 1, 1) := by decide +kernel
theorem dX1_torn_52 : decode cX1_torn 52 = .ok (.ireturn, 1) := by decide +kernel
abbrev cX1_trim : ByteArray := prog_1_method_4_code
def yX1_trim : MethodName := ⟨RX1, "trim", "(I)I"⟩
theorem dX1_trim_0 : decode cX1_trim 0 = .ok (.aload_n 0, 1) := by decide +kernel
theorem dX1_trim_1 : decode cX1_trim 1 = .ok (.iload_n 1, 1) := by decide +kernel
theorem dX1_trim_2 : decode cX1_trim 2 = .ok (.invokevirtual 40, 3) := by decide +kernel
theorem dX1_trim_5 : decode cX1_trim 5 = .ok (.ifCond .ne 5, 3) := by decide +kernel
theorem dX1_trim_8 : decode cX1_trim 8 = .ok (.iconst (-1), 1) := by decide +kernel
theorem dX1_trim_9 : decode cX1_trim 9 = .ok (.ireturn, 1) := by decide +kernel
theorem dX1_trim_10 : decode cX1_trim 10 = .ok (.aload_n 0, 1) := by decide +kernel
theorem dX1_trim_11 : decode cX1_trim 11 = .ok (.iload_n 1, 1) := by decide +kernel
theorem dX1_trim_12 : decode cX1_trim 12 = .ok (.invokevirtual 44, 3) := by decide +kernel
theorem dX1_trim_15 : decode cX1_trim 15 = .ok (.ifCond .ne 5, 3) := by decide +kernel
theorem dX1_trim_18 : decode cX1_trim 18 = .ok (.iconst 0, 1) := by decide +kernel
theorem dX1_trim_19 : decode cX1_trim 19 = .ok (.ireturn, 1) := by decide +kernel
theorem dX1_trim_20 : decode cX1_trim 20 = .ok (.aload_n 0, 1) := by decide +kernel
theorem dX1_trim_21 : decode cX1_trim 21 = .ok (.iload_n 1, 1) := by decide +kernel
theorem dX1_trim_22 : decode cX1_trim 22 = .ok (.iconst 0, 1) := by decide +kernel
theorem dX1_trim_23 : decode cX1_trim 23 = .ok (.iconst 1, 1) := by decide +kernel
theorem dX1_trim_24 : decode cX1_trim 24 = .ok (.invokevirtual 47, 3) := by decide +kernel
theorem dX1_trim_27 : decode cX1_trim 27 = .ok (.iconst 1, 1) := by decide +kernel
theorem dX1_trim_28 : decode cX1_trim 28 = .ok (.ireturn, 1) := by decide +kernel
abbrev cX1_powerCut : ByteArray := prog_1_method_5_code
def yX1_powerCut : MethodName := ⟨RX1, "powerCut", "()I"⟩
theorem dX1_powerCut_0 : decode cX1_powerCut 0 = .ok (.aload_n 0, 1) := by decide +kernel
theorem dX1_powerCut_1 : decode cX1_powerCut 1 = .ok (.invokevirtual 37, 3) := by decide +kernel
theorem dX1_powerCut_4 : decode cX1_powerCut 4 = .ok (.aload_n 0, 1) := by decide +kernel
theorem dX1_powerCut_5 : decode cX1_powerCut 5 = .ok (.invokevirtual 58, 3) := by decide +kernel
theorem dX1_powerCut_8 : decode cX1_powerCut 8 = .ok (.ireturn, 1) := by decide +kernel
abbrev cX1_used : ByteArray := prog_1_method_8_code
def yX1_used : MethodName := ⟨RX1, "used", "()I"⟩
theorem dX1_used_0 : decode cX1_used 0 = .ok (.iconst 0, 1) := by decide +kernel
theorem dX1_used_1 : decode cX1_used 1 = .ok (.istore_n 1, 1) := by decide +kernel
theorem dX1_used_2 : decode cX1_used 2 = .ok (.iconst 0, 1) := by decide +kernel
theorem dX1_used_3 : decode cX1_used 3 = .ok (.istore_n 2, 1) := by decide +kernel
theorem dX1_used_4 : decode cX1_used 4 = .ok (.iload_n 2, 1) := by decide +kernel
theorem dX1_used_5 : decode cX1_used 5 = .ok (.bipush 12, 2) := by decide +kernel
theorem dX1_used_7 : decode cX1_used 7 = .ok (.if_icmp .ge 20, 3) := by decide +kernel
theorem dX1_used_10 : decode cX1_used 10 = .ok (.aload_n 0, 1) := by decide +kernel
theorem dX1_used_11 : decode cX1_used 11 = .ok (.iload_n 2, 1) := by decide +kernel
theorem dX1_used_12 : decode cX1_used 12 = .ok (.invokevirtual 44, 3) := by decide +kernel
theorem dX1_used_15 : decode cX1_used 15 = .ok (.ifCond .eq 6, 3) := by decide +kernel
theorem dX1_used_18 : decode cX1_used 18 = .ok (.iinc 1 1, 3) := by decide +kernel
theorem dX1_used_21 : decode cX1_used 21 = .ok (.iinc 2 1, 3) := by decide +kernel
theorem dX1_used_24 : decode cX1_used 24 = .ok (.goto (-20), 3) := by decide +kernel
theorem dX1_used_27 : decode cX1_used 27 = .ok (.iload_n 1, 1) := by decide +kernel
theorem dX1_used_28 : decode cX1_used 28 = .ok (.ireturn, 1) := by decide +kernel
abbrev cX1_read : ByteArray := prog_1_method_7_code
def yX1_read : MethodName := ⟨RX1, "read", "(I)I"⟩
theorem dX1_read_0 : decode cX1_read 0 = .ok (.aload_n 0, 1) := by decide +kernel
theorem dX1_read_1 : decode cX1_read 1 = .ok (.iload_n 1, 1) := by decide +kernel
theorem dX1_read_2 : decode cX1_read 2 = .ok (.invokevirtual 44, 3) := by decide +kernel
theorem dX1_read_5 : decode cX1_read 5 = .ok (.ifCond .eq 17, 3) := by decide +kernel
theorem dX1_read_8 : decode cX1_read 8 = .ok (.aload_n 0, 1) := by decide +kernel
theorem dX1_read_9 : decode cX1_read 9 = .ok (.getfield 13, 3) := by decide +kernel
theorem dX1_read_12 : decode cX1_read 12 = .ok (.aload_n 0, 1) := by decide +kernel
theorem dX1_read_13 : decode cX1_read 13 = .ok (.getfield 30, 3) := by decide +kernel
theorem dX1_read_16 : decode cX1_read 16 = .ok (.iload_n 1, 1) := by decide +kernel
theorem dX1_read_17 : decode cX1_read 17 = .ok (.baload, 1) := by decide +kernel
theorem dX1_read_18 : decode cX1_read 18 = .ok (.iaload, 1) := by decide +kernel
theorem dX1_read_19 : decode cX1_read 19 = .ok (.goto 4, 3) := by decide +kernel
theorem dX1_read_22 : decode cX1_read 22 = .ok (.iconst 0, 1) := by decide +kernel
theorem dX1_read_23 : decode cX1_read 23 = .ok (.ireturn, 1) := by decide +kernel
abbrev cX1_nextUsed : ByteArray := prog_1_method_9_code
def yX1_nextUsed : MethodName := ⟨RX1, "nextUsed", "(I)I"⟩
theorem dX1_nextUsed_0 : decode cX1_nextUsed 0 = .ok (.iconst 0, 1) := by decide +kernel
theorem dX1_nextUsed_1 : decode cX1_nextUsed 1 = .ok (.istore_n 2, 1) := by decide +kernel
theorem dX1_nextUsed_2 : decode cX1_nextUsed 2 = .ok (.iload_n 2, 1) := by decide +kernel
theorem dX1_nextUsed_3 : decode cX1_nextUsed 3 = .ok (.bipush 12, 2) := by decide +kernel
theorem dX1_nextUsed_5 : decode cX1_nextUsed 5 = .ok (.if_icmp .ge 24, 3) := by decide +kernel
theorem dX1_nextUsed_8 : decode cX1_nextUsed 8 = .ok (.iload_n 2, 1) := by decide +kernel
theorem dX1_nextUsed_9 : decode cX1_nextUsed 9 = .ok (.iload_n 1, 1) := by decide +kernel
theorem dX1_nextUsed_10 : decode cX1_nextUsed 10 = .ok (.if_icmp .le 13, 3) := by decide +kernel
theorem dX1_nextUsed_13 : decode cX1_nextUsed 13 = .ok (.aload_n 0, 1) := by decide +kernel
theorem dX1_nextUsed_14 : decode cX1_nextUsed 14 = .ok (.iload_n 2, 1) := by decide +kernel
theorem dX1_nextUsed_15 : decode cX1_nextUsed 15 = .ok (.invokevirtual 44, 3) := by decide +kernel
theorem dX1_nextUsed_18 : decode cX1_nextUsed 18 = .ok (.ifCond .eq 5, 3) := by decide +kernel
theorem dX1_nextUsed_21 : decode cX1_nextUsed 21 = .ok (.iload_n 2, 1) := by decide +kernel
theorem dX1_nextUsed_22 : decode cX1_nextUsed 22 = .ok (.ireturn, 1) := by decide +kernel
theorem dX1_nextUsed_23 : decode cX1_nextUsed 23 = .ok (.iinc 2 1, 3) := by decide +kernel
theorem dX1_nextUsed_26 : decode cX1_nextUsed 26 = .ok (.goto (-24), 3) := by decide +kernel
theorem dX1_nextUsed_29 : decode cX1_nextUsed 29 = .ok (.bipush (-2), 2) := by decide +kernel
theorem dX1_nextUsed_31 : decode cX1_nextUsed 31 = .ok (.ireturn, 1) := by decide +kernel
abbrev cX1_total : ByteArray := prog_1_method_10_code
def yX1_total : MethodName := ⟨RX1, "total", "()J"⟩
theorem dX1_total_0 : decode cX1_total 0 = .ok (.lconst 0, 1) := by decide +kernel
theorem dX1_total_1 : decode cX1_total 1 = .ok (.lstore_n 1, 1) := by decide +kernel
theorem dX1_total_2 : decode cX1_total 2 = .ok (.iconst 0, 1) := by decide +kernel
theorem dX1_total_3 : decode cX1_total 3 = .ok (.istore_n 3, 1) := by decide +kernel
theorem dX1_total_4 : decode cX1_total 4 = .ok (.iload_n 3, 1) := by decide +kernel
theorem dX1_total_5 : decode cX1_total 5 = .ok (.bipush 12, 2) := by decide +kernel
theorem dX1_total_7 : decode cX1_total 7 = .ok (.if_icmp .ge 18, 3) := by decide +kernel
theorem dX1_total_10 : decode cX1_total 10 = .ok (.lload_n 1, 1) := by decide +kernel
theorem dX1_total_11 : decode cX1_total 11 = .ok (.aload_n 0, 1) := by decide +kernel
theorem dX1_total_12 : decode cX1_total 12 = .ok (.iload_n 3, 1) := by decide +kernel
theorem dX1_total_13 : decode cX1_total 13 = .ok (.invokevirtual 61, 3) := by decide +kernel
theorem dX1_total_16 : decode cX1_total 16 = .ok (.i2l, 1) := by decide +kernel
theorem dX1_total_17 : decode cX1_total 17 = .ok (.ladd, 1) := by decide +kernel
theorem dX1_total_18 : decode cX1_total 18 = .ok (.lstore_n 1, 1) := by decide +kernel
theorem dX1_total_19 : decode cX1_total 19 = .ok (.iinc 3 1, 3) := by decide +kernel
theorem dX1_total_22 : decode cX1_total 22 = .ok (.goto (-18), 3) := by decide +kernel
theorem dX1_total_25 : decode cX1_total 25 = .ok (.lload_n 1, 1) := by decide +kernel
theorem dX1_total_26 : decode cX1_total 26 = .ok (.lreturn, 1) := by decide +kernel
abbrev cX1_exchange : ByteArray := prog_1_method_11_code
def yX1_exchange : MethodName := ⟨RX1, "exchange", "(II)I"⟩
theorem dX1_exchange_0 : decode cX1_exchange 0 = .ok (.aload_n 0, 1) := by decide +kernel
theorem dX1_exchange_1 : decode cX1_exchange 1 = .ok (.iload_n 1, 1) := by decide +kernel
theorem dX1_exchange_2 : decode cX1_exchange 2 = .ok (.invokevirtual 40, 3) := by decide +kernel
theorem dX1_exchange_5 : decode cX1_exchange 5 = .ok (.ifCond .eq 11, 3) := by decide +kernel
theorem dX1_exchange_8 : decode cX1_exchange 8 = .ok (.aload_n 0, 1) := by decide +kernel
theorem dX1_exchange_9 : decode cX1_exchange 9 = .ok (.iload_n 2, 1) := by decide +kernel
theorem dX1_exchange_10 : decode cX1_exchange 10 = .ok (.invokevirtual 40, 3) := by decide +kernel
theorem dX1_exchange_13 : decode cX1_exchange 13 = .ok (.ifCond .ne 5, 3) := by decide +kernel
theorem dX1_exchange_16 : decode cX1_exchange 16 = .ok (.iconst (-1), 1) := by decide +kernel
theorem dX1_exchange_17 : decode cX1_exchange 17 = .ok (.ireturn, 1) := by decide +kernel
theorem dX1_exchange_18 : decode cX1_exchange 18 = .ok (.aload_n 0, 1) := by decide +kernel
theorem dX1_exchange_19 : decode cX1_exchange 19 = .ok (.iload_n 1, 1) := by decide +kernel
theorem dX1_exchange_20 : decode cX1_exchange 20 = .ok (.invokevirtual 44, 3) := by decide +kernel
theorem dX1_exchange_23 : decode cX1_exchange 23 = .ok (.istore_n 3, 1) := by decide +kernel
theorem dX1_exchange_24 : decode cX1_exchange 24 = .ok (.aload_n 0, 1) := by decide +kernel
theorem dX1_exchange_25 : decode cX1_exchange 25 = .ok (.iload_n 2, 1) := by decide +kernel
theorem dX1_exchange_26 : decode cX1_exchange 26 = .ok (.invokevirtual 44, 3) := by decide +kernel
theorem dX1_exchange_29 : decode cX1_exchange 29 = .ok (.istore 4, 2) := by decide +kernel
theorem dX1_exchange_31 : decode cX1_exchange 31 = .ok (.aload_n 0, 1) := by decide +kernel
theorem dX1_exchange_32 : decode cX1_exchange 32 = .ok (.iload_n 1, 1) := by decide +kernel
theorem dX1_exchange_33 : decode cX1_exchange 33 = .ok (.invokevirtual 61, 3) := by decide +kernel
theorem dX1_exchange_36 : decode cX1_exchange 36 = .ok (.istore 5, 2) := by decide +kernel
theorem dX1_exchange_38 : decode cX1_exchange 38 = .ok (.aload_n 0, 1) := by decide +kernel
theorem dX1_exchange_39 : decode cX1_exchange 39 = .ok (.iload_n 2, 1) := by decide +kernel
theorem dX1_exchange_40 : decode cX1_exchange 40 = .ok (.invokevirtual 61, 3) := by decide +kernel
theorem dX1_exchange_43 : decode cX1_exchange 43 = .ok (.istore 6, 2) := by decide +kernel
theorem dX1_exchange_45 : decode cX1_exchange 45 = .ok (.aload_n 0, 1) := by decide +kernel
theorem dX1_exchange_46 : decode cX1_exchange 46 = .ok (.iload_n 1, 1) := by decide +kernel
theorem dX1_exchange_47 : decode cX1_exchange 47 = .ok (.iload 6, 2) := by decide +kernel
theorem dX1_exchange_49 : decode cX1_exchange 49 = .ok (.iload 4, 2) := by decide +kernel
theorem dX1_exchange_51 : decode cX1_exchange 51 = .ok (.invokevirtual 65, 3) := by decide +kernel
theorem dX1_exchange_54 : decode cX1_exchange 54 = .ok (.aload_n 0, 1) := by decide +kernel
theorem dX1_exchange_55 : decode cX1_exchange 55 = .ok (.iload_n 2, 1) := by decide +kernel
theorem dX1_exchange_56 : decode cX1_exchange 56 = .ok (.iload 5, 2) := by decide +kernel
theorem dX1_exchange_58 : decode cX1_exchange 58 = .ok (.iload_n 3, 1) := by decide +kernel
theorem dX1_exchange_59 : decode cX1_exchange 59 = .ok (.invokevirtual 65, 3) := by decide +kernel
theorem dX1_exchange_62 : decode cX1_exchange 62 = .ok (.iload_n 3, 1) := by decide +kernel
theorem dX1_exchange_63 : decode cX1_exchange 63 = .ok (.ifCond .eq 7, 3) := by decide +kernel
theorem dX1_exchange_66 : decode cX1_exchange 66 = .ok (.iconst 1, 1) := by decide +kernel
theorem dX1_exchange_67 : decode cX1_exchange 67 = .ok (.goto 4, 3) := by decide +kernel
theorem dX1_exchange_70 : decode cX1_exchange 70 = .ok (.iconst 0, 1) := by decide +kernel
theorem dX1_exchange_71 : decode cX1_exchange 71 = .ok (.iload 4, 2) := by decide +kernel
theorem dX1_exchange_73 : decode cX1_exchange 73 = .ok (.ifCond .eq 7, 3) := by decide +kernel
theorem dX1_exchange_76 : decode cX1_exchange 76 = .ok (.iconst 1, 1) := by decide +kernel
theorem dX1_exchange_77 : decode cX1_exchange 77 = .ok (.goto 4, 3) := by decide +kernel
theorem dX1_exchange_80 : decode cX1_exchange 80 = .ok (.iconst 0, 1) := by decide +kernel
theorem dX1_exchange_81 : decode cX1_exchange 81 = .ok (.iadd, 1) := by decide +kernel
theorem dX1_exchange_82 : decode cX1_exchange 82 = .ok (.ireturn, 1) := by decide +kernel
abbrev cX1_replace : ByteArray := prog_1_method_14_code
def yX1_replace : MethodName := ⟨RX1, "replace", "(IIZ)V"⟩
theorem dX1_replace_0 : decode cX1_replace 0 = .ok (.iload_n 3, 1) := by decide +kernel
theorem dX1_replace_1 : decode cX1_replace 1 = .ok (.ifCond .eq 13, 3) := by decide +kernel
theorem dX1_replace_4 : decode cX1_replace 4 = .ok (.aload_n 0, 1) := by decide +kernel
theorem dX1_replace_5 : decode cX1_replace 5 = .ok (.iload_n 1, 1) := by decide +kernel
theorem dX1_replace_6 : decode cX1_replace 6 = .ok (.iload_n 2, 1) := by decide +kernel
theorem dX1_replace_7 : decode cX1_replace 7 = .ok (.iconst 0, 1) := by decide +kernel
theorem dX1_replace_8 : decode cX1_replace 8 = .ok (.invokevirtual 47, 3) := by decide +kernel
theorem dX1_replace_11 : decode cX1_replace 11 = .ok (.goto 9, 3) := by decide +kernel
theorem dX1_replace_14 : decode cX1_replace 14 = .ok (.aload_n 0, 1) := by decide +kernel
theorem dX1_replace_15 : decode cX1_replace 15 = .ok (.iload_n 1, 1) := by decide +kernel
theorem dX1_replace_16 : decode cX1_replace 16 = .ok (.invokevirtual 68, 3) := by decide +kernel
theorem dX1_replace_19 : decode cX1_replace 19 = .ok (.pop, 1) := by decide +kernel
theorem dX1_replace_20 : decode cX1_replace 20 = .ok (.return_, 1) := by decide +kernel
abbrev cX1_fill : ByteArray := prog_1_method_12_code
def yX1_fill : MethodName := ⟨RX1, "fill", "(III)I"⟩
theorem dX1_fill_0 : decode cX1_fill 0 = .ok (.aload_n 0, 1) := by decide +kernel
theorem dX1_fill_1 : decode cX1_fill 1 = .ok (.iload_n 1, 1) := by decide +kernel
theorem dX1_fill_2 : decode cX1_fill 2 = .ok (.invokevirtual 40, 3) := by decide +kernel
theorem dX1_fill_5 : decode cX1_fill 5 = .ok (.ifCond .eq 24, 3) := by decide +kernel
theorem dX1_fill_8 : decode cX1_fill 8 = .ok (.aload_n 0, 1) := by decide +kernel
theorem dX1_fill_9 : decode cX1_fill 9 = .ok (.iload_n 2, 1) := by decide +kernel
theorem dX1_fill_10 : decode cX1_fill 10 = .ok (.invokevirtual 40, 3) := by decide +kernel
theorem dX1_fill_13 : decode cX1_fill 13 = .ok (.ifCond .eq 16, 3) := by decide +kernel
theorem dX1_fill_16 : decode cX1_fill 16 = .ok (.aload_n 0, 1) := by decide +kernel
theorem dX1_fill_17 : decode cX1_fill 17 = .ok (.iload_n 3, 1) := by decide +kernel
theorem dX1_fill_18 : decode cX1_fill 18 = .ok (.invokevirtual 40, 3) := by decide +kernel
theorem dX1_fill_21 : decode cX1_fill 21 = .ok (.ifCond .eq 8, 3) := by decide +kernel
theorem dX1_fill_24 : decode cX1_fill 24 = .ok (.iload_n 2, 1) := by decide +kernel
theorem dX1_fill_25 : decode cX1_fill 25 = .ok (.iload_n 3, 1) := by decide +kernel
theorem dX1_fill_26 : decode cX1_fill 26 = .ok (.if_icmp .le 5, 3) := by decide +kernel
theorem dX1_fill_29 : decode cX1_fill 29 = .ok (.iconst (-1), 1) := by decide +kernel
theorem dX1_fill_30 : decode cX1_fill 30 = .ok (.ireturn, 1) := by decide +kernel
theorem dX1_fill_31 : decode cX1_fill 31 = .ok (.aload_n 0, 1) := by decide +kernel
theorem dX1_fill_32 : decode cX1_fill 32 = .ok (.iload_n 1, 1) := by decide +kernel
theorem dX1_fill_33 : decode cX1_fill 33 = .ok (.invokevirtual 44, 3) := by decide +kernel
theorem dX1_fill_36 : decode cX1_fill 36 = .ok (.istore 4, 2) := by decide +kernel
theorem dX1_fill_38 : decode cX1_fill 38 = .ok (.aload_n 0, 1) := by decide +kernel
theorem dX1_fill_39 : decode cX1_fill 39 = .ok (.iload_n 1, 1) := by decide +kernel
theorem dX1_fill_40 : decode cX1_fill 40 = .ok (.invokevirtual 61, 3) := by decide +kernel
theorem dX1_fill_43 : decode cX1_fill 43 = .ok (.istore 5, 2) := by decide +kernel
theorem dX1_fill_45 : decode cX1_fill 45 = .ok (.iload_n 2, 1) := by decide +kernel
theorem dX1_fill_46 : decode cX1_fill 46 = .ok (.istore 6, 2) := by decide +kernel
theorem dX1_fill_48 : decode cX1_fill 48 = .ok (.iload 6, 2) := by decide +kernel
theorem dX1_fill_50 : decode cX1_fill 50 = .ok (.iload_n 3, 1) := by decide +kernel
theorem dX1_fill_51 : decode cX1_fill 51 = .ok (.if_icmp .gt 19, 3) := by decide +kernel
theorem dX1_fill_54 : decode cX1_fill 54 = .ok (.aload_n 0, 1) := by decide +kernel
theorem dX1_fill_55 : decode cX1_fill 55 = .ok (.iload 6, 2) := by decide +kernel
theorem dX1_fill_57 : decode cX1_fill 57 = .ok (.iload 5, 2) := by decide +kernel
theorem dX1_fill_59 : decode cX1_fill 59 = .ok (.iload 4, 2) := by decide +kernel
theorem dX1_fill_61 : decode cX1_fill 61 = .ok (.invokevirtual 65, 3) := by decide +kernel
theorem dX1_fill_64 : decode cX1_fill 64 = .ok (.iinc 6 1, 3) := by decide +kernel
theorem dX1_fill_67 : decode cX1_fill 67 = .ok (.goto (-19), 3) := by decide +kernel
theorem dX1_fill_70 : decode cX1_fill 70 = .ok (.iload_n 3, 1) := by decide +kernel
theorem dX1_fill_71 : decode cX1_fill 71 = .ok (.iload_n 2, 1) := by decide +kernel
theorem dX1_fill_72 : decode cX1_fill 72 = .ok (.isub, 1) := by decide +kernel
theorem dX1_fill_73 : decode cX1_fill 73 = .ok (.iconst 1, 1) := by decide +kernel
theorem dX1_fill_74 : decode cX1_fill 74 = .ok (.iadd, 1) := by decide +kernel
theorem dX1_fill_75 : decode cX1_fill 75 = .ok (.ireturn, 1) := by decide +kernel
theorem q16 : (Jvm.Cond.initialized "FlashMap") ∈ lw_all := lw_g (lw_at lw_m0 1 rfl) rfl
theorem q19 : (Jvm.Cond.instantiable "FlashMap" (10 : Nat)) ∈ lw_all := lw_g (lw_at lw_m0 4 rfl) rfl
theorem q21 : (Jvm.Cond.instanceMethod ({ cls := "FlashMap", name := "<init>", desc := "(I)V" } : Jvm.MethodName)) ∈ lw_all := lw_g (lw_at lw_m0 6 rfl) rfl
theorem q22 : (Jvm.Cond.code ({ cls := "FlashMap", name := "<init>", desc := "(I)V" } : Jvm.MethodName) prog_1_method_1_code (2 : Nat) (Option.none : Option Jvm.ClassFile.FieldType)) ∈ lw_all := lw_g (lw_at lw_m0 7 rfl) rfl
theorem q23 : (Jvm.Cond.methodLink "FlashMap" (1 : Nat) ({ cls := "java/lang/Object", name := "<init>", desc := "()V" } : Jvm.MethodName)) ∈ lw_all := lw_g (lw_at lw_m0 8 rfl) rfl
theorem q26 : (Jvm.Cond.methodLink "FlashMap" (37 : Nat) ({ cls := "FlashMap", name := "startUp", desc := "()V" } : Jvm.MethodName)) ∈ lw_all := lw_g (lw_at lw_m0 11 rfl) rfl
theorem q27 : (Jvm.Cond.privateMethod ({ cls := "FlashMap", name := "startUp", desc := "()V" } : Jvm.MethodName)) ∈ lw_tbl := lw_at lw_m0 12 rfl
theorem q28 : (Jvm.Cond.instanceMethod ({ cls := "FlashMap", name := "startUp", desc := "()V" } : Jvm.MethodName)) ∈ lw_all := lw_g (lw_at lw_m0 13 rfl) rfl
theorem q29 : (Jvm.Cond.code ({ cls := "FlashMap", name := "startUp", desc := "()V" } : Jvm.MethodName) prog_1_method_26_code (3 : Nat) (Option.none : Option Jvm.ClassFile.FieldType)) ∈ lw_all := lw_g (lw_at lw_m0 14 rfl) rfl
theorem q30 : (Jvm.Cond.methodLink "FlashMap" (93 : Nat) ({ cls := "FlashMap", name := "isErased", desc := "(I)Z" } : Jvm.MethodName)) ∈ lw_all := lw_g (lw_at lw_m0 15 rfl) rfl
theorem q31 : (Jvm.Cond.privateMethod ({ cls := "FlashMap", name := "isErased", desc := "(I)Z" } : Jvm.MethodName)) ∈ lw_tbl := lw_at lw_m0 16 rfl
theorem q32 : (Jvm.Cond.instanceMethod ({ cls := "FlashMap", name := "isErased", desc := "(I)Z" } : Jvm.MethodName)) ∈ lw_all := lw_g (lw_at lw_m0 17 rfl) rfl
theorem q33 : (Jvm.Cond.code ({ cls := "FlashMap", name := "isErased", desc := "(I)Z" } : Jvm.MethodName) prog_1_method_19_code (3 : Nat) (Option.some Jvm.ClassFile.FieldType.boolean)) ∈ lw_all := lw_g (lw_at lw_m0 18 rfl) rfl
theorem q34 : (Jvm.Cond.fieldLink "FlashMap" (7 : Nat) "FlashMap" "state" "[B") ∈ lw_all := lw_g (lw_at lw_m0 19 rfl) rfl
theorem q35 : (Jvm.Cond.fieldLink "FlashMap" (13 : Nat) "FlashMap" "data" "[I") ∈ lw_all := lw_g (lw_at lw_m0 20 rfl) rfl
theorem q36 : (Jvm.Cond.fieldLink "FlashMap" (17 : Nat) "FlashMap" "logical" "[B") ∈ lw_all := lw_g (lw_at lw_m0 21 rfl) rfl
theorem q37 : (Jvm.Cond.fieldLink "FlashMap" (20 : Nat) "FlashMap" "empty" "[Z") ∈ lw_all := lw_g (lw_at lw_m0 22 rfl) rfl
theorem q38 : (Jvm.Cond.fieldLink "FlashMap" (24 : Nat) "FlashMap" "running" "[I") ∈ lw_all := lw_g (lw_at lw_m0 23 rfl) rfl
theorem q39 : (Jvm.Cond.fieldLink "FlashMap" (27 : Nat) "FlashMap" "erasures" "[I") ∈ lw_all := lw_g (lw_at lw_m0 24 rfl) rfl
theorem q40 : (Jvm.Cond.fieldLink "FlashMap" (33 : Nat) "FlashMap" "spareBlocks" "I") ∈ lw_all := lw_g (lw_at lw_m0 25 rfl) rfl
theorem q41 : (Jvm.Cond.fieldLink "FlashMap" (30 : Nat) "FlashMap" "place" "[B") ∈ lw_all := lw_g (lw_at lw_m0 26 rfl) rfl
theorem q42 : (Jvm.Cond.fieldLink "FlashMap" (87 : Nat) "FlashMap" "openBlock" "I") ∈ lw_all := lw_g (lw_at lw_m0 27 rfl) rfl
theorem q43 : (Jvm.Cond.fieldLink "FlashMap" (55 : Nat) "FlashMap" "nextNumber" "I") ∈ lw_all := lw_g (lw_at lw_m0 28 rfl) rfl
theorem q44 : (Jvm.Cond.laysFinal "FlashMap" "FlashMap" "state" "[B") ∈ lw_all := lw_g (lw_at lw_m0 29 rfl) rfl
theorem q45 : (Jvm.Cond.soleField "FlashMap" "state") ∈ lw_all := lw_g (lw_at lw_m0 30 rfl) rfl
theorem q46 : (Jvm.Cond.laysFinal "FlashMap" "FlashMap" "data" "[I") ∈ lw_all := lw_g (lw_at lw_m0 31 rfl) rfl
theorem q47 : (Jvm.Cond.soleField "FlashMap" "data") ∈ lw_all := lw_g (lw_at lw_m0 32 rfl) rfl
theorem q48 : (Jvm.Cond.laysFinal "FlashMap" "FlashMap" "logical" "[B") ∈ lw_all := lw_g (lw_at lw_m0 33 rfl) rfl
theorem q49 : (Jvm.Cond.soleField "FlashMap" "logical") ∈ lw_all := lw_g (lw_at lw_m0 34 rfl) rfl
theorem q50 : (Jvm.Cond.laysFinal "FlashMap" "FlashMap" "empty" "[Z") ∈ lw_all := lw_g (lw_at lw_m0 35 rfl) rfl
theorem q51 : (Jvm.Cond.soleField "FlashMap" "empty") ∈ lw_all := lw_g (lw_at lw_m0 36 rfl) rfl
theorem q52 : (Jvm.Cond.laysFinal "FlashMap" "FlashMap" "running" "[I") ∈ lw_all := lw_g (lw_at lw_m0 37 rfl) rfl
theorem q53 : (Jvm.Cond.soleField "FlashMap" "running") ∈ lw_all := lw_g (lw_at lw_m0 38 rfl) rfl
theorem q54 : (Jvm.Cond.laysFinal "FlashMap" "FlashMap" "erasures" "[I") ∈ lw_all := lw_g (lw_at lw_m0 39 rfl) rfl
theorem q55 : (Jvm.Cond.soleField "FlashMap" "erasures") ∈ lw_all := lw_g (lw_at lw_m0 40 rfl) rfl
theorem q56 : (Jvm.Cond.lays "FlashMap" "FlashMap" "spareBlocks" "I") ∈ lw_all := lw_g (lw_at lw_m0 41 rfl) rfl
theorem q57 : (Jvm.Cond.soleField "FlashMap" "spareBlocks") ∈ lw_all := lw_g (lw_at lw_m0 42 rfl) rfl
theorem q58 : (Jvm.Cond.laysFinal "FlashMap" "FlashMap" "place" "[B") ∈ lw_all := lw_g (lw_at lw_m0 43 rfl) rfl
theorem q59 : (Jvm.Cond.soleField "FlashMap" "place") ∈ lw_all := lw_g (lw_at lw_m0 44 rfl) rfl
theorem q60 : (Jvm.Cond.lays "FlashMap" "FlashMap" "openBlock" "I") ∈ lw_all := lw_g (lw_at lw_m0 45 rfl) rfl
theorem q61 : (Jvm.Cond.soleField "FlashMap" "openBlock") ∈ lw_all := lw_g (lw_at lw_m0 46 rfl) rfl
theorem q62 : (Jvm.Cond.lays "FlashMap" "FlashMap" "nextNumber" "I") ∈ lw_all := lw_g (lw_at lw_m0 47 rfl) rfl
theorem q63 : (Jvm.Cond.soleField "FlashMap" "nextNumber") ∈ lw_all := lw_g (lw_at lw_m0 48 rfl) rfl
theorem q64 : (Jvm.Cond.superclass "FlashMap" "java/lang/Object") ∈ lw_all := lw_g (lw_at lw_m0 49 rfl) rfl
theorem q69 : (Jvm.Cond.instanceMethod ({ cls := "FlashMap", name := "write", desc := "(II)I" } : Jvm.MethodName)) ∈ lw_all := lw_g (lw_at lw_m0 54 rfl) rfl
theorem q70 : (Jvm.Cond.selects "FlashMap" ({ cls := "FlashMap", name := "write", desc := "(II)I" } : Jvm.MethodName) ({ cls := "FlashMap", name := "write", desc := "(II)I" } : Jvm.MethodName)) ∈ lw_all := lw_g (lw_at lw_m0 55 rfl) rfl
theorem q71 : (Jvm.Cond.code ({ cls := "FlashMap", name := "write", desc := "(II)I" } : Jvm.MethodName) prog_1_method_2_code (4 : Nat) (Option.some Jvm.ClassFile.FieldType.int)) ∈ lw_all := lw_g (lw_at lw_m0 56 rfl) rfl
theorem q72 : (Jvm.Cond.methodLink "FlashMap" (40 : Nat) ({ cls := "FlashMap", name := "isPage", desc := "(I)Z" } : Jvm.MethodName)) ∈ lw_all := lw_g (lw_at lw_m0 57 rfl) rfl
theorem q73 : (Jvm.Cond.privateMethod ({ cls := "FlashMap", name := "isPage", desc := "(I)Z" } : Jvm.MethodName)) ∈ lw_tbl := lw_at lw_m0 58 rfl
theorem q74 : (Jvm.Cond.instanceMethod ({ cls := "FlashMap", name := "isPage", desc := "(I)Z" } : Jvm.MethodName)) ∈ lw_all := lw_g (lw_at lw_m0 59 rfl) rfl
theorem q75 : (Jvm.Cond.code ({ cls := "FlashMap", name := "isPage", desc := "(I)Z" } : Jvm.MethodName) prog_1_method_13_code (2 : Nat) (Option.some Jvm.ClassFile.FieldType.boolean)) ∈ lw_all := lw_g (lw_at lw_m0 60 rfl) rfl
theorem q76 : (Jvm.Cond.methodLink "FlashMap" (44 : Nat) ({ cls := "FlashMap", name := "has", desc := "(I)Z" } : Jvm.MethodName)) ∈ lw_all := lw_g (lw_at lw_m0 61 rfl) rfl
theorem q77 : (Jvm.Cond.instanceMethod ({ cls := "FlashMap", name := "has", desc := "(I)Z" } : Jvm.MethodName)) ∈ lw_all := lw_g (lw_at lw_m0 62 rfl) rfl
theorem q78 : (Jvm.Cond.selects "FlashMap" ({ cls := "FlashMap", name := "has", desc := "(I)Z" } : Jvm.MethodName) ({ cls := "FlashMap", name := "has", desc := "(I)Z" } : Jvm.MethodName)) ∈ lw_all := lw_g (lw_at lw_m0 63 rfl) rfl
theorem q79 : (Jvm.Cond.code ({ cls := "FlashMap", name := "has", desc := "(I)Z" } : Jvm.MethodName) prog_1_method_6_code (2 : Nat) (Option.some Jvm.ClassFile.FieldType.boolean)) ∈ lw_all := lw_g (lw_at lw_m0 64 rfl) rfl
theorem q80 : (Jvm.Cond.methodLink "FlashMap" (47 : Nat) ({ cls := "FlashMap", name := "program", desc := "(IIZ)V" } : Jvm.MethodName)) ∈ lw_all := lw_g (lw_at lw_m0 65 rfl) rfl
theorem q81 : (Jvm.Cond.privateMethod ({ cls := "FlashMap", name := "program", desc := "(IIZ)V" } : Jvm.MethodName)) ∈ lw_tbl := lw_at lw_m0 66 rfl
theorem q82 : (Jvm.Cond.instanceMethod ({ cls := "FlashMap", name := "program", desc := "(IIZ)V" } : Jvm.MethodName)) ∈ lw_all := lw_g (lw_at lw_m0 67 rfl) rfl
theorem q83 : (Jvm.Cond.code ({ cls := "FlashMap", name := "program", desc := "(IIZ)V" } : Jvm.MethodName) prog_1_method_15_code (5 : Nat) (Option.none : Option Jvm.ClassFile.FieldType)) ∈ lw_all := lw_g (lw_at lw_m0 68 rfl) rfl
theorem q84 : (Jvm.Cond.methodLink "FlashMap" (51 : Nat) ({ cls := "FlashMap", name := "freshPage", desc := "()I" } : Jvm.MethodName)) ∈ lw_all := lw_g (lw_at lw_m0 69 rfl) rfl
theorem q85 : (Jvm.Cond.privateMethod ({ cls := "FlashMap", name := "freshPage", desc := "()I" } : Jvm.MethodName)) ∈ lw_tbl := lw_at lw_m0 70 rfl
theorem q86 : (Jvm.Cond.instanceMethod ({ cls := "FlashMap", name := "freshPage", desc := "()I" } : Jvm.MethodName)) ∈ lw_all := lw_g (lw_at lw_m0 71 rfl) rfl
theorem q87 : (Jvm.Cond.code ({ cls := "FlashMap", name := "freshPage", desc := "()I" } : Jvm.MethodName) prog_1_method_17_code (4 : Nat) (Option.some Jvm.ClassFile.FieldType.int)) ∈ lw_all := lw_g (lw_at lw_m0 72 rfl) rfl
theorem q88 : (Jvm.Cond.methodLink "FlashMap" (75 : Nat) ({ cls := "FlashMap", name := "nextInBlock", desc := "()I" } : Jvm.MethodName)) ∈ lw_all := lw_g (lw_at lw_m0 73 rfl) rfl
theorem q89 : (Jvm.Cond.privateMethod ({ cls := "FlashMap", name := "nextInBlock", desc := "()I" } : Jvm.MethodName)) ∈ lw_tbl := lw_at lw_m0 74 rfl
theorem q90 : (Jvm.Cond.instanceMethod ({ cls := "FlashMap", name := "nextInBlock", desc := "()I" } : Jvm.MethodName)) ∈ lw_all := lw_g (lw_at lw_m0 75 rfl) rfl
theorem q91 : (Jvm.Cond.code ({ cls := "FlashMap", name := "nextInBlock", desc := "()I" } : Jvm.MethodName) prog_1_method_18_code (2 : Nat) (Option.some Jvm.ClassFile.FieldType.int)) ∈ lw_all := lw_g (lw_at lw_m0 76 rfl) rfl
theorem q92 : (Jvm.Cond.methodLink "FlashMap" (78 : Nat) ({ cls := "FlashMap", name := "freeBlocks", desc := "()I" } : Jvm.MethodName)) ∈ lw_all := lw_g (lw_at lw_m0 77 rfl) rfl
theorem q93 : (Jvm.Cond.privateMethod ({ cls := "FlashMap", name := "freeBlocks", desc := "()I" } : Jvm.MethodName)) ∈ lw_tbl := lw_at lw_m0 78 rfl
theorem q94 : (Jvm.Cond.instanceMethod ({ cls := "FlashMap", name := "freeBlocks", desc := "()I" } : Jvm.MethodName)) ∈ lw_all := lw_g (lw_at lw_m0 79 rfl) rfl
theorem q95 : (Jvm.Cond.code ({ cls := "FlashMap", name := "freeBlocks", desc := "()I" } : Jvm.MethodName) prog_1_method_20_code (3 : Nat) (Option.some Jvm.ClassFile.FieldType.int)) ∈ lw_all := lw_g (lw_at lw_m0 80 rfl) rfl
theorem q96 : (Jvm.Cond.methodLink "FlashMap" (81 : Nat) ({ cls := "FlashMap", name := "leastValidBlock", desc := "()I" } : Jvm.MethodName)) ∈ lw_all := lw_g (lw_at lw_m0 81 rfl) rfl
theorem q97 : (Jvm.Cond.privateMethod ({ cls := "FlashMap", name := "leastValidBlock", desc := "()I" } : Jvm.MethodName)) ∈ lw_tbl := lw_at lw_m0 82 rfl
theorem q98 : (Jvm.Cond.instanceMethod ({ cls := "FlashMap", name := "leastValidBlock", desc := "()I" } : Jvm.MethodName)) ∈ lw_all := lw_g (lw_at lw_m0 83 rfl) rfl
theorem q99 : (Jvm.Cond.code ({ cls := "FlashMap", name := "leastValidBlock", desc := "()I" } : Jvm.MethodName) prog_1_method_24_code (5 : Nat) (Option.some Jvm.ClassFile.FieldType.int)) ∈ lw_all := lw_g (lw_at lw_m0 84 rfl) rfl
theorem q100 : (Jvm.Cond.methodLink "FlashMap" (99 : Nat) ({ cls := "FlashMap", name := "validIn", desc := "(I)I" } : Jvm.MethodName)) ∈ lw_all := lw_g (lw_at lw_m0 85 rfl) rfl
theorem q101 : (Jvm.Cond.privateMethod ({ cls := "FlashMap", name := "validIn", desc := "(I)I" } : Jvm.MethodName)) ∈ lw_tbl := lw_at lw_m0 86 rfl
theorem q102 : (Jvm.Cond.instanceMethod ({ cls := "FlashMap", name := "validIn", desc := "(I)I" } : Jvm.MethodName)) ∈ lw_all := lw_g (lw_at lw_m0 87 rfl) rfl
theorem q103 : (Jvm.Cond.code ({ cls := "FlashMap", name := "validIn", desc := "(I)I" } : Jvm.MethodName) prog_1_method_23_code (4 : Nat) (Option.some Jvm.ClassFile.FieldType.int)) ∈ lw_all := lw_g (lw_at lw_m0 88 rfl) rfl
theorem q104 : (Jvm.Cond.methodLink "FlashMap" (96 : Nat) ({ cls := "FlashMap", name := "isValid", desc := "(I)Z" } : Jvm.MethodName)) ∈ lw_all := lw_g (lw_at lw_m0 89 rfl) rfl
theorem q105 : (Jvm.Cond.privateMethod ({ cls := "FlashMap", name := "isValid", desc := "(I)Z" } : Jvm.MethodName)) ∈ lw_tbl := lw_at lw_m0 90 rfl
theorem q106 : (Jvm.Cond.instanceMethod ({ cls := "FlashMap", name := "isValid", desc := "(I)Z" } : Jvm.MethodName)) ∈ lw_all := lw_g (lw_at lw_m0 91 rfl) rfl
theorem q107 : (Jvm.Cond.code ({ cls := "FlashMap", name := "isValid", desc := "(I)Z" } : Jvm.MethodName) prog_1_method_22_code (2 : Nat) (Option.some Jvm.ClassFile.FieldType.boolean)) ∈ lw_all := lw_g (lw_at lw_m0 92 rfl) rfl
theorem q108 : (Jvm.Cond.methodLink "FlashMap" (84 : Nat) ({ cls := "FlashMap", name := "leastWornFreeBlock", desc := "()I" } : Jvm.MethodName)) ∈ lw_all := lw_g (lw_at lw_m0 93 rfl) rfl
theorem q109 : (Jvm.Cond.privateMethod ({ cls := "FlashMap", name := "leastWornFreeBlock", desc := "()I" } : Jvm.MethodName)) ∈ lw_tbl := lw_at lw_m0 94 rfl
theorem q110 : (Jvm.Cond.instanceMethod ({ cls := "FlashMap", name := "leastWornFreeBlock", desc := "()I" } : Jvm.MethodName)) ∈ lw_all := lw_g (lw_at lw_m0 95 rfl) rfl
theorem q111 : (Jvm.Cond.code ({ cls := "FlashMap", name := "leastWornFreeBlock", desc := "()I" } : Jvm.MethodName) prog_1_method_21_code (3 : Nat) (Option.some Jvm.ClassFile.FieldType.int)) ∈ lw_all := lw_g (lw_at lw_m0 96 rfl) rfl
theorem q112 : (Jvm.Cond.methodLink "FlashMap" (90 : Nat) ({ cls := "FlashMap", name := "empty", desc := "(I)V" } : Jvm.MethodName)) ∈ lw_all := lw_g (lw_at lw_m0 97 rfl) rfl
theorem q113 : (Jvm.Cond.privateMethod ({ cls := "FlashMap", name := "empty", desc := "(I)V" } : Jvm.MethodName)) ∈ lw_tbl := lw_at lw_m0 98 rfl
theorem q114 : (Jvm.Cond.instanceMethod ({ cls := "FlashMap", name := "empty", desc := "(I)V" } : Jvm.MethodName)) ∈ lw_all := lw_g (lw_at lw_m0 99 rfl) rfl
theorem q115 : (Jvm.Cond.code ({ cls := "FlashMap", name := "empty", desc := "(I)V" } : Jvm.MethodName) prog_1_method_25_code (4 : Nat) (Option.none : Option Jvm.ClassFile.FieldType)) ∈ lw_all := lw_g (lw_at lw_m0 100 rfl) rfl
theorem q116 : (Jvm.Cond.methodLink "FlashMap" (71 : Nat) ({ cls := "FlashMap", name := "fillPage", desc := "(IIIZ)V" } : Jvm.MethodName)) ∈ lw_all := lw_g (lw_at lw_m0 101 rfl) rfl
theorem q117 : (Jvm.Cond.privateMethod ({ cls := "FlashMap", name := "fillPage", desc := "(IIIZ)V" } : Jvm.MethodName)) ∈ lw_tbl := lw_at lw_m0 102 rfl
theorem q118 : (Jvm.Cond.instanceMethod ({ cls := "FlashMap", name := "fillPage", desc := "(IIIZ)V" } : Jvm.MethodName)) ∈ lw_all := lw_g (lw_at lw_m0 103 rfl) rfl
theorem q119 : (Jvm.Cond.code ({ cls := "FlashMap", name := "fillPage", desc := "(IIIZ)V" } : Jvm.MethodName) prog_1_method_16_code (5 : Nat) (Option.none : Option Jvm.ClassFile.FieldType)) ∈ lw_all := lw_g (lw_at lw_m0 104 rfl) rfl
theorem q121 : (Jvm.Cond.instanceMethod ({ cls := "FlashMap", name := "torn", desc := "(II)I" } : Jvm.MethodName)) ∈ lw_all := lw_g (lw_at lw_m0 106 rfl) rfl
theorem q122 : (Jvm.Cond.selects "FlashMap" ({ cls := "FlashMap", name := "torn", desc := "(II)I" } : Jvm.MethodName) ({ cls := "FlashMap", name := "torn", desc := "(II)I" } : Jvm.MethodName)) ∈ lw_all := lw_g (lw_at lw_m0 107 rfl) rfl
theorem q123 : (Jvm.Cond.code ({ cls := "FlashMap", name := "torn", desc := "(II)I" } : Jvm.MethodName) prog_1_method_3_code (4 : Nat) (Option.some Jvm.ClassFile.FieldType.int)) ∈ lw_all := lw_g (lw_at lw_m0 108 rfl) rfl
theorem q125 : (Jvm.Cond.instanceMethod ({ cls := "FlashMap", name := "trim", desc := "(I)I" } : Jvm.MethodName)) ∈ lw_all := lw_g (lw_at lw_m0 110 rfl) rfl
theorem q126 : (Jvm.Cond.selects "FlashMap" ({ cls := "FlashMap", name := "trim", desc := "(I)I" } : Jvm.MethodName) ({ cls := "FlashMap", name := "trim", desc := "(I)I" } : Jvm.MethodName)) ∈ lw_all := lw_g (lw_at lw_m0 111 rfl) rfl
theorem q127 : (Jvm.Cond.code ({ cls := "FlashMap", name := "trim", desc := "(I)I" } : Jvm.MethodName) prog_1_method_4_code (2 : Nat) (Option.some Jvm.ClassFile.FieldType.int)) ∈ lw_all := lw_g (lw_at lw_m0 112 rfl) rfl
theorem q129 : (Jvm.Cond.instanceMethod ({ cls := "FlashMap", name := "powerCut", desc := "()I" } : Jvm.MethodName)) ∈ lw_all := lw_g (lw_at lw_m0 114 rfl) rfl
theorem q130 : (Jvm.Cond.selects "FlashMap" ({ cls := "FlashMap", name := "powerCut", desc := "()I" } : Jvm.MethodName) ({ cls := "FlashMap", name := "powerCut", desc := "()I" } : Jvm.MethodName)) ∈ lw_all := lw_g (lw_at lw_m0 115 rfl) rfl
theorem q131 : (Jvm.Cond.code ({ cls := "FlashMap", name := "powerCut", desc := "()I" } : Jvm.MethodName) prog_1_method_5_code (1 : Nat) (Option.some Jvm.ClassFile.FieldType.int)) ∈ lw_all := lw_g (lw_at lw_m0 116 rfl) rfl
theorem q132 : (Jvm.Cond.methodLink "FlashMap" (58 : Nat) ({ cls := "FlashMap", name := "used", desc := "()I" } : Jvm.MethodName)) ∈ lw_all := lw_g (lw_at lw_m0 117 rfl) rfl
theorem q133 : (Jvm.Cond.instanceMethod ({ cls := "FlashMap", name := "used", desc := "()I" } : Jvm.MethodName)) ∈ lw_all := lw_g (lw_at lw_m0 118 rfl) rfl
theorem q134 : (Jvm.Cond.selects "FlashMap" ({ cls := "FlashMap", name := "used", desc := "()I" } : Jvm.MethodName) ({ cls := "FlashMap", name := "used", desc := "()I" } : Jvm.MethodName)) ∈ lw_all := lw_g (lw_at lw_m0 119 rfl) rfl
theorem q135 : (Jvm.Cond.code ({ cls := "FlashMap", name := "used", desc := "()I" } : Jvm.MethodName) prog_1_method_8_code (3 : Nat) (Option.some Jvm.ClassFile.FieldType.int)) ∈ lw_all := lw_g (lw_at lw_m0 120 rfl) rfl
theorem q138 : (Jvm.Cond.instanceMethod ({ cls := "FlashMap", name := "read", desc := "(I)I" } : Jvm.MethodName)) ∈ lw_all := lw_g (lw_at lw_m0 123 rfl) rfl
theorem q139 : (Jvm.Cond.selects "FlashMap" ({ cls := "FlashMap", name := "read", desc := "(I)I" } : Jvm.MethodName) ({ cls := "FlashMap", name := "read", desc := "(I)I" } : Jvm.MethodName)) ∈ lw_all := lw_g (lw_at lw_m0 124 rfl) rfl
theorem q140 : (Jvm.Cond.code ({ cls := "FlashMap", name := "read", desc := "(I)I" } : Jvm.MethodName) prog_1_method_7_code (2 : Nat) (Option.some Jvm.ClassFile.FieldType.int)) ∈ lw_all := lw_g (lw_at lw_m0 125 rfl) rfl
theorem q143 : (Jvm.Cond.instanceMethod ({ cls := "FlashMap", name := "nextUsed", desc := "(I)I" } : Jvm.MethodName)) ∈ lw_all := lw_g (lw_at lw_m0 128 rfl) rfl
theorem q144 : (Jvm.Cond.selects "FlashMap" ({ cls := "FlashMap", name := "nextUsed", desc := "(I)I" } : Jvm.MethodName) ({ cls := "FlashMap", name := "nextUsed", desc := "(I)I" } : Jvm.MethodName)) ∈ lw_all := lw_g (lw_at lw_m0 129 rfl) rfl
theorem q145 : (Jvm.Cond.code ({ cls := "FlashMap", name := "nextUsed", desc := "(I)I" } : Jvm.MethodName) prog_1_method_9_code (3 : Nat) (Option.some Jvm.ClassFile.FieldType.int)) ∈ lw_all := lw_g (lw_at lw_m0 130 rfl) rfl
theorem q147 : (Jvm.Cond.instanceMethod ({ cls := "FlashMap", name := "total", desc := "()J" } : Jvm.MethodName)) ∈ lw_all := lw_g (lw_at lw_m0 132 rfl) rfl
theorem q148 : (Jvm.Cond.selects "FlashMap" ({ cls := "FlashMap", name := "total", desc := "()J" } : Jvm.MethodName) ({ cls := "FlashMap", name := "total", desc := "()J" } : Jvm.MethodName)) ∈ lw_all := lw_g (lw_at lw_m0 133 rfl) rfl
theorem q149 : (Jvm.Cond.code ({ cls := "FlashMap", name := "total", desc := "()J" } : Jvm.MethodName) prog_1_method_10_code (4 : Nat) (Option.some Jvm.ClassFile.FieldType.long)) ∈ lw_all := lw_g (lw_at lw_m0 134 rfl) rfl
theorem q150 : (Jvm.Cond.methodLink "FlashMap" (61 : Nat) ({ cls := "FlashMap", name := "read", desc := "(I)I" } : Jvm.MethodName)) ∈ lw_all := lw_g (lw_at lw_m0 135 rfl) rfl
theorem q152 : (Jvm.Cond.instanceMethod ({ cls := "FlashMap", name := "exchange", desc := "(II)I" } : Jvm.MethodName)) ∈ lw_all := lw_g (lw_at lw_m0 137 rfl) rfl
theorem q153 : (Jvm.Cond.selects "FlashMap" ({ cls := "FlashMap", name := "exchange", desc := "(II)I" } : Jvm.MethodName) ({ cls := "FlashMap", name := "exchange", desc := "(II)I" } : Jvm.MethodName)) ∈ lw_all := lw_g (lw_at lw_m0 138 rfl) rfl
theorem q154 : (Jvm.Cond.code ({ cls := "FlashMap", name := "exchange", desc := "(II)I" } : Jvm.MethodName) prog_1_method_11_code (7 : Nat) (Option.some Jvm.ClassFile.FieldType.int)) ∈ lw_all := lw_g (lw_at lw_m0 139 rfl) rfl
theorem q155 : (Jvm.Cond.methodLink "FlashMap" (65 : Nat) ({ cls := "FlashMap", name := "replace", desc := "(IIZ)V" } : Jvm.MethodName)) ∈ lw_all := lw_g (lw_at lw_m0 140 rfl) rfl
theorem q156 : (Jvm.Cond.privateMethod ({ cls := "FlashMap", name := "replace", desc := "(IIZ)V" } : Jvm.MethodName)) ∈ lw_tbl := lw_at lw_m0 141 rfl
theorem q157 : (Jvm.Cond.instanceMethod ({ cls := "FlashMap", name := "replace", desc := "(IIZ)V" } : Jvm.MethodName)) ∈ lw_all := lw_g (lw_at lw_m0 142 rfl) rfl
theorem q158 : (Jvm.Cond.code ({ cls := "FlashMap", name := "replace", desc := "(IIZ)V" } : Jvm.MethodName) prog_1_method_14_code (4 : Nat) (Option.none : Option Jvm.ClassFile.FieldType)) ∈ lw_all := lw_g (lw_at lw_m0 143 rfl) rfl
theorem q159 : (Jvm.Cond.methodLink "FlashMap" (68 : Nat) ({ cls := "FlashMap", name := "trim", desc := "(I)I" } : Jvm.MethodName)) ∈ lw_all := lw_g (lw_at lw_m0 144 rfl) rfl
theorem q161 : (Jvm.Cond.instanceMethod ({ cls := "FlashMap", name := "fill", desc := "(III)I" } : Jvm.MethodName)) ∈ lw_all := lw_g (lw_at lw_m0 146 rfl) rfl
theorem q162 : (Jvm.Cond.selects "FlashMap" ({ cls := "FlashMap", name := "fill", desc := "(III)I" } : Jvm.MethodName) ({ cls := "FlashMap", name := "fill", desc := "(III)I" } : Jvm.MethodName)) ∈ lw_all := lw_g (lw_at lw_m0 147 rfl) rfl
theorem q163 : (Jvm.Cond.code ({ cls := "FlashMap", name := "fill", desc := "(III)I" } : Jvm.MethodName) prog_1_method_12_code (7 : Nat) (Option.some Jvm.ClassFile.FieldType.int)) ∈ lw_all := lw_g (lw_at lw_m0 148 rfl) rfl
theorem in_X1 : ∀ w ∈ wsX10, w ∈ lw_all := lw_in wsX10 [44, 46, 48, 50, 52, 54, 56, 58, 60, 62] (by decide +kernel) (by decide +kernel)
end
section
/-! java/lang/Object -/
set_option maxRecDepth 100000
def RJ0 : String := "java/lang/Object"
abbrev cJ0_init : ByteArray := object_method_1_code
def yJ0_init : MethodName := ⟨RJ0, "<init>", "()V"⟩
theorem dJ0_init_0 : decode cJ0_init 0 = .ok (.return_, 1) := by decide +kernel
theorem q24 : (Jvm.Cond.instanceMethod ({ cls := "java/lang/Object", name := "<init>", desc := "()V" } : Jvm.MethodName)) ∈ lw_all := lw_g (lw_at lw_m0 9 rfl) rfl
theorem q25 : (Jvm.Cond.code ({ cls := "java/lang/Object", name := "<init>", desc := "()V" } : Jvm.MethodName) object_method_1_code (1 : Nat) (Option.none : Option Jvm.ClassFile.FieldType)) ∈ lw_all := lw_g (lw_at lw_m0 10 rfl) rfl
theorem q65 : (Jvm.Cond.arrayClass Jvm.ClassFile.FieldType.byte) ∈ lw_all := lw_g (lw_at lw_m0 50 rfl) rfl
set_option maxRecDepth 100000
theorem q66 : (Jvm.Cond.arrayClass Jvm.ClassFile.FieldType.int) ∈ lw_all := lw_g (lw_at lw_m0 51 rfl) rfl
theorem q67 : (Jvm.Cond.arrayClass Jvm.ClassFile.FieldType.boolean) ∈ lw_all := lw_g (lw_at lw_m0 52 rfl) rfl
/-! FlashMapModel -/
set_option maxRecDepth 100000
def RX2 : String := "FlashMapModel"
def TX2 : u_T := fun k => match k with
  | 0 => ("FlashMapModel", "value", "[I", false)
  | _ => ("FlashMapModel", "there", "[Z", false)
def tyX2 : Nat → FieldType := fun k => match k with
  | 0 => .array .int
  | _ => .array .boolean
abbrev wsX20 : List Cond := u_ws RX2 TX2 2
theorem nmX2 : ∀ a, a < 2 → ∀ b, b < 2 → a ≠ b → (TX2 a).2.1 ≠ (TX2 b).2.1 := by decide +kernel
theorem tyX2_ok : ∀ k, k < 2 → parseFieldDescriptor (TX2 k).2.2.1 = some (tyX2 k) := by decide +kernel
abbrev cX2_init : ByteArray := prog_3_method_1_code
def yX2_init : MethodName := ⟨RX2, "<init>", "(I)V"⟩
theorem dX2_init_0 : decode cX2_init 0 = .ok (.aload_n 0, 1) := by decide +kernel
theorem dX2_init_1 : decode cX2_init 1 = .ok (.invokespecial 1, 3) := by decide +kernel
theorem dX2_init_4 : decode cX2_init 4 = .ok (.aload_n 0, 1) := by decide +kernel
theorem dX2_init_5 : decode cX2_init 5 = .ok (.bipush 12, 2) := by decide +kernel
theorem dX2_init_7 : decode cX2_init 7 = .ok (.newarray .int, 2) := by decide +kernel
theorem dX2_init_9 : decode cX2_init 9 = .ok (.putfield 7, 3) := by decide +kernel
theorem dX2_init_12 : decode cX2_init 12 = .ok (.aload_n 0, 1) := by decide +kernel
theorem dX2_init_13 : decode cX2_init 13 = .ok (.bipush 12, 2) := by decide +kernel
theorem dX2_init_15 : decode cX2_init 15 = .ok (.newarray .boolean, 2) := by decide +kernel
theorem dX2_init_17 : decode cX2_init 17 = .ok (.putfield 13, 3) := by decide +kernel
theorem dX2_init_20 : decode cX2_init 20 = .ok (.return_, 1) := by decide +kernel
abbrev cX2_write : ByteArray := prog_3_method_3_code
def yX2_write : MethodName := ⟨RX2, "write", "(II)I"⟩
theorem dX2_write_0 : decode cX2_write 0 = .ok (.aload_n 0, 1) := by decide +kernel
theorem dX2_write_1 : decode cX2_write 1 = .ok (.iload_n 1, 1) := by decide +kernel
theorem dX2_write_2 : decode cX2_write 2 = .ok (.invokevirtual 17, 3) := by decide +kernel
theorem dX2_write_5 : decode cX2_write 5 = .ok (.ifCond .ne 5, 3) := by decide +kernel
theorem dX2_write_8 : decode cX2_write 8 = .ok (.iconst (-1), 1) := by decide +kernel
theorem dX2_write_9 : decode cX2_write 9 = .ok (.ireturn, 1) := by decide +kernel
theorem dX2_write_10 : decode cX2_write 10 = .ok (.aload_n 0, 1) := by decide +kernel
theorem dX2_write_11 : decode cX2_write 11 = .ok (.getfield 13, 3) := by decide +kernel
theorem dX2_write_14 : decode cX2_write 14 = .ok (.iload_n 1, 1) := by decide +kernel
theorem dX2_write_15 : decode cX2_write 15 = .ok (.baload, 1) := by decide +kernel
theorem dX2_write_16 : decode cX2_write 16 = .ok (.ifCond .eq 7, 3) := by decide +kernel
theorem dX2_write_19 : decode cX2_write 19 = .ok (.iconst 1, 1) := by decide +kernel
theorem dX2_write_20 : decode cX2_write 20 = .ok (.goto 4, 3) := by decide +kernel
theorem dX2_write_23 : decode cX2_write 23 = .ok (.iconst 0, 1) := by decide +kernel
theorem dX2_write_24 : decode cX2_write 24 = .ok (.istore_n 3, 1) := by decide +kernel
theorem dX2_write_25 : decode cX2_write 25 = .ok (.aload_n 0, 1) := by decide +kernel
theorem dX2_write_26 : decode cX2_write 26 = .ok (.getfield 7, 3) := by decide +kernel
theorem dX2_write_29 : decode cX2_write 29 = .ok (.iload_n 1, 1) := by decide +kernel
theorem dX2_write_30 : decode cX2_write 30 = .ok (.iload_n 2, 1) := by decide +kernel
theorem dX2_write_31 : decode cX2_write 31 = .ok (.iastore, 1) := by decide +kernel
theorem dX2_write_32 : decode cX2_write 32 = .ok (.aload_n 0, 1) := by decide +kernel
theorem dX2_write_33 : decode cX2_write 33 = .ok (.getfield 13, 3) := by decide +kernel
theorem dX2_write_36 : decode cX2_write 36 = .ok (.iload_n 1, 1) := by decide +kernel
theorem dX2_write_37 : decode cX2_write 37 = .ok (.iconst 1, 1) := by decide +kernel
theorem dX2_write_38 : decode cX2_write 38 = .ok (.bastore, 1) := by decide +kernel
theorem dX2_write_39 : decode cX2_write 39 = .ok (.iload_n 3, 1) := by decide +kernel
theorem dX2_write_40 : decode cX2_write 40 = .ok (.ireturn, 1) := by decide +kernel
abbrev cX2_isPage : ByteArray := prog_3_method_2_code
def yX2_isPage : MethodName := ⟨RX2, "isPage", "(I)Z"⟩
theorem dX2_isPage_0 : decode cX2_isPage 0 = .ok (.iload_n 1, 1) := by decide +kernel
theorem dX2_isPage_1 : decode cX2_isPage 1 = .ok (.ifCond .lt 13, 3) := by decide +kernel
theorem dX2_isPage_4 : decode cX2_isPage 4 = .ok (.iload_n 1, 1) := by decide +kernel
theorem dX2_isPage_5 : decode cX2_isPage 5 = .ok (.bipush 11, 2) := by decide +kernel
theorem dX2_isPage_7 : decode cX2_isPage 7 = .ok (.if_icmp .gt 7, 3) := by decide +kernel
theorem dX2_isPage_10 : decode cX2_isPage 10 = .ok (.iconst 1, 1) := by decide +kernel
theorem dX2_isPage_11 : decode cX2_isPage 11 = .ok (.goto 4, 3) := by decide +kernel
theorem dX2_isPage_14 : decode cX2_isPage 14 = .ok (.iconst 0, 1) := by decide +kernel
theorem dX2_isPage_15 : decode cX2_isPage 15 = .ok (.ireturn, 1) := by decide +kernel
abbrev cX2_torn : ByteArray := prog_3_method_4_code
def yX2_torn : MethodName := ⟨RX2, "torn", "(II)I"⟩
theorem dX2_torn_0 : decode cX2_torn 0 = .ok (.aload_n 0, 1) := by decide +kernel
theorem dX2_torn_1 : decode cX2_torn 1 = .ok (.iload_n 1, 1) := by decide +kernel
theorem dX2_torn_2 : decode cX2_torn 2 = .ok (.invokevirtual 17, 3) := by decide +kernel
theorem dX2_torn_5 : decode cX2_torn 5 = .ok (.ifCond .eq 7, 3) := by decide +kernel
theorem dX2_torn_8 : decode cX2_torn 8 = .ok (.iload_n 1, 1) := by decide +kernel
theorem dX2_torn_9 : decode cX2_torn 9 = .ok (.goto 4, 3) := by decide +kernel
theorem dX2_torn_12 : decode cX2_torn 12 = .ok (.iconst (-1), 1) := by decide +kernel
theorem dX2_torn_13 : decode cX2_torn 13 = .ok (.ireturn, 1) := by decide +kernel
abbrev cX2_trim : ByteArray := prog_3_method_5_code
def yX2_trim : MethodName := ⟨RX2, "trim", "(I)I"⟩
theorem dX2_trim_0 : decode cX2_trim 0 = .ok (.aload_n 0, 1) := by decide +kernel
theorem dX2_trim_1 : decode cX2_trim 1 = .ok (.iload_n 1, 1) := by decide +kernel
theorem dX2_trim_2 : decode cX2_trim 2 = .ok (.invokevirtual 17, 3) := by decide +kernel
theorem dX2_trim_5 : decode cX2_trim 5 = .ok (.ifCond .ne 5, 3) := by decide +kernel
theorem dX2_trim_8 : decode cX2_trim 8 = .ok (.iconst (-1), 1) := by decide +kernel
theorem dX2_trim_9 : decode cX2_trim 9 = .ok (.ireturn, 1) := by decide +kernel
theorem dX2_trim_10 : decode cX2_trim 10 = .ok (.aload_n 0, 1) := by decide +kernel
theorem dX2_trim_11 : decode cX2_trim 11 = .ok (.getfield 13, 3) := by decide +kernel
theorem dX2_trim_14 : decode cX2_trim 14 = .ok (.iload_n 1, 1) := by decide +kernel
theorem dX2_trim_15 : decode cX2_trim 15 = .ok (.baload, 1) := by decide +kernel
theorem dX2_trim_16 : decode cX2_trim 16 = .ok (.ifCond .eq 7, 3) := by decide +kernel
theorem dX2_trim_19 : decode cX2_trim 19 = .ok (.iconst 1, 1) := by decide +kernel
theorem dX2_trim_20 : decode cX2_trim 20 = .ok (.goto 4, 3) := by decide +kernel
theorem dX2_trim_23 : decode cX2_trim 23 = .ok (.iconst 0, 1) := by decide +kernel
theorem dX2_trim_24 : decode cX2_trim 24 = .ok (.istore_n 2, 1) := by decide +kernel
theorem dX2_trim_25 : decode cX2_trim 25 = .ok (.aload_n 0, 1) := by decide +kernel
theorem dX2_trim_26 : decode cX2_trim 26 = .ok (.getfield 13, 3) := by decide +kernel
theorem dX2_trim_29 : decode cX2_trim 29 = .ok (.iload_n 1, 1) := by decide +kernel
theorem dX2_trim_30 : decode cX2_trim 30 = .ok (.iconst 0, 1) := by decide +kernel
theorem dX2_trim_31 : decode cX2_trim 31 = .ok (.bastore, 1) := by decide +kernel
theorem dX2_trim_32 : decode cX2_trim 32 = .ok (.iload_n 2, 1) := by decide +kernel
theorem dX2_trim_33 : decode cX2_trim 33 = .ok (.ireturn, 1) := by decide +kernel
abbrev cX2_powerCut : ByteArray := prog_3_method_6_code
def yX2_powerCut : MethodName := ⟨RX2, "powerCut", "()I"⟩
theorem dX2_powerCut_0 : decode cX2_powerCut 0 = .ok (.aload_n 0, 1) := by decide +kernel
theorem dX2_powerCut_1 : decode cX2_powerCut 1 = .ok (.invokevirtual 21, 3) := by decide +kernel
theorem dX2_powerCut_4 : decode cX2_powerCut 4 = .ok (.ireturn, 1) := by decide +kernel
abbrev cX2_used : ByteArray := prog_3_method_9_code
def yX2_used : MethodName := ⟨RX2, "used", "()I"⟩
theorem dX2_used_0 : decode cX2_used 0 = .ok (.iconst 0, 1) := by decide +kernel
theorem dX2_used_1 : decode cX2_used 1 = .ok (.istore_n 1, 1) := by decide +kernel
theorem dX2_used_2 : decode cX2_used 2 = .ok (.iconst 0, 1) := by decide +kernel
theorem dX2_used_3 : decode cX2_used 3 = .ok (.istore_n 2, 1) := by decide +kernel
theorem dX2_used_4 : decode cX2_used 4 = .ok (.iload_n 2, 1) := by decide +kernel
theorem dX2_used_5 : decode cX2_used 5 = .ok (.bipush 12, 2) := by decide +kernel
theorem dX2_used_7 : decode cX2_used 7 = .ok (.if_icmp .ge 21, 3) := by decide +kernel
theorem dX2_used_10 : decode cX2_used 10 = .ok (.aload_n 0, 1) := by decide +kernel
theorem dX2_used_11 : decode cX2_used 11 = .ok (.getfield 13, 3) := by decide +kernel
theorem dX2_used_14 : decode cX2_used 14 = .ok (.iload_n 2, 1) := by decide +kernel
theorem dX2_used_15 : decode cX2_used 15 = .ok (.baload, 1) := by decide +kernel
theorem dX2_used_16 : decode cX2_used 16 = .ok (.ifCond .eq 6, 3) := by decide +kernel
theorem dX2_used_19 : decode cX2_used 19 = .ok (.iinc 1 1, 3) := by decide +kernel
theorem dX2_used_22 : decode cX2_used 22 = .ok (.iinc 2 1, 3) := by decide +kernel
theorem dX2_used_25 : decode cX2_used 25 = .ok (.goto (-21), 3) := by decide +kernel
theorem dX2_used_28 : decode cX2_used 28 = .ok (.iload_n 1, 1) := by decide +kernel
theorem dX2_used_29 : decode cX2_used 29 = .ok (.ireturn, 1) := by decide +kernel
abbrev cX2_has : ByteArray := prog_3_method_7_code
def yX2_has : MethodName := ⟨RX2, "has", "(I)Z"⟩
theorem dX2_has_0 : decode cX2_has 0 = .ok (.aload_n 0, 1) := by decide +kernel
theorem dX2_has_1 : decode cX2_has 1 = .ok (.iload_n 1, 1) := by decide +kernel
theorem dX2_has_2 : decode cX2_has 2 = .ok (.invokevirtual 17, 3) := by decide +kernel
theorem dX2_has_5 : decode cX2_has 5 = .ok (.ifCond .eq 16, 3) := by decide +kernel
theorem dX2_has_8 : decode cX2_has 8 = .ok (.aload_n 0, 1) := by decide +kernel
theorem dX2_has_9 : decode cX2_has 9 = .ok (.getfield 13, 3) := by decide +kernel
theorem dX2_has_12 : decode cX2_has 12 = .ok (.iload_n 1, 1) := by decide +kernel
theorem dX2_has_13 : decode cX2_has 13 = .ok (.baload, 1) := by decide +kernel
theorem dX2_has_14 : decode cX2_has 14 = .ok (.ifCond .eq 7, 3) := by decide +kernel
theorem dX2_has_17 : decode cX2_has 17 = .ok (.iconst 1, 1) := by decide +kernel
theorem dX2_has_18 : decode cX2_has 18 = .ok (.goto 4, 3) := by decide +kernel
theorem dX2_has_21 : decode cX2_has 21 = .ok (.iconst 0, 1) := by decide +kernel
theorem dX2_has_22 : decode cX2_has 22 = .ok (.ireturn, 1) := by decide +kernel
abbrev cX2_read : ByteArray := prog_3_method_8_code
def yX2_read : MethodName := ⟨RX2, "read", "(I)I"⟩
theorem dX2_read_0 : decode cX2_read 0 = .ok (.aload_n 0, 1) := by decide +kernel
theorem dX2_read_1 : decode cX2_read 1 = .ok (.iload_n 1, 1) := by decide +kernel
theorem dX2_read_2 : decode cX2_read 2 = .ok (.invokevirtual 25, 3) := by decide +kernel
theorem dX2_read_5 : decode cX2_read 5 = .ok (.ifCond .eq 12, 3) := by decide +kernel
theorem dX2_read_8 : decode cX2_read 8 = .ok (.aload_n 0, 1) := by decide +kernel
theorem dX2_read_9 : decode cX2_read 9 = .ok (.getfield 7, 3) := by decide +kernel
theorem dX2_read_12 : decode cX2_read 12 = .ok (.iload_n 1, 1) := by decide +kernel
theorem dX2_read_13 : decode cX2_read 13 = .ok (.iaload, 1) := by decide +kernel
theorem dX2_read_14 : decode cX2_read 14 = .ok (.goto 4, 3) := by decide +kernel
theorem dX2_read_17 : decode cX2_read 17 = .ok (.iconst 0, 1) := by decide +kernel
theorem dX2_read_18 : decode cX2_read 18 = .ok (.ireturn, 1) := by decide +kernel
abbrev cX2_nextUsed : ByteArray := prog_3_method_10_code
def yX2_nextUsed : MethodName := ⟨RX2, "nextUsed", "(I)I"⟩
theorem dX2_nextUsed_0 : decode cX2_nextUsed 0 = .ok (.iconst 0, 1) := by decide +kernel
theorem dX2_nextUsed_1 : decode cX2_nextUsed 1 = .ok (.istore_n 2, 1) := by decide +kernel
theorem dX2_nextUsed_2 : decode cX2_nextUsed 2 = .ok (.iload_n 2, 1) := by decide +kernel
theorem dX2_nextUsed_3 : decode cX2_nextUsed 3 = .ok (.bipush 12, 2) := by decide +kernel
theorem dX2_nextUsed_5 : decode cX2_nextUsed 5 = .ok (.if_icmp .ge 25, 3) := by decide +kernel
theorem dX2_nextUsed_8 : decode cX2_nextUsed 8 = .ok (.iload_n 2, 1) := by decide +kernel
theorem dX2_nextUsed_9 : decode cX2_nextUsed 9 = .ok (.iload_n 1, 1) := by decide +kernel
theorem dX2_nextUsed_10 : decode cX2_nextUsed 10 = .ok (.if_icmp .le 14, 3) := by decide +kernel
theorem dX2_nextUsed_13 : decode cX2_nextUsed 13 = .ok (.aload_n 0, 1) := by decide +kernel
theorem dX2_nextUsed_14 : decode cX2_nextUsed 14 = .ok (.getfield 13, 3) := by decide +kernel
theorem dX2_nextUsed_17 : decode cX2_nextUsed 17 = .ok (.iload_n 2, 1) := by decide +kernel
theorem dX2_nextUsed_18 : decode cX2_nextUsed 18 = .ok (.baload, 1) := by decide +kernel
theorem dX2_nextUsed_19 : decode cX2_nextUsed 19 = .ok (.ifCond .eq 5, 3) := by decide +kernel
theorem dX2_nextUsed_22 : decode cX2_nextUsed 22 = .ok (.iload_n 2, 1) := by decide +kernel
theorem dX2_nextUsed_23 : decode cX2_nextUsed 23 = .ok (.ireturn, 1) := by decide +kernel
theorem dX2_nextUsed_24 : decode cX2_nextUsed 24 = .ok (.iinc 2 1, 3) := by decide +kernel
theorem dX2_nextUsed_27 : decode cX2_nextUsed 27 = .ok (.goto (-25), 3) := by decide +kernel
theorem dX2_nextUsed_30 : decode cX2_nextUsed 30 = .ok (.bipush (-2), 2) := by decide +kernel
theorem dX2_nextUsed_32 : decode cX2_nextUsed 32 = .ok (.ireturn, 1) := by decide +kernel
abbrev cX2_total : ByteArray := prog_3_method_11_code
def yX2_total : MethodName := ⟨RX2, "total", "()J"⟩
theorem dX2_total_0 : decode cX2_total 0 = .ok (.lconst 0, 1) := by decide +kernel
theorem dX2_total_1 : decode cX2_total 1 = .ok (.lstore_n 1, 1) := by decide +kernel
theorem dX2_total_2 : decode cX2_total 2 = .ok (.iconst 0, 1) := by decide +kernel
theorem dX2_total_3 : decode cX2_total 3 = .ok (.istore_n 3, 1) := by decide +kernel
theorem dX2_total_4 : decode cX2_total 4 = .ok (.iload_n 3, 1) := by decide +kernel
theorem dX2_total_5 : decode cX2_total 5 = .ok (.bipush 12, 2) := by decide +kernel
theorem dX2_total_7 : decode cX2_total 7 = .ok (.if_icmp .ge 18, 3) := by decide +kernel
theorem dX2_total_10 : decode cX2_total 10 = .ok (.lload_n 1, 1) := by decide +kernel
theorem dX2_total_11 : decode cX2_total 11 = .ok (.aload_n 0, 1) := by decide +kernel
theorem dX2_total_12 : decode cX2_total 12 = .ok (.iload_n 3, 1) := by decide +kernel
theorem dX2_total_13 : decode cX2_total 13 = .ok (.invokevirtual 28, 3) := by decide +kernel
theorem dX2_total_16 : decode cX2_total 16 = .ok (.i2l, 1) := by decide +kernel
theorem dX2_total_17 : decode cX2_total 17 = .ok (.ladd, 1) := by decide +kernel
theorem dX2_total_18 : decode cX2_total 18 = .ok (.lstore_n 1, 1) := by decide +kernel
theorem dX2_total_19 : decode cX2_total 19 = .ok (.iinc 3 1, 3) := by decide +kernel
theorem dX2_total_22 : decode cX2_total 22 = .ok (.goto (-18), 3) := by decide +kernel
theorem dX2_total_25 : decode cX2_total 25 = .ok (.lload_n 1, 1) := by decide +kernel
theorem dX2_total_26 : decode cX2_total 26 = .ok (.lreturn, 1) := by decide +kernel
abbrev cX2_exchange : ByteArray := prog_3_method_12_code
def yX2_exchange : MethodName := ⟨RX2, "exchange", "(II)I"⟩
theorem dX2_exchange_0 : decode cX2_exchange 0 = .ok (.aload_n 0, 1) := by decide +kernel
theorem dX2_exchange_1 : decode cX2_exchange 1 = .ok (.iload_n 1, 1) := by decide +kernel
theorem dX2_exchange_2 : decode cX2_exchange 2 = .ok (.invokevirtual 17, 3) := by decide +kernel
theorem dX2_exchange_5 : decode cX2_exchange 5 = .ok (.ifCond .eq 11, 3) := by decide +kernel
theorem dX2_exchange_8 : decode cX2_exchange 8 = .ok (.aload_n 0, 1) := by decide +kernel
theorem dX2_exchange_9 : decode cX2_exchange 9 = .ok (.iload_n 2, 1) := by decide +kernel
theorem dX2_exchange_10 : decode cX2_exchange 10 = .ok (.invokevirtual 17, 3) := by decide +kernel
theorem dX2_exchange_13 : decode cX2_exchange 13 = .ok (.ifCond .ne 5, 3) := by decide +kernel
theorem dX2_exchange_16 : decode cX2_exchange 16 = .ok (.iconst (-1), 1) := by decide +kernel
theorem dX2_exchange_17 : decode cX2_exchange 17 = .ok (.ireturn, 1) := by decide +kernel
theorem dX2_exchange_18 : decode cX2_exchange 18 = .ok (.aload_n 0, 1) := by decide +kernel
theorem dX2_exchange_19 : decode cX2_exchange 19 = .ok (.getfield 13, 3) := by decide +kernel
theorem dX2_exchange_22 : decode cX2_exchange 22 = .ok (.iload_n 1, 1) := by decide +kernel
theorem dX2_exchange_23 : decode cX2_exchange 23 = .ok (.baload, 1) := by decide +kernel
theorem dX2_exchange_24 : decode cX2_exchange 24 = .ok (.ifCond .eq 7, 3) := by decide +kernel
theorem dX2_exchange_27 : decode cX2_exchange 27 = .ok (.iconst 1, 1) := by decide +kernel
theorem dX2_exchange_28 : decode cX2_exchange 28 = .ok (.goto 4, 3) := by decide +kernel
theorem dX2_exchange_31 : decode cX2_exchange 31 = .ok (.iconst 0, 1) := by decide +kernel
theorem dX2_exchange_32 : decode cX2_exchange 32 = .ok (.aload_n 0, 1) := by decide +kernel
theorem dX2_exchange_33 : decode cX2_exchange 33 = .ok (.getfield 13, 3) := by decide +kernel
theorem dX2_exchange_36 : decode cX2_exchange 36 = .ok (.iload_n 2, 1) := by decide +kernel
theorem dX2_exchange_37 : decode cX2_exchange 37 = .ok (.baload, 1) := by decide +kernel
theorem dX2_exchange_38 : decode cX2_exchange 38 = .ok (.ifCond .eq 7, 3) := by decide +kernel
theorem dX2_exchange_41 : decode cX2_exchange 41 = .ok (.iconst 1, 1) := by decide +kernel
theorem dX2_exchange_42 : decode cX2_exchange 42 = .ok (.goto 4, 3) := by decide +kernel
theorem dX2_exchange_45 : decode cX2_exchange 45 = .ok (.iconst 0, 1) := by decide +kernel
theorem dX2_exchange_46 : decode cX2_exchange 46 = .ok (.iadd, 1) := by decide +kernel
theorem dX2_exchange_47 : decode cX2_exchange 47 = .ok (.istore_n 3, 1) := by decide +kernel
theorem dX2_exchange_48 : decode cX2_exchange 48 = .ok (.aload_n 0, 1) := by decide +kernel
theorem dX2_exchange_49 : decode cX2_exchange 49 = .ok (.getfield 13, 3) := by decide +kernel
theorem dX2_exchange_52 : decode cX2_exchange 52 = .ok (.iload_n 1, 1) := by decide +kernel
theorem dX2_exchange_53 : decode cX2_exchange 53 = .ok (.baload, 1) := by decide +kernel
theorem dX2_exchange_54 : decode cX2_exchange 54 = .ok (.istore 4, 2) := by decide +kernel
theorem dX2_exchange_56 : decode cX2_exchange 56 = .ok (.aload_n 0, 1) := by decide +kernel
theorem dX2_exchange_57 : decode cX2_exchange 57 = .ok (.getfield 7, 3) := by decide +kernel
theorem dX2_exchange_60 : decode cX2_exchange 60 = .ok (.iload_n 1, 1) := by decide +kernel
theorem dX2_exchange_61 : decode cX2_exchange 61 = .ok (.iaload, 1) := by decide +kernel
theorem dX2_exchange_62 : decode cX2_exchange 62 = .ok (.istore 5, 2) := by decide +kernel
theorem dX2_exchange_64 : decode cX2_exchange 64 = .ok (.aload_n 0, 1) := by decide +kernel
theorem dX2_exchange_65 : decode cX2_exchange 65 = .ok (.getfield 13, 3) := by decide +kernel
theorem dX2_exchange_68 : decode cX2_exchange 68 = .ok (.iload_n 1, 1) := by decide +kernel
theorem dX2_exchange_69 : decode cX2_exchange 69 = .ok (.aload_n 0, 1) := by decide +kernel
theorem dX2_exchange_70 : decode cX2_exchange 70 = .ok (.getfield 13, 3) := by decide +kernel
theorem dX2_exchange_73 : decode cX2_exchange 73 = .ok (.iload_n 2, 1) := by decide +kernel
theorem dX2_exchange_74 : decode cX2_exchange 74 = .ok (.baload, 1) := by decide +kernel
theorem dX2_exchange_75 : decode cX2_exchange 75 = .ok (.bastore, 1) := by decide +kernel
theorem dX2_exchange_76 : decode cX2_exchange 76 = .ok (.aload_n 0, 1) := by decide +kernel
theorem dX2_exchange_77 : decode cX2_exchange 77 = .ok (.getfield 7, 3) := by decide +kernel
theorem dX2_exchange_80 : decode cX2_exchange 80 = .ok (.iload_n 1, 1) := by decide +kernel
theorem dX2_exchange_81 : decode cX2_exchange 81 = .ok (.aload_n 0, 1) := by decide +kernel
theorem dX2_exchange_82 : decode cX2_exchange 82 = .ok (.getfield 7, 3) := by decide +kernel
theorem dX2_exchange_85 : decode cX2_exchange 85 = .ok (.iload_n 2, 1) := by decide +kernel
theorem dX2_exchange_86 : decode cX2_exchange 86 = .ok (.iaload, 1) := by decide +kernel
theorem dX2_exchange_87 : decode cX2_exchange 87 = .ok (.iastore, 1) := by decide +kernel
theorem dX2_exchange_88 : decode cX2_exchange 88 = .ok (.aload_n 0, 1) := by decide +kernel
theorem dX2_exchange_89 : decode cX2_exchange 89 = .ok (.getfield 13, 3) := by decide +kernel
theorem dX2_exchange_92 : decode cX2_exchange 92 = .ok (.iload_n 2, 1) := by decide +kernel
theorem dX2_exchange_93 : decode cX2_exchange 93 = .ok (.iload 4, 2) := by decide +kernel
theorem dX2_exchange_95 : decode cX2_exchange 95 = .ok (.bastore, 1) := by decide +kernel
theorem dX2_exchange_96 : decode cX2_exchange 96 = .ok (.aload_n 0, 1) := by decide +kernel
theorem dX2_exchange_97 : decode cX2_exchange 97 = .ok (.getfield 7, 3) := by decide +kernel
theorem dX2_exchange_100 : decode cX2_exchange 100 = .ok (.iload_n 2, 1) := by decide +kernel
theorem dX2_exchange_101 : decode cX2_exchange 101 = .ok (.iload 5, 2) := by decide +kernel
theorem dX2_exchange_103 : decode cX2_exchange 103 = .ok (.iastore, 1) := by decide +kernel
theorem dX2_exchange_104 : decode cX2_exchange 104 = .ok (.iload_n 3, 1) := by decide +kernel
theorem dX2_exchange_105 : decode cX2_exchange 105 = .ok (.ireturn, 1) := by decide +kernel
abbrev cX2_fill : ByteArray := prog_3_method_13_code
def yX2_fill : MethodName := ⟨RX2, "fill", "(III)I"⟩
theorem dX2_fill_0 : decode cX2_fill 0 = .ok (.aload_n 0, 1) := by decide +kernel
theorem dX2_fill_1 : decode cX2_fill 1 = .ok (.iload_n 1, 1) := by decide +kernel
theorem dX2_fill_2 : decode cX2_fill 2 = .ok (.invokevirtual 17, 3) := by decide +kernel
theorem dX2_fill_5 : decode cX2_fill 5 = .ok (.ifCond .eq 24, 3) := by decide +kernel
theorem dX2_fill_8 : decode cX2_fill 8 = .ok (.aload_n 0, 1) := by decide +kernel
theorem dX2_fill_9 : decode cX2_fill 9 = .ok (.iload_n 2, 1) := by decide +kernel
theorem dX2_fill_10 : decode cX2_fill 10 = .ok (.invokevirtual 17, 3) := by decide +kernel
theorem dX2_fill_13 : decode cX2_fill 13 = .ok (.ifCond .eq 16, 3) := by decide +kernel
theorem dX2_fill_16 : decode cX2_fill 16 = .ok (.aload_n 0, 1) := by decide +kernel
theorem dX2_fill_17 : decode cX2_fill 17 = .ok (.iload_n 3, 1) := by decide +kernel
theorem dX2_fill_18 : decode cX2_fill 18 = .ok (.invokevirtual 17, 3) := by decide +kernel
theorem dX2_fill_21 : decode cX2_fill 21 = .ok (.ifCond .eq 8, 3) := by decide +kernel
theorem dX2_fill_24 : decode cX2_fill 24 = .ok (.iload_n 2, 1) := by decide +kernel
theorem dX2_fill_25 : decode cX2_fill 25 = .ok (.iload_n 3, 1) := by decide +kernel
theorem dX2_fill_26 : decode cX2_fill 26 = .ok (.if_icmp .le 5, 3) := by decide +kernel
theorem dX2_fill_29 : decode cX2_fill 29 = .ok (.iconst (-1), 1) := by decide +kernel
theorem dX2_fill_30 : decode cX2_fill 30 = .ok (.ireturn, 1) := by decide +kernel
theorem dX2_fill_31 : decode cX2_fill 31 = .ok (.aload_n 0, 1) := by decide +kernel
theorem dX2_fill_32 : decode cX2_fill 32 = .ok (.getfield 13, 3) := by decide +kernel
theorem dX2_fill_35 : decode cX2_fill 35 = .ok (.iload_n 1, 1) := by decide +kernel
theorem dX2_fill_36 : decode cX2_fill 36 = .ok (.baload, 1) := by decide +kernel
theorem dX2_fill_37 : decode cX2_fill 37 = .ok (.istore 4, 2) := by decide +kernel
theorem dX2_fill_39 : decode cX2_fill 39 = .ok (.aload_n 0, 1) := by decide +kernel
theorem dX2_fill_40 : decode cX2_fill 40 = .ok (.getfield 7, 3) := by decide +kernel
theorem dX2_fill_43 : decode cX2_fill 43 = .ok (.iload_n 1, 1) := by decide +kernel
theorem dX2_fill_44 : decode cX2_fill 44 = .ok (.iaload, 1) := by decide +kernel
theorem dX2_fill_45 : decode cX2_fill 45 = .ok (.istore 5, 2) := by decide +kernel
theorem dX2_fill_47 : decode cX2_fill 47 = .ok (.iload_n 2, 1) := by decide +kernel
theorem dX2_fill_48 : decode cX2_fill 48 = .ok (.istore 6, 2) := by decide +kernel
theorem dX2_fill_50 : decode cX2_fill 50 = .ok (.iload 6, 2) := by decide +kernel
theorem dX2_fill_52 : decode cX2_fill 52 = .ok (.iload_n 3, 1) := by decide +kernel
theorem dX2_fill_53 : decode cX2_fill 53 = .ok (.if_icmp .gt 27, 3) := by decide +kernel
theorem dX2_fill_56 : decode cX2_fill 56 = .ok (.aload_n 0, 1) := by decide +kernel
theorem dX2_fill_57 : decode cX2_fill 57 = .ok (.getfield 13, 3) := by decide +kernel
theorem dX2_fill_60 : decode cX2_fill 60 = .ok (.iload 6, 2) := by decide +kernel
theorem dX2_fill_62 : decode cX2_fill 62 = .ok (.iload 4, 2) := by decide +kernel
theorem dX2_fill_64 : decode cX2_fill 64 = .ok (.bastore, 1) := by decide +kernel
theorem dX2_fill_65 : decode cX2_fill 65 = .ok (.aload_n 0, 1) := by decide +kernel
theorem dX2_fill_66 : decode cX2_fill 66 = .ok (.getfield 7, 3) := by decide +kernel
theorem dX2_fill_69 : decode cX2_fill 69 = .ok (.iload 6, 2) := by decide +kernel
theorem dX2_fill_71 : decode cX2_fill 71 = .ok (.iload 5, 2) := by decide +kernel
theorem dX2_fill_73 : decode cX2_fill 73 = .ok (.iastore, 1) := by decide +kernel
theorem dX2_fill_74 : decode cX2_fill 74 = .ok (.iinc 6 1, 3) := by decide +kernel
theorem dX2_fill_77 : decode cX2_fill 77 = .ok (.goto (-27), 3) := by decide +kernel
theorem dX2_fill_80 : decode cX2_fill 80 = .ok (.iload_n 3, 1) := by decide +kernel
theorem dX2_fill_81 : decode cX2_fill 81 = .ok (.iload_n 2, 1) := by decide +kernel
theorem dX2_fill_82 : decode cX2_fill 82 = .ok (.isub, 1) := by decide +kernel
theorem dX2_fill_83 : decode cX2_fill 83 = .ok (.iconst 1, 1) := by decide +kernel
theorem dX2_fill_84 : decode cX2_fill 84 = .ok (.iadd, 1) := by decide +kernel
theorem dX2_fill_85 : decode cX2_fill 85 = .ok (.ireturn, 1) := by decide +kernel
theorem q17 : (Jvm.Cond.initialized "FlashMapModel") ∈ lw_all := lw_g (lw_at lw_m0 2 rfl) rfl
theorem q168 : (Jvm.Cond.instantiable "FlashMapModel" (2 : Nat)) ∈ lw_all := lw_g (lw_at lw_m0 153 rfl) rfl
theorem q170 : (Jvm.Cond.instanceMethod ({ cls := "FlashMapModel", name := "<init>", desc := "(I)V" } : Jvm.MethodName)) ∈ lw_all := lw_g (lw_at lw_m0 155 rfl) rfl
theorem q171 : (Jvm.Cond.code ({ cls := "FlashMapModel", name := "<init>", desc := "(I)V" } : Jvm.MethodName) prog_3_method_1_code (2 : Nat) (Option.none : Option Jvm.ClassFile.FieldType)) ∈ lw_all := lw_g (lw_at lw_m0 156 rfl) rfl
theorem q172 : (Jvm.Cond.methodLink "FlashMapModel" (1 : Nat) ({ cls := "java/lang/Object", name := "<init>", desc := "()V" } : Jvm.MethodName)) ∈ lw_all := lw_g (lw_at lw_m0 157 rfl) rfl
theorem q173 : (Jvm.Cond.fieldLink "FlashMapModel" (7 : Nat) "FlashMapModel" "value" "[I") ∈ lw_all := lw_g (lw_at lw_m0 158 rfl) rfl
theorem q174 : (Jvm.Cond.fieldLink "FlashMapModel" (13 : Nat) "FlashMapModel" "there" "[Z") ∈ lw_all := lw_g (lw_at lw_m0 159 rfl) rfl
theorem q175 : (Jvm.Cond.lays "FlashMapModel" "FlashMapModel" "value" "[I") ∈ lw_all := lw_g (lw_at lw_m0 160 rfl) rfl
theorem q176 : (Jvm.Cond.soleField "FlashMapModel" "value") ∈ lw_all := lw_g (lw_at lw_m0 161 rfl) rfl
theorem q177 : (Jvm.Cond.lays "FlashMapModel" "FlashMapModel" "there" "[Z") ∈ lw_all := lw_g (lw_at lw_m0 162 rfl) rfl
theorem q178 : (Jvm.Cond.soleField "FlashMapModel" "there") ∈ lw_all := lw_g (lw_at lw_m0 163 rfl) rfl
theorem q179 : (Jvm.Cond.superclass "FlashMapModel" "java/lang/Object") ∈ lw_all := lw_g (lw_at lw_m0 164 rfl) rfl
theorem q181 : (Jvm.Cond.instanceMethod ({ cls := "FlashMapModel", name := "write", desc := "(II)I" } : Jvm.MethodName)) ∈ lw_all := lw_g (lw_at lw_m0 166 rfl) rfl
theorem q182 : (Jvm.Cond.selects "FlashMapModel" ({ cls := "FlashMapModel", name := "write", desc := "(II)I" } : Jvm.MethodName) ({ cls := "FlashMapModel", name := "write", desc := "(II)I" } : Jvm.MethodName)) ∈ lw_all := lw_g (lw_at lw_m0 167 rfl) rfl
theorem q183 : (Jvm.Cond.code ({ cls := "FlashMapModel", name := "write", desc := "(II)I" } : Jvm.MethodName) prog_3_method_3_code (4 : Nat) (Option.some Jvm.ClassFile.FieldType.int)) ∈ lw_all := lw_g (lw_at lw_m0 168 rfl) rfl
theorem q184 : (Jvm.Cond.methodLink "FlashMapModel" (17 : Nat) ({ cls := "FlashMapModel", name := "isPage", desc := "(I)Z" } : Jvm.MethodName)) ∈ lw_all := lw_g (lw_at lw_m0 169 rfl) rfl
theorem q185 : (Jvm.Cond.privateMethod ({ cls := "FlashMapModel", name := "isPage", desc := "(I)Z" } : Jvm.MethodName)) ∈ lw_tbl := lw_at lw_m0 170 rfl
theorem q186 : (Jvm.Cond.instanceMethod ({ cls := "FlashMapModel", name := "isPage", desc := "(I)Z" } : Jvm.MethodName)) ∈ lw_all := lw_g (lw_at lw_m0 171 rfl) rfl
theorem q187 : (Jvm.Cond.code ({ cls := "FlashMapModel", name := "isPage", desc := "(I)Z" } : Jvm.MethodName) prog_3_method_2_code (2 : Nat) (Option.some Jvm.ClassFile.FieldType.boolean)) ∈ lw_all := lw_g (lw_at lw_m0 172 rfl) rfl
theorem q189 : (Jvm.Cond.instanceMethod ({ cls := "FlashMapModel", name := "torn", desc := "(II)I" } : Jvm.MethodName)) ∈ lw_all := lw_g (lw_at lw_m0 174 rfl) rfl
theorem q190 : (Jvm.Cond.selects "FlashMapModel" ({ cls := "FlashMapModel", name := "torn", desc := "(II)I" } : Jvm.MethodName) ({ cls := "FlashMapModel", name := "torn", desc := "(II)I" } : Jvm.MethodName)) ∈ lw_all := lw_g (lw_at lw_m0 175 rfl) rfl
theorem q191 : (Jvm.Cond.code ({ cls := "FlashMapModel", name := "torn", desc := "(II)I" } : Jvm.MethodName) prog_3_method_4_code (3 : Nat) (Option.some Jvm.ClassFile.FieldType.int)) ∈ lw_all := lw_g (lw_at lw_m0 176 rfl) rfl
theorem q193 : (Jvm.Cond.instanceMethod ({ cls := "FlashMapModel", name := "trim", desc := "(I)I" } : Jvm.MethodName)) ∈ lw_all := lw_g (lw_at lw_m0 178 rfl) rfl
theorem q194 : (Jvm.Cond.selects "FlashMapModel" ({ cls := "FlashMapModel", name := "trim", desc := "(I)I" } : Jvm.MethodName) ({ cls := "FlashMapModel", name := "trim", desc := "(I)I" } : Jvm.MethodName)) ∈ lw_all := lw_g (lw_at lw_m0 179 rfl) rfl
theorem q195 : (Jvm.Cond.code ({ cls := "FlashMapModel", name := "trim", desc := "(I)I" } : Jvm.MethodName) prog_3_method_5_code (3 : Nat) (Option.some Jvm.ClassFile.FieldType.int)) ∈ lw_all := lw_g (lw_at lw_m0 180 rfl) rfl
theorem q197 : (Jvm.Cond.instanceMethod ({ cls := "FlashMapModel", name := "powerCut", desc := "()I" } : Jvm.MethodName)) ∈ lw_all := lw_g (lw_at lw_m0 182 rfl) rfl
theorem q198 : (Jvm.Cond.selects "FlashMapModel" ({ cls := "FlashMapModel", name := "powerCut", desc := "()I" } : Jvm.MethodName) ({ cls := "FlashMapModel", name := "powerCut", desc := "()I" } : Jvm.MethodName)) ∈ lw_all := lw_g (lw_at lw_m0 183 rfl) rfl
theorem q199 : (Jvm.Cond.code ({ cls := "FlashMapModel", name := "powerCut", desc := "()I" } : Jvm.MethodName) prog_3_method_6_code (1 : Nat) (Option.some Jvm.ClassFile.FieldType.int)) ∈ lw_all := lw_g (lw_at lw_m0 184 rfl) rfl
theorem q200 : (Jvm.Cond.methodLink "FlashMapModel" (21 : Nat) ({ cls := "FlashMapModel", name := "used", desc := "()I" } : Jvm.MethodName)) ∈ lw_all := lw_g (lw_at lw_m0 185 rfl) rfl
theorem q201 : (Jvm.Cond.instanceMethod ({ cls := "FlashMapModel", name := "used", desc := "()I" } : Jvm.MethodName)) ∈ lw_all := lw_g (lw_at lw_m0 186 rfl) rfl
theorem q202 : (Jvm.Cond.selects "FlashMapModel" ({ cls := "FlashMapModel", name := "used", desc := "()I" } : Jvm.MethodName) ({ cls := "FlashMapModel", name := "used", desc := "()I" } : Jvm.MethodName)) ∈ lw_all := lw_g (lw_at lw_m0 187 rfl) rfl
theorem q203 : (Jvm.Cond.code ({ cls := "FlashMapModel", name := "used", desc := "()I" } : Jvm.MethodName) prog_3_method_9_code (3 : Nat) (Option.some Jvm.ClassFile.FieldType.int)) ∈ lw_all := lw_g (lw_at lw_m0 188 rfl) rfl
theorem q205 : (Jvm.Cond.instanceMethod ({ cls := "FlashMapModel", name := "has", desc := "(I)Z" } : Jvm.MethodName)) ∈ lw_all := lw_g (lw_at lw_m0 190 rfl) rfl
theorem q206 : (Jvm.Cond.selects "FlashMapModel" ({ cls := "FlashMapModel", name := "has", desc := "(I)Z" } : Jvm.MethodName) ({ cls := "FlashMapModel", name := "has", desc := "(I)Z" } : Jvm.MethodName)) ∈ lw_all := lw_g (lw_at lw_m0 191 rfl) rfl
theorem q207 : (Jvm.Cond.code ({ cls := "FlashMapModel", name := "has", desc := "(I)Z" } : Jvm.MethodName) prog_3_method_7_code (2 : Nat) (Option.some Jvm.ClassFile.FieldType.boolean)) ∈ lw_all := lw_g (lw_at lw_m0 192 rfl) rfl
theorem q209 : (Jvm.Cond.instanceMethod ({ cls := "FlashMapModel", name := "read", desc := "(I)I" } : Jvm.MethodName)) ∈ lw_all := lw_g (lw_at lw_m0 194 rfl) rfl
theorem q210 : (Jvm.Cond.selects "FlashMapModel" ({ cls := "FlashMapModel", name := "read", desc := "(I)I" } : Jvm.MethodName) ({ cls := "FlashMapModel", name := "read", desc := "(I)I" } : Jvm.MethodName)) ∈ lw_all := lw_g (lw_at lw_m0 195 rfl) rfl
theorem q211 : (Jvm.Cond.code ({ cls := "FlashMapModel", name := "read", desc := "(I)I" } : Jvm.MethodName) prog_3_method_8_code (2 : Nat) (Option.some Jvm.ClassFile.FieldType.int)) ∈ lw_all := lw_g (lw_at lw_m0 196 rfl) rfl
theorem q212 : (Jvm.Cond.methodLink "FlashMapModel" (25 : Nat) ({ cls := "FlashMapModel", name := "has", desc := "(I)Z" } : Jvm.MethodName)) ∈ lw_all := lw_g (lw_at lw_m0 197 rfl) rfl
theorem q215 : (Jvm.Cond.instanceMethod ({ cls := "FlashMapModel", name := "nextUsed", desc := "(I)I" } : Jvm.MethodName)) ∈ lw_all := lw_g (lw_at lw_m0 200 rfl) rfl
theorem q216 : (Jvm.Cond.selects "FlashMapModel" ({ cls := "FlashMapModel", name := "nextUsed", desc := "(I)I" } : Jvm.MethodName) ({ cls := "FlashMapModel", name := "nextUsed", desc := "(I)I" } : Jvm.MethodName)) ∈ lw_all := lw_g (lw_at lw_m0 201 rfl) rfl
theorem q217 : (Jvm.Cond.code ({ cls := "FlashMapModel", name := "nextUsed", desc := "(I)I" } : Jvm.MethodName) prog_3_method_10_code (3 : Nat) (Option.some Jvm.ClassFile.FieldType.int)) ∈ lw_all := lw_g (lw_at lw_m0 202 rfl) rfl
theorem q219 : (Jvm.Cond.instanceMethod ({ cls := "FlashMapModel", name := "total", desc := "()J" } : Jvm.MethodName)) ∈ lw_all := lw_g (lw_at lw_m0 204 rfl) rfl
theorem q220 : (Jvm.Cond.selects "FlashMapModel" ({ cls := "FlashMapModel", name := "total", desc := "()J" } : Jvm.MethodName) ({ cls := "FlashMapModel", name := "total", desc := "()J" } : Jvm.MethodName)) ∈ lw_all := lw_g (lw_at lw_m0 205 rfl) rfl
theorem q221 : (Jvm.Cond.code ({ cls := "FlashMapModel", name := "total", desc := "()J" } : Jvm.MethodName) prog_3_method_11_code (4 : Nat) (Option.some Jvm.ClassFile.FieldType.long)) ∈ lw_all := lw_g (lw_at lw_m0 206 rfl) rfl
theorem q222 : (Jvm.Cond.methodLink "FlashMapModel" (28 : Nat) ({ cls := "FlashMapModel", name := "read", desc := "(I)I" } : Jvm.MethodName)) ∈ lw_all := lw_g (lw_at lw_m0 207 rfl) rfl
theorem q224 : (Jvm.Cond.instanceMethod ({ cls := "FlashMapModel", name := "exchange", desc := "(II)I" } : Jvm.MethodName)) ∈ lw_all := lw_g (lw_at lw_m0 209 rfl) rfl
theorem q225 : (Jvm.Cond.selects "FlashMapModel" ({ cls := "FlashMapModel", name := "exchange", desc := "(II)I" } : Jvm.MethodName) ({ cls := "FlashMapModel", name := "exchange", desc := "(II)I" } : Jvm.MethodName)) ∈ lw_all := lw_g (lw_at lw_m0 210 rfl) rfl
theorem q226 : (Jvm.Cond.code ({ cls := "FlashMapModel", name := "exchange", desc := "(II)I" } : Jvm.MethodName) prog_3_method_12_code (6 : Nat) (Option.some Jvm.ClassFile.FieldType.int)) ∈ lw_all := lw_g (lw_at lw_m0 211 rfl) rfl
theorem q228 : (Jvm.Cond.instanceMethod ({ cls := "FlashMapModel", name := "fill", desc := "(III)I" } : Jvm.MethodName)) ∈ lw_all := lw_g (lw_at lw_m0 213 rfl) rfl
theorem q229 : (Jvm.Cond.selects "FlashMapModel" ({ cls := "FlashMapModel", name := "fill", desc := "(III)I" } : Jvm.MethodName) ({ cls := "FlashMapModel", name := "fill", desc := "(III)I" } : Jvm.MethodName)) ∈ lw_all := lw_g (lw_at lw_m0 214 rfl) rfl
theorem q230 : (Jvm.Cond.code ({ cls := "FlashMapModel", name := "fill", desc := "(III)I" } : Jvm.MethodName) prog_3_method_13_code (7 : Nat) (Option.some Jvm.ClassFile.FieldType.int)) ∈ lw_all := lw_g (lw_at lw_m0 215 rfl) rfl
theorem in_X2 : ∀ w ∈ wsX20, w ∈ lw_all := lw_in wsX20 [175, 177] (by decide +kernel) (by decide +kernel)
end
section
/-! FlashMapLaw -/
set_option maxRecDepth 100000
def RX0 : String := "FlashMapLaw"
abbrev cX0_cell : ByteArray := method_2_code
def yX0_cell : MethodName := ⟨RX0, "cell", "([II)I"⟩
theorem dX0_cell_0 : decode cX0_cell 0 = .ok (.iload_n 1, 1) := by decide +kernel
theorem dX0_cell_1 : decode cX0_cell 1 = .ok (.aload_n 0, 1) := by decide +kernel
theorem dX0_cell_2 : decode cX0_cell 2 = .ok (.arraylength, 1) := by decide +kernel
theorem dX0_cell_3 : decode cX0_cell 3 = .ok (.if_icmp .ge 9, 3) := by decide +kernel
theorem dX0_cell_6 : decode cX0_cell 6 = .ok (.aload_n 0, 1) := by decide +kernel
theorem dX0_cell_7 : decode cX0_cell 7 = .ok (.iload_n 1, 1) := by decide +kernel
theorem dX0_cell_8 : decode cX0_cell 8 = .ok (.iaload, 1) := by decide +kernel
theorem dX0_cell_9 : decode cX0_cell 9 = .ok (.goto 4, 3) := by decide +kernel
theorem dX0_cell_12 : decode cX0_cell 12 = .ok (.iconst 0, 1) := by decide +kernel
theorem dX0_cell_13 : decode cX0_cell 13 = .ok (.ireturn, 1) := by decide +kernel
theorem q15 : (Jvm.Cond.initialized "FlashMapLaw") ∈ lw_all := lw_g (lw_at lw_m0 0 rfl) rfl
theorem q18 : (Jvm.Cond.classLink "FlashMapLaw" (7 : Nat) "FlashMap") ∈ lw_all := lw_g (lw_at lw_m0 3 rfl) rfl
theorem q20 : (Jvm.Cond.methodLink "FlashMapLaw" (15 : Nat) ({ cls := "FlashMap", name := "<init>", desc := "(I)V" } : Jvm.MethodName)) ∈ lw_all := lw_g (lw_at lw_m0 5 rfl) rfl
theorem q68 : (Jvm.Cond.methodLink "FlashMapLaw" (21 : Nat) ({ cls := "FlashMap", name := "write", desc := "(II)I" } : Jvm.MethodName)) ∈ lw_all := lw_g (lw_at lw_m0 53 rfl) rfl
theorem q120 : (Jvm.Cond.methodLink "FlashMapLaw" (26 : Nat) ({ cls := "FlashMap", name := "torn", desc := "(II)I" } : Jvm.MethodName)) ∈ lw_all := lw_g (lw_at lw_m0 105 rfl) rfl
theorem q124 : (Jvm.Cond.methodLink "FlashMapLaw" (30 : Nat) ({ cls := "FlashMap", name := "trim", desc := "(I)I" } : Jvm.MethodName)) ∈ lw_all := lw_g (lw_at lw_m0 109 rfl) rfl
theorem q128 : (Jvm.Cond.methodLink "FlashMapLaw" (35 : Nat) ({ cls := "FlashMap", name := "powerCut", desc := "()I" } : Jvm.MethodName)) ∈ lw_all := lw_g (lw_at lw_m0 113 rfl) rfl
theorem q136 : (Jvm.Cond.methodLink "FlashMapLaw" (40 : Nat) ({ cls := "FlashMap", name := "has", desc := "(I)Z" } : Jvm.MethodName)) ∈ lw_all := lw_g (lw_at lw_m0 121 rfl) rfl
theorem q137 : (Jvm.Cond.methodLink "FlashMapLaw" (45 : Nat) ({ cls := "FlashMap", name := "read", desc := "(I)I" } : Jvm.MethodName)) ∈ lw_all := lw_g (lw_at lw_m0 122 rfl) rfl
theorem q141 : (Jvm.Cond.methodLink "FlashMapLaw" (49 : Nat) ({ cls := "FlashMap", name := "used", desc := "()I" } : Jvm.MethodName)) ∈ lw_all := lw_g (lw_at lw_m0 126 rfl) rfl
theorem q142 : (Jvm.Cond.methodLink "FlashMapLaw" (53 : Nat) ({ cls := "FlashMap", name := "nextUsed", desc := "(I)I" } : Jvm.MethodName)) ∈ lw_all := lw_g (lw_at lw_m0 127 rfl) rfl
theorem q146 : (Jvm.Cond.methodLink "FlashMapLaw" (57 : Nat) ({ cls := "FlashMap", name := "total", desc := "()J" } : Jvm.MethodName)) ∈ lw_all := lw_g (lw_at lw_m0 131 rfl) rfl
theorem q151 : (Jvm.Cond.methodLink "FlashMapLaw" (62 : Nat) ({ cls := "FlashMap", name := "exchange", desc := "(II)I" } : Jvm.MethodName)) ∈ lw_all := lw_g (lw_at lw_m0 136 rfl) rfl
theorem q160 : (Jvm.Cond.methodLink "FlashMapLaw" (66 : Nat) ({ cls := "FlashMap", name := "fill", desc := "(III)I" } : Jvm.MethodName)) ∈ lw_all := lw_g (lw_at lw_m0 145 rfl) rfl
theorem q164 : (Jvm.Cond.methodLink "FlashMapLaw" (9 : Nat) ({ cls := "FlashMapLaw", name := "cell", desc := "([II)I" } : Jvm.MethodName)) ∈ lw_all := lw_g (lw_at lw_m0 149 rfl) rfl
theorem q165 : (Jvm.Cond.static ({ cls := "FlashMapLaw", name := "cell", desc := "([II)I" } : Jvm.MethodName)) ∈ lw_all := lw_g (lw_at lw_m0 150 rfl) rfl
theorem q166 : (Jvm.Cond.code ({ cls := "FlashMapLaw", name := "cell", desc := "([II)I" } : Jvm.MethodName) method_2_code (2 : Nat) (Option.some Jvm.ClassFile.FieldType.int)) ∈ lw_all := lw_g (lw_at lw_m0 151 rfl) rfl
theorem q167 : (Jvm.Cond.classLink "FlashMapLaw" (18 : Nat) "FlashMapModel") ∈ lw_all := lw_g (lw_at lw_m0 152 rfl) rfl
theorem q169 : (Jvm.Cond.methodLink "FlashMapLaw" (20 : Nat) ({ cls := "FlashMapModel", name := "<init>", desc := "(I)V" } : Jvm.MethodName)) ∈ lw_all := lw_g (lw_at lw_m0 154 rfl) rfl
theorem q180 : (Jvm.Cond.methodLink "FlashMapLaw" (25 : Nat) ({ cls := "FlashMapModel", name := "write", desc := "(II)I" } : Jvm.MethodName)) ∈ lw_all := lw_g (lw_at lw_m0 165 rfl) rfl
theorem q188 : (Jvm.Cond.methodLink "FlashMapLaw" (29 : Nat) ({ cls := "FlashMapModel", name := "torn", desc := "(II)I" } : Jvm.MethodName)) ∈ lw_all := lw_g (lw_at lw_m0 173 rfl) rfl
theorem q192 : (Jvm.Cond.methodLink "FlashMapLaw" (34 : Nat) ({ cls := "FlashMapModel", name := "trim", desc := "(I)I" } : Jvm.MethodName)) ∈ lw_all := lw_g (lw_at lw_m0 177 rfl) rfl
theorem q196 : (Jvm.Cond.methodLink "FlashMapLaw" (39 : Nat) ({ cls := "FlashMapModel", name := "powerCut", desc := "()I" } : Jvm.MethodName)) ∈ lw_all := lw_g (lw_at lw_m0 181 rfl) rfl
theorem q204 : (Jvm.Cond.methodLink "FlashMapLaw" (44 : Nat) ({ cls := "FlashMapModel", name := "has", desc := "(I)Z" } : Jvm.MethodName)) ∈ lw_all := lw_g (lw_at lw_m0 189 rfl) rfl
theorem q208 : (Jvm.Cond.methodLink "FlashMapLaw" (48 : Nat) ({ cls := "FlashMapModel", name := "read", desc := "(I)I" } : Jvm.MethodName)) ∈ lw_all := lw_g (lw_at lw_m0 193 rfl) rfl
theorem q213 : (Jvm.Cond.methodLink "FlashMapLaw" (52 : Nat) ({ cls := "FlashMapModel", name := "used", desc := "()I" } : Jvm.MethodName)) ∈ lw_all := lw_g (lw_at lw_m0 198 rfl) rfl
theorem q214 : (Jvm.Cond.methodLink "FlashMapLaw" (56 : Nat) ({ cls := "FlashMapModel", name := "nextUsed", desc := "(I)I" } : Jvm.MethodName)) ∈ lw_all := lw_g (lw_at lw_m0 199 rfl) rfl
theorem q218 : (Jvm.Cond.methodLink "FlashMapLaw" (61 : Nat) ({ cls := "FlashMapModel", name := "total", desc := "()J" } : Jvm.MethodName)) ∈ lw_all := lw_g (lw_at lw_m0 203 rfl) rfl
theorem q223 : (Jvm.Cond.methodLink "FlashMapLaw" (65 : Nat) ({ cls := "FlashMapModel", name := "exchange", desc := "(II)I" } : Jvm.MethodName)) ∈ lw_all := lw_g (lw_at lw_m0 208 rfl) rfl
theorem q227 : (Jvm.Cond.methodLink "FlashMapLaw" (70 : Nat) ({ cls := "FlashMapModel", name := "fill", desc := "(III)I" } : Jvm.MethodName)) ∈ lw_all := lw_g (lw_at lw_m0 212 rfl) rfl
/-! the law's own entry -/
set_option maxRecDepth 100000
abbrev cL_law : ByteArray := code
theorem dL_law_0 : decode cL_law 0 = .ok (.new 7, 3) := by decide +kernel
theorem dL_law_3 : decode cL_law 3 = .ok (.dup, 1) := by decide +kernel
theorem dL_law_4 : decode cL_law 4 = .ok (.aload_n 0, 1) := by decide +kernel
theorem dL_law_5 : decode cL_law 5 = .ok (.iconst 0, 1) := by decide +kernel
theorem dL_law_6 : decode cL_law 6 = .ok (.invokestatic 9, 3) := by decide +kernel
theorem dL_law_9 : decode cL_law 9 = .ok (.invokespecial 15, 3) := by decide +kernel
theorem dL_law_12 : decode cL_law 12 = .ok (.astore_n 1, 1) := by decide +kernel
theorem dL_law_13 : decode cL_law 13 = .ok (.new 18, 3) := by decide +kernel
theorem dL_law_16 : decode cL_law 16 = .ok (.dup, 1) := by decide +kernel
theorem dL_law_17 : decode cL_law 17 = .ok (.aload_n 0, 1) := by decide +kernel
theorem dL_law_18 : decode cL_law 18 = .ok (.iconst 0, 1) := by decide +kernel
theorem dL_law_19 : decode cL_law 19 = .ok (.invokestatic 9, 3) := by decide +kernel
theorem dL_law_22 : decode cL_law 22 = .ok (.invokespecial 20, 3) := by decide +kernel
theorem dL_law_25 : decode cL_law 25 = .ok (.astore_n 2, 1) := by decide +kernel
theorem dL_law_26 : decode cL_law 26 = .ok (.iconst 1, 1) := by decide +kernel
theorem dL_law_27 : decode cL_law 27 = .ok (.istore_n 3, 1) := by decide +kernel
theorem dL_law_28 : decode cL_law 28 = .ok (.iload_n 3, 1) := by decide +kernel
theorem dL_law_29 : decode cL_law 29 = .ok (.aload_n 0, 1) := by decide +kernel
theorem dL_law_30 : decode cL_law 30 = .ok (.arraylength, 1) := by decide +kernel
theorem dL_law_31 : decode cL_law 31 = .ok (.iconst 4, 1) := by decide +kernel
theorem dL_law_32 : decode cL_law 32 = .ok (.isub, 1) := by decide +kernel
theorem dL_law_33 : decode cL_law 33 = .ok (.if_icmp .gt 347, 3) := by decide +kernel
theorem dL_law_36 : decode cL_law 36 = .ok (.aload_n 0, 1) := by decide +kernel
theorem dL_law_37 : decode cL_law 37 = .ok (.iload_n 3, 1) := by decide +kernel
theorem dL_law_38 : decode cL_law 38 = .ok (.iaload, 1) := by decide +kernel
theorem dL_law_39 : decode cL_law 39 = .ok (.bipush 15, 2) := by decide +kernel
theorem dL_law_41 : decode cL_law 41 = .ok (.iand, 1) := by decide +kernel
theorem dL_law_42 : decode cL_law 42 = .ok (.tableswitch 332 0 10 #[58, 91, 124, 147, 160, 183, 206, 219, 242, 256, 289], 58) := by decide +kernel
theorem dL_law_100 : decode cL_law 100 = .ok (.aload_n 1, 1) := by decide +kernel
theorem dL_law_101 : decode cL_law 101 = .ok (.aload_n 0, 1) := by decide +kernel
theorem dL_law_102 : decode cL_law 102 = .ok (.iload_n 3, 1) := by decide +kernel
theorem dL_law_103 : decode cL_law 103 = .ok (.iconst 1, 1) := by decide +kernel
theorem dL_law_104 : decode cL_law 104 = .ok (.iadd, 1) := by decide +kernel
theorem dL_law_105 : decode cL_law 105 = .ok (.iaload, 1) := by decide +kernel
theorem dL_law_106 : decode cL_law 106 = .ok (.aload_n 0, 1) := by decide +kernel
theorem dL_law_107 : decode cL_law 107 = .ok (.iload_n 3, 1) := by decide +kernel
theorem dL_law_108 : decode cL_law 108 = .ok (.iconst 2, 1) := by decide +kernel
theorem dL_law_109 : decode cL_law 109 = .ok (.iadd, 1) := by decide +kernel
theorem dL_law_110 : decode cL_law 110 = .ok (.iaload, 1) := by decide +kernel
theorem dL_law_111 : decode cL_law 111 = .ok (.invokevirtual 21, 3) := by decide +kernel
theorem dL_law_114 : decode cL_law 114 = .ok (.aload_n 2, 1) := by decide +kernel
theorem dL_law_115 : decode cL_law 115 = .ok (.aload_n 0, 1) := by decide +kernel
theorem dL_law_116 : decode cL_law 116 = .ok (.iload_n 3, 1) := by decide +kernel
theorem dL_law_117 : decode cL_law 117 = .ok (.iconst 1, 1) := by decide +kernel
theorem dL_law_118 : decode cL_law 118 = .ok (.iadd, 1) := by decide +kernel
theorem dL_law_119 : decode cL_law 119 = .ok (.iaload, 1) := by decide +kernel
theorem dL_law_120 : decode cL_law 120 = .ok (.aload_n 0, 1) := by decide +kernel
theorem dL_law_121 : decode cL_law 121 = .ok (.iload_n 3, 1) := by decide +kernel
theorem dL_law_122 : decode cL_law 122 = .ok (.iconst 2, 1) := by decide +kernel
theorem dL_law_123 : decode cL_law 123 = .ok (.iadd, 1) := by decide +kernel
theorem dL_law_124 : decode cL_law 124 = .ok (.iaload, 1) := by decide +kernel
theorem dL_law_125 : decode cL_law 125 = .ok (.invokevirtual 25, 3) := by decide +kernel
theorem dL_law_128 : decode cL_law 128 = .ok (.if_icmp .eq 246, 3) := by decide +kernel
theorem dL_law_131 : decode cL_law 131 = .ok (.iconst 0, 1) := by decide +kernel
theorem dL_law_132 : decode cL_law 132 = .ok (.ireturn, 1) := by decide +kernel
theorem dL_law_133 : decode cL_law 133 = .ok (.aload_n 1, 1) := by decide +kernel
theorem dL_law_134 : decode cL_law 134 = .ok (.aload_n 0, 1) := by decide +kernel
theorem dL_law_135 : decode cL_law 135 = .ok (.iload_n 3, 1) := by decide +kernel
theorem dL_law_136 : decode cL_law 136 = .ok (.iconst 1, 1) := by decide +kernel
theorem dL_law_137 : decode cL_law 137 = .ok (.iadd, 1) := by decide +kernel
theorem dL_law_138 : decode cL_law 138 = .ok (.iaload, 1) := by decide +kernel
theorem dL_law_139 : decode cL_law 139 = .ok (.aload_n 0, 1) := by decide +kernel
theorem dL_law_140 : decode cL_law 140 = .ok (.iload_n 3, 1) := by decide +kernel
theorem dL_law_141 : decode cL_law 141 = .ok (.iconst 2, 1) := by decide +kernel
theorem dL_law_142 : decode cL_law 142 = .ok (.iadd, 1) := by decide +kernel
theorem dL_law_143 : decode cL_law 143 = .ok (.iaload, 1) := by decide +kernel
theorem dL_law_144 : decode cL_law 144 = .ok (.invokevirtual 26, 3) := by decide +kernel
theorem dL_law_147 : decode cL_law 147 = .ok (.aload_n 2, 1) := by decide +kernel
theorem dL_law_148 : decode cL_law 148 = .ok (.aload_n 0, 1) := by decide +kernel
theorem dL_law_149 : decode cL_law 149 = .ok (.iload_n 3, 1) := by decide +kernel
theorem dL_law_150 : decode cL_law 150 = .ok (.iconst 1, 1) := by decide +kernel
theorem dL_law_151 : decode cL_law 151 = .ok (.iadd, 1) := by decide +kernel
theorem dL_law_152 : decode cL_law 152 = .ok (.iaload, 1) := by decide +kernel
theorem dL_law_153 : decode cL_law 153 = .ok (.aload_n 0, 1) := by decide +kernel
theorem dL_law_154 : decode cL_law 154 = .ok (.iload_n 3, 1) := by decide +kernel
theorem dL_law_155 : decode cL_law 155 = .ok (.iconst 2, 1) := by decide +kernel
theorem dL_law_156 : decode cL_law 156 = .ok (.iadd, 1) := by decide +kernel
theorem dL_law_157 : decode cL_law 157 = .ok (.iaload, 1) := by decide +kernel
theorem dL_law_158 : decode cL_law 158 = .ok (.invokevirtual 29, 3) := by decide +kernel
theorem dL_law_161 : decode cL_law 161 = .ok (.if_icmp .eq 213, 3) := by decide +kernel
theorem dL_law_164 : decode cL_law 164 = .ok (.iconst 0, 1) := by decide +kernel
theorem dL_law_165 : decode cL_law 165 = .ok (.ireturn, 1) := by decide +kernel
theorem dL_law_166 : decode cL_law 166 = .ok (.aload_n 1, 1) := by decide +kernel
theorem dL_law_167 : decode cL_law 167 = .ok (.aload_n 0, 1) := by decide +kernel
theorem dL_law_168 : decode cL_law 168 = .ok (.iload_n 3, 1) := by decide +kernel
theorem dL_law_169 : decode cL_law 169 = .ok (.iconst 1, 1) := by decide +kernel
theorem dL_law_170 : decode cL_law 170 = .ok (.iadd, 1) := by decide +kernel
theorem dL_law_171 : decode cL_law 171 = .ok (.iaload, 1) := by decide +kernel
theorem dL_law_172 : decode cL_law 172 = .ok (.invokevirtual 30, 3) := by decide +kernel
theorem dL_law_175 : decode cL_law 175 = .ok (.aload_n 2, 1) := by decide +kernel
theorem dL_law_176 : decode cL_law 176 = .ok (.aload_n 0, 1) := by decide +kernel
theorem dL_law_177 : decode cL_law 177 = .ok (.iload_n 3, 1) := by decide +kernel
theorem dL_law_178 : decode cL_law 178 = .ok (.iconst 1, 1) := by decide +kernel
theorem dL_law_179 : decode cL_law 179 = .ok (.iadd, 1) := by decide +kernel
theorem dL_law_180 : decode cL_law 180 = .ok (.iaload, 1) := by decide +kernel
theorem dL_law_181 : decode cL_law 181 = .ok (.invokevirtual 34, 3) := by decide +kernel
theorem dL_law_184 : decode cL_law 184 = .ok (.if_icmp .eq 190, 3) := by decide +kernel
theorem dL_law_187 : decode cL_law 187 = .ok (.iconst 0, 1) := by decide +kernel
theorem dL_law_188 : decode cL_law 188 = .ok (.ireturn, 1) := by decide +kernel
theorem dL_law_189 : decode cL_law 189 = .ok (.aload_n 1, 1) := by decide +kernel
theorem dL_law_190 : decode cL_law 190 = .ok (.invokevirtual 35, 3) := by decide +kernel
theorem dL_law_193 : decode cL_law 193 = .ok (.aload_n 2, 1) := by decide +kernel
theorem dL_law_194 : decode cL_law 194 = .ok (.invokevirtual 39, 3) := by decide +kernel
theorem dL_law_197 : decode cL_law 197 = .ok (.if_icmp .eq 177, 3) := by decide +kernel
theorem dL_law_200 : decode cL_law 200 = .ok (.iconst 0, 1) := by decide +kernel
theorem dL_law_201 : decode cL_law 201 = .ok (.ireturn, 1) := by decide +kernel
theorem dL_law_202 : decode cL_law 202 = .ok (.aload_n 1, 1) := by decide +kernel
theorem dL_law_203 : decode cL_law 203 = .ok (.aload_n 0, 1) := by decide +kernel
theorem dL_law_204 : decode cL_law 204 = .ok (.iload_n 3, 1) := by decide +kernel
theorem dL_law_205 : decode cL_law 205 = .ok (.iconst 1, 1) := by decide +kernel
theorem dL_law_206 : decode cL_law 206 = .ok (.iadd, 1) := by decide +kernel
theorem dL_law_207 : decode cL_law 207 = .ok (.iaload, 1) := by decide +kernel
theorem dL_law_208 : decode cL_law 208 = .ok (.invokevirtual 40, 3) := by decide +kernel
theorem dL_law_211 : decode cL_law 211 = .ok (.aload_n 2, 1) := by decide +kernel
theorem dL_law_212 : decode cL_law 212 = .ok (.aload_n 0, 1) := by decide +kernel
theorem dL_law_213 : decode cL_law 213 = .ok (.iload_n 3, 1) := by decide +kernel
theorem dL_law_214 : decode cL_law 214 = .ok (.iconst 1, 1) := by decide +kernel
theorem dL_law_215 : decode cL_law 215 = .ok (.iadd, 1) := by decide +kernel
theorem dL_law_216 : decode cL_law 216 = .ok (.iaload, 1) := by decide +kernel
theorem dL_law_217 : decode cL_law 217 = .ok (.invokevirtual 44, 3) := by decide +kernel
theorem dL_law_220 : decode cL_law 220 = .ok (.if_icmp .eq 154, 3) := by decide +kernel
theorem dL_law_223 : decode cL_law 223 = .ok (.iconst 0, 1) := by decide +kernel
theorem dL_law_224 : decode cL_law 224 = .ok (.ireturn, 1) := by decide +kernel
theorem dL_law_225 : decode cL_law 225 = .ok (.aload_n 1, 1) := by decide +kernel
theorem dL_law_226 : decode cL_law 226 = .ok (.aload_n 0, 1) := by decide +kernel
theorem dL_law_227 : decode cL_law 227 = .ok (.iload_n 3, 1) := by decide +kernel
theorem dL_law_228 : decode cL_law 228 = .ok (.iconst 1, 1) := by decide +kernel
theorem dL_law_229 : decode cL_law 229 = .ok (.iadd, 1) := by decide +kernel
theorem dL_law_230 : decode cL_law 230 = .ok (.iaload, 1) := by decide +kernel
theorem dL_law_231 : decode cL_law 231 = .ok (.invokevirtual 45, 3) := by decide +kernel
theorem dL_law_234 : decode cL_law 234 = .ok (.aload_n 2, 1) := by decide +kernel
theorem dL_law_235 : decode cL_law 235 = .ok (.aload_n 0, 1) := by decide +kernel
theorem dL_law_236 : decode cL_law 236 = .ok (.iload_n 3, 1) := by decide +kernel
theorem dL_law_237 : decode cL_law 237 = .ok (.iconst 1, 1) := by decide +kernel
theorem dL_law_238 : decode cL_law 238 = .ok (.iadd, 1) := by decide +kernel
theorem dL_law_239 : decode cL_law 239 = .ok (.iaload, 1) := by decide +kernel
theorem dL_law_240 : decode cL_law 240 = .ok (.invokevirtual 48, 3) := by decide +kernel
theorem dL_law_243 : decode cL_law 243 = .ok (.if_icmp .eq 131, 3) := by decide +kernel
theorem dL_law_246 : decode cL_law 246 = .ok (.iconst 0, 1) := by decide +kernel
theorem dL_law_247 : decode cL_law 247 = .ok (.ireturn, 1) := by decide +kernel
theorem dL_law_248 : decode cL_law 248 = .ok (.aload_n 1, 1) := by decide +kernel
theorem dL_law_249 : decode cL_law 249 = .ok (.invokevirtual 49, 3) := by decide +kernel
theorem dL_law_252 : decode cL_law 252 = .ok (.aload_n 2, 1) := by decide +kernel
theorem dL_law_253 : decode cL_law 253 = .ok (.invokevirtual 52, 3) := by decide +kernel
theorem dL_law_256 : decode cL_law 256 = .ok (.if_icmp .eq 118, 3) := by decide +kernel
theorem dL_law_259 : decode cL_law 259 = .ok (.iconst 0, 1) := by decide +kernel
theorem dL_law_260 : decode cL_law 260 = .ok (.ireturn, 1) := by decide +kernel
theorem dL_law_261 : decode cL_law 261 = .ok (.aload_n 1, 1) := by decide +kernel
theorem dL_law_262 : decode cL_law 262 = .ok (.aload_n 0, 1) := by decide +kernel
theorem dL_law_263 : decode cL_law 263 = .ok (.iload_n 3, 1) := by decide +kernel
theorem dL_law_264 : decode cL_law 264 = .ok (.iconst 1, 1) := by decide +kernel
theorem dL_law_265 : decode cL_law 265 = .ok (.iadd, 1) := by decide +kernel
theorem dL_law_266 : decode cL_law 266 = .ok (.iaload, 1) := by decide +kernel
theorem dL_law_267 : decode cL_law 267 = .ok (.invokevirtual 53, 3) := by decide +kernel
theorem dL_law_270 : decode cL_law 270 = .ok (.aload_n 2, 1) := by decide +kernel
theorem dL_law_271 : decode cL_law 271 = .ok (.aload_n 0, 1) := by decide +kernel
theorem dL_law_272 : decode cL_law 272 = .ok (.iload_n 3, 1) := by decide +kernel
theorem dL_law_273 : decode cL_law 273 = .ok (.iconst 1, 1) := by decide +kernel
theorem dL_law_274 : decode cL_law 274 = .ok (.iadd, 1) := by decide +kernel
theorem dL_law_275 : decode cL_law 275 = .ok (.iaload, 1) := by decide +kernel
theorem dL_law_276 : decode cL_law 276 = .ok (.invokevirtual 56, 3) := by decide +kernel
theorem dL_law_279 : decode cL_law 279 = .ok (.if_icmp .eq 95, 3) := by decide +kernel
theorem dL_law_282 : decode cL_law 282 = .ok (.iconst 0, 1) := by decide +kernel
theorem dL_law_283 : decode cL_law 283 = .ok (.ireturn, 1) := by decide +kernel
theorem dL_law_284 : decode cL_law 284 = .ok (.aload_n 1, 1) := by decide +kernel
theorem dL_law_285 : decode cL_law 285 = .ok (.invokevirtual 57, 3) := by decide +kernel
theorem dL_law_288 : decode cL_law 288 = .ok (.aload_n 2, 1) := by decide +kernel
theorem dL_law_289 : decode cL_law 289 = .ok (.invokevirtual 61, 3) := by decide +kernel
theorem dL_law_292 : decode cL_law 292 = .ok (.lcmp, 1) := by decide +kernel
theorem dL_law_293 : decode cL_law 293 = .ok (.ifCond .eq 81, 3) := by decide +kernel
theorem dL_law_296 : decode cL_law 296 = .ok (.iconst 0, 1) := by decide +kernel
theorem dL_law_297 : decode cL_law 297 = .ok (.ireturn, 1) := by decide +kernel
theorem dL_law_298 : decode cL_law 298 = .ok (.aload_n 1, 1) := by decide +kernel
theorem dL_law_299 : decode cL_law 299 = .ok (.aload_n 0, 1) := by decide +kernel
theorem dL_law_300 : decode cL_law 300 = .ok (.iload_n 3, 1) := by decide +kernel
theorem dL_law_301 : decode cL_law 301 = .ok (.iconst 1, 1) := by decide +kernel
theorem dL_law_302 : decode cL_law 302 = .ok (.iadd, 1) := by decide +kernel
theorem dL_law_303 : decode cL_law 303 = .ok (.iaload, 1) := by decide +kernel
theorem dL_law_304 : decode cL_law 304 = .ok (.aload_n 0, 1) := by decide +kernel
theorem dL_law_305 : decode cL_law 305 = .ok (.iload_n 3, 1) := by decide +kernel
theorem dL_law_306 : decode cL_law 306 = .ok (.iconst 2, 1) := by decide +kernel
theorem dL_law_307 : decode cL_law 307 = .ok (.iadd, 1) := by decide +kernel
theorem dL_law_308 : decode cL_law 308 = .ok (.iaload, 1) := by decide +kernel
theorem dL_law_309 : decode cL_law 309 = .ok (.invokevirtual 62, 3) := by decide +kernel
theorem dL_law_312 : decode cL_law 312 = .ok (.aload_n 2, 1) := by decide +kernel
theorem dL_law_313 : decode cL_law 313 = .ok (.aload_n 0, 1) := by decide +kernel
theorem dL_law_314 : decode cL_law 314 = .ok (.iload_n 3, 1) := by decide +kernel
theorem dL_law_315 : decode cL_law 315 = .ok (.iconst 1, 1) := by decide +kernel
theorem dL_law_316 : decode cL_law 316 = .ok (.iadd, 1) := by decide +kernel
theorem dL_law_317 : decode cL_law 317 = .ok (.iaload, 1) := by decide +kernel
theorem dL_law_318 : decode cL_law 318 = .ok (.aload_n 0, 1) := by decide +kernel
theorem dL_law_319 : decode cL_law 319 = .ok (.iload_n 3, 1) := by decide +kernel
theorem dL_law_320 : decode cL_law 320 = .ok (.iconst 2, 1) := by decide +kernel
theorem dL_law_321 : decode cL_law 321 = .ok (.iadd, 1) := by decide +kernel
theorem dL_law_322 : decode cL_law 322 = .ok (.iaload, 1) := by decide +kernel
theorem dL_law_323 : decode cL_law 323 = .ok (.invokevirtual 65, 3) := by decide +kernel
theorem dL_law_326 : decode cL_law 326 = .ok (.if_icmp .eq 48, 3) := by decide +kernel
theorem dL_law_329 : decode cL_law 329 = .ok (.iconst 0, 1) := by decide +kernel
theorem dL_law_330 : decode cL_law 330 = .ok (.ireturn, 1) := by decide +kernel
theorem dL_law_331 : decode cL_law 331 = .ok (.aload_n 1, 1) := by decide +kernel
theorem dL_law_332 : decode cL_law 332 = .ok (.aload_n 0, 1) := by decide +kernel
theorem dL_law_333 : decode cL_law 333 = .ok (.iload_n 3, 1) := by decide +kernel
theorem dL_law_334 : decode cL_law 334 = .ok (.iconst 1, 1) := by decide +kernel
theorem dL_law_335 : decode cL_law 335 = .ok (.iadd, 1) := by decide +kernel
theorem dL_law_336 : decode cL_law 336 = .ok (.iaload, 1) := by decide +kernel
theorem dL_law_337 : decode cL_law 337 = .ok (.aload_n 0, 1) := by decide +kernel
theorem dL_law_338 : decode cL_law 338 = .ok (.iload_n 3, 1) := by decide +kernel
theorem dL_law_339 : decode cL_law 339 = .ok (.iconst 2, 1) := by decide +kernel
theorem dL_law_340 : decode cL_law 340 = .ok (.iadd, 1) := by decide +kernel
theorem dL_law_341 : decode cL_law 341 = .ok (.iaload, 1) := by decide +kernel
theorem dL_law_342 : decode cL_law 342 = .ok (.aload_n 0, 1) := by decide +kernel
theorem dL_law_343 : decode cL_law 343 = .ok (.iload_n 3, 1) := by decide +kernel
theorem dL_law_344 : decode cL_law 344 = .ok (.iconst 3, 1) := by decide +kernel
theorem dL_law_345 : decode cL_law 345 = .ok (.iadd, 1) := by decide +kernel
theorem dL_law_346 : decode cL_law 346 = .ok (.iaload, 1) := by decide +kernel
theorem dL_law_347 : decode cL_law 347 = .ok (.invokevirtual 66, 3) := by decide +kernel
theorem dL_law_350 : decode cL_law 350 = .ok (.aload_n 2, 1) := by decide +kernel
theorem dL_law_351 : decode cL_law 351 = .ok (.aload_n 0, 1) := by decide +kernel
theorem dL_law_352 : decode cL_law 352 = .ok (.iload_n 3, 1) := by decide +kernel
theorem dL_law_353 : decode cL_law 353 = .ok (.iconst 1, 1) := by decide +kernel
theorem dL_law_354 : decode cL_law 354 = .ok (.iadd, 1) := by decide +kernel
theorem dL_law_355 : decode cL_law 355 = .ok (.iaload, 1) := by decide +kernel
theorem dL_law_356 : decode cL_law 356 = .ok (.aload_n 0, 1) := by decide +kernel
theorem dL_law_357 : decode cL_law 357 = .ok (.iload_n 3, 1) := by decide +kernel
theorem dL_law_358 : decode cL_law 358 = .ok (.iconst 2, 1) := by decide +kernel
theorem dL_law_359 : decode cL_law 359 = .ok (.iadd, 1) := by decide +kernel
theorem dL_law_360 : decode cL_law 360 = .ok (.iaload, 1) := by decide +kernel
theorem dL_law_361 : decode cL_law 361 = .ok (.aload_n 0, 1) := by decide +kernel
theorem dL_law_362 : decode cL_law 362 = .ok (.iload_n 3, 1) := by decide +kernel
theorem dL_law_363 : decode cL_law 363 = .ok (.iconst 3, 1) := by decide +kernel
theorem dL_law_364 : decode cL_law 364 = .ok (.iadd, 1) := by decide +kernel
theorem dL_law_365 : decode cL_law 365 = .ok (.iaload, 1) := by decide +kernel
theorem dL_law_366 : decode cL_law 366 = .ok (.invokevirtual 70, 3) := by decide +kernel
theorem dL_law_369 : decode cL_law 369 = .ok (.if_icmp .eq 5, 3) := by decide +kernel
theorem dL_law_372 : decode cL_law 372 = .ok (.iconst 0, 1) := by decide +kernel
theorem dL_law_373 : decode cL_law 373 = .ok (.ireturn, 1) := by decide +kernel
theorem dL_law_374 : decode cL_law 374 = .ok (.iinc 3 4, 3) := by decide +kernel
theorem dL_law_377 : decode cL_law 377 = .ok (.goto (-349), 3) := by decide +kernel
theorem dL_law_380 : decode cL_law 380 = .ok (.iconst 1, 1) := by decide +kernel
theorem dL_law_381 : decode cL_law 381 = .ok (.ireturn, 1) := by decide +kernel
end
section
/-! states, worlds, contracts: this claim's own words -/
abbrev vwCl : List vw_C := [(RX1, TX1, 10), (RX2, TX2, 2)]
def fu {α : Type} (f : Nat → α) (k : Nat) (v : α) : Nat → α := fun j => if j = k then v else f j
def bI (b : Bool) : Int32 := match b with
  | true => 1
  | false => 0
def oI (o : Option Nat) : Int32 := match o with
  | none => -1
  | some k => nI k
def rmD (d : Nat) : Room := { frames := d, cells := 0, slots := 0, locals := 30 * d }
/-- FlashMap's fields: state, data, logical, empty, running, erasures, spareBlocks, place, openBlock, nextNumber -/
abbrev FS : Type := (Nat → Nat) × (Nat → Int32) × (Nat → Nat) × (Nat → Bool) × (Nat → Nat) × (Nat → Int32) × Nat × (Nat → Option Nat) × Option Nat × Nat
def fSt (S : FS) : Nat → Nat := S.1
def fDa (S : FS) : Nat → Int32 := S.2.1
def fLo (S : FS) : Nat → Nat := S.2.2.1
def fEm (S : FS) : Nat → Bool := S.2.2.2.1
def fRu (S : FS) : Nat → Nat := S.2.2.2.2.1
def fEr (S : FS) : Nat → Int32 := S.2.2.2.2.2.1
def fSp (S : FS) : Nat := S.2.2.2.2.2.2.1
def fPl (S : FS) : Nat → Option Nat := S.2.2.2.2.2.2.2.1
def fOb (S : FS) : Option Nat := S.2.2.2.2.2.2.2.2.1
def fNn (S : FS) : Nat := S.2.2.2.2.2.2.2.2.2
def uSt (S : FS) (x : Nat → Nat) : FS := (x, fDa S, fLo S, fEm S, fRu S, fEr S, fSp S, fPl S, fOb S, fNn S)
def uDa (S : FS) (x : Nat → Int32) : FS := (fSt S, x, fLo S, fEm S, fRu S, fEr S, fSp S, fPl S, fOb S, fNn S)
def uLo (S : FS) (x : Nat → Nat) : FS := (fSt S, fDa S, x, fEm S, fRu S, fEr S, fSp S, fPl S, fOb S, fNn S)
def uEm (S : FS) (x : Nat → Bool) : FS := (fSt S, fDa S, fLo S, x, fRu S, fEr S, fSp S, fPl S, fOb S, fNn S)
def uRu (S : FS) (x : Nat → Nat) : FS := (fSt S, fDa S, fLo S, fEm S, x, fEr S, fSp S, fPl S, fOb S, fNn S)
def uEr (S : FS) (x : Nat → Int32) : FS := (fSt S, fDa S, fLo S, fEm S, fRu S, x, fSp S, fPl S, fOb S, fNn S)
def uSp (S : FS) (x : Nat) : FS := (fSt S, fDa S, fLo S, fEm S, fRu S, fEr S, x, fPl S, fOb S, fNn S)
def uPl (S : FS) (x : Nat → Option Nat) : FS := (fSt S, fDa S, fLo S, fEm S, fRu S, fEr S, fSp S, x, fOb S, fNn S)
def uOb (S : FS) (x : Option Nat) : FS := (fSt S, fDa S, fLo S, fEm S, fRu S, fEr S, fSp S, fPl S, x, fNn S)
def uNn (S : FS) (x : Nat) : FS := (fSt S, fDa S, fLo S, fEm S, fRu S, fEr S, fSp S, fPl S, fOb S, x)
/-- FlashMapModel's fields: value, there -/
abbrev MS : Type := (Nat → Int32) × (Nat → Bool)
def mVa (M : MS) : Nat → Int32 := M.1
def mTh (M : MS) : Nat → Bool := M.2
def uVa (M : MS) (x : Nat → Int32) : MS := (x, mTh M)
def uTh (M : MS) (x : Nat → Bool) : MS := (mVa M, x)
/-- tables, addresses, classes of the arrays -/
abbrev FG : Type := va_G × (Nat → Nat) × (Nat → ClassId)
def wF (G : FG) (S : FS) : va_W := [(G.2.1 0, .inr (0, [.ref (G.2.1 1), .ref (G.2.1 2), .ref (G.2.1 3), .ref (G.2.1 4), .ref (G.2.1 5), .ref (G.2.1 6), .int (nI (fSp S)), .ref (G.2.1 7), .int (oI (fOb S)), .int (nI (fNn S))])),
  (G.2.1 1, .inl (G.2.2 1, 32, .inl (fun i => nI (fSt S i)))),
  (G.2.1 2, .inl (G.2.2 2, 32, .inl (fun i => fDa S i))),
  (G.2.1 3, .inl (G.2.2 3, 32, .inl (fun i => nI (fLo S i)))),
  (G.2.1 4, .inl (G.2.2 4, 32, .inl (fun i => bI (fEm S i)))),
  (G.2.1 5, .inl (G.2.2 5, 32, .inl (fun i => nI (fRu S i)))),
  (G.2.1 6, .inl (G.2.2 6, 8, .inl (fun i => fEr S i))),
  (G.2.1 7, .inl (G.2.2 7, 12, .inl (fun i => oI (fPl S i))))]
def tF (G : FG) : List (ClassId × FieldType) := [(G.2.2 1, .byte), (G.2.2 2, .int), (G.2.2 3, .byte), (G.2.2 4, .boolean), (G.2.2 5, .int), (G.2.2 6, .int), (G.2.2 7, .byte)]
def wM (G : FG) (M : MS) : va_W := [(G.2.1 0, .inr (1, [.ref (G.2.1 1), .ref (G.2.1 2)])),
  (G.2.1 1, .inl (G.2.2 1, 12, .inl (fun i => mVa M i))),
  (G.2.1 2, .inl (G.2.2 2, 12, .inl (fun i => bI (mTh M i))))]
def tM (G : FG) : List (ClassId × FieldType) := [(G.2.2 1, .int), (G.2.2 2, .boolean)]
/-- a world within a method -/
def Wd (D : va_G) (ws : va_W) (tys : List (ClassId × FieldType)) (A : Nat → Prop) (s : State) (H : Heap) (locs : List Loc) : Prop :=
  va_K D vwCl tys s ∧ va_P D vwCl ws H ∧ va_D A ws ∧ va_S A s.heap H locs ∧ ∀ q, s.heap.size ≤ q → A q
abbrev WdF (G : FG) (S : FS) (A : Nat → Prop) (s : State) (H : Heap) (locs : List Loc) : Prop := Wd G.1 (wF G S) (tF G) A s H locs
abbrev WdM (G : FG) (M : MS) (A : Nat → Prop) (s : State) (H : Heap) (locs : List Loc) : Prop := Wd G.1 (wM G M) (tM G) A s H locs
def PcG (D : va_G) (ws : va_W) (tys : List (ClassId × FieldType)) (av : List Value) (sz : Nat) : Array Value → State → Prop :=
  va_Pc av (fun U => U.heap.size = sz ∧ va_P D vwCl ws U.heap ∧ va_K D vwCl tys U ∧ va_D (fun _ => True) ws)
def BG (D : va_G) (tys : List (ClassId × FieldType)) (A : Nat → Prop) (ws : va_W) (t : State) : Prop := va_P D vwCl ws t.heap ∧ va_K D vwCl tys t ∧ va_D A ws
/-- a method's contract: it answers an int (MetGi), nothing (MetGv), a long (MetGl); its world's state S goes over to one with 'post' -/
def MetGi {σ : Type} (l : Launch) (y : MethodName) (b : ByteArray) (maxL : Nat) (rt : Option FieldType) (d : Nat) (av : List Value) (D : va_G) (tys : List (ClassId × FieldType)) (wf : σ → va_W) (S : σ) (post : Int32 → σ → Prop) : Prop :=
  ∀ sz : Nat, Met l y (ws_ y b maxL rt) (rmD d) (PcG D (wf S) tys av sz) (va_Qi post (fun u t => BG D tys (va_A (wf S) sz) (wf u) t) (va_A (wf S) sz)) 0 0 (va_A (wf S) sz)
def MetGv {σ : Type} (l : Launch) (y : MethodName) (b : ByteArray) (maxL : Nat) (rt : Option FieldType) (d : Nat) (av : List Value) (D : va_G) (tys : List (ClassId × FieldType)) (wf : σ → va_W) (S : σ) (post : σ → Prop) : Prop :=
  ∀ sz : Nat, Met l y (ws_ y b maxL rt) (rmD d) (PcG D (wf S) tys av sz) (va_Qv post (fun u t => BG D tys (va_A (wf S) sz) (wf u) t) (va_A (wf S) sz)) 0 0 (va_A (wf S) sz)
def MetGl {σ : Type} (l : Launch) (y : MethodName) (b : ByteArray) (maxL : Nat) (rt : Option FieldType) (d : Nat) (av : List Value) (D : va_G) (tys : List (ClassId × FieldType)) (wf : σ → va_W) (S : σ) (post : Int64 → σ → Prop) : Prop :=
  ∀ sz : Nat, Met l y (ws_ y b maxL rt) (rmD d) (PcG D (wf S) tys av sz) (va_Ql post (fun u t => BG D tys (va_A (wf S) sz) (wf u) t) (va_A (wf S) sz)) 0 0 (va_A (wf S) sz)
theorem bI_nar (b : Bool) : narrow .boolean (.int (bI b)) = .int (bI b) := by cases b <;> rfl
theorem MetGi.ofI {σ : Type} {l : Launch} {y : MethodName} {b : ByteArray} {maxL d : Nat} {av : List Value} {D : va_G} {tys : List (ClassId × FieldType)} {wf : σ → va_W} {S : σ} {post : Int32 → σ → Prop} (own : String) (hy : plainName y.cls = true) (hown : y.cls = own) (hlen : (lg_sl av).length ≤ maxL)
    (body : ∀ (p : Program) (e : Env) (s : State) (m : MethodId) (args : Array Value) (below : List Frame) (meth : Method) (c : Code) (A : Nat → Prop) (Q : State → Prop) (H : Heap) (ls : Array Slot),
      CallFix p m c b maxL s args lw_all own → Wd D (wf S) tys A s H [] → lv_has ls maxL (lv_args 0 av) →
      (∀ (v : Int32) (u : σ) (H1 : Heap) (locs1 : List Loc) (pc : Nat) (ls1 : Array Slot), post v u → Wd D (wf u) tys A s H1 locs1 → decode b pc = .ok (.ireturn, 1) → W p l e (rmD d) s m args below meth c H1 locs1 0 0 Q (F0 m pc ls1 [.int v])) →
      W p l e (rmD d) s m args below meth c H [] 0 0 Q (F0 m 0 ls [])) : MetGi l y b maxL (some .int) d av D tys wf S post := by
  intro sz
  refine Met.ofW (cc := b) (maxL := maxL) (ret := (some .int)) hy rfl ?_
  intro p e s m args below meth c s₁ B hml hv
  obtain ⟨rfl, hsz, hP, hK, hD0⟩ := hv
  have hts := atoms_spec (ws := ws_ y b maxL (some .int)) B.pre
  have hts : ∀ w ∈ lw_all, w.before _ s = true := fun w h => hts w (List.mem_cons_of_mem _ h)
  have hown' : s.vm.findClass own = some m.cls := by rw [← hown]; exact findClass_of_methodNamed B.named
  subst hsz
  have hD := hD0.self (sz := s.heap.size)
  have hl := lv_entry av (n := maxL) hlen
  rw [lg_entry_eq]
  refine body p e s m _ below meth c (va_A (wf S) s.heap.size) _ s.heap _ ⟨B.exec, B.bytes, hml, hown', hts⟩ ⟨hK, hP, hD, va_S.rf, fun q h => Or.inr h⟩ hl ?_
  intro v u H1 locs1 pc ls1 hp hw hd
  obtain ⟨hK1, hP1, hD1, hS1, -⟩ := hw
  exact W.zret B.exec B.bytes B.returns (vp_nar_int v) (fun t ht hW => ⟨⟨v, u, rfl, hp, by rw [ht]; exact hP1, va_K.moved hW.alike hK1, hD1⟩, hS1.F ht⟩) hS1.2.2 hd B.notSynchronized
theorem MetGi.ofZ {σ : Type} {l : Launch} {y : MethodName} {b : ByteArray} {maxL d : Nat} {av : List Value} {D : va_G} {tys : List (ClassId × FieldType)} {wf : σ → va_W} {S : σ} {post : Int32 → σ → Prop} (own : String) (hy : plainName y.cls = true) (hown : y.cls = own) (hlen : (lg_sl av).length ≤ maxL)
    (body : ∀ (p : Program) (e : Env) (s : State) (m : MethodId) (args : Array Value) (below : List Frame) (meth : Method) (c : Code) (A : Nat → Prop) (Q : State → Prop) (H : Heap) (ls : Array Slot),
      CallFix p m c b maxL s args lw_all own → Wd D (wf S) tys A s H [] → lv_has ls maxL (lv_args 0 av) →
      (∀ (v : Bool) (u : σ) (H1 : Heap) (locs1 : List Loc) (pc : Nat) (ls1 : Array Slot), post (bI v) u → Wd D (wf u) tys A s H1 locs1 → decode b pc = .ok (.ireturn, 1) → W p l e (rmD d) s m args below meth c H1 locs1 0 0 Q (F0 m pc ls1 [.int (bI v)])) →
      W p l e (rmD d) s m args below meth c H [] 0 0 Q (F0 m 0 ls [])) : MetGi l y b maxL (some .boolean) d av D tys wf S post := by
  intro sz
  refine Met.ofW (cc := b) (maxL := maxL) (ret := (some .boolean)) hy rfl ?_
  intro p e s m args below meth c s₁ B hml hv
  obtain ⟨rfl, hsz, hP, hK, hD0⟩ := hv
  have hts := atoms_spec (ws := ws_ y b maxL (some .boolean)) B.pre
  have hts : ∀ w ∈ lw_all, w.before _ s = true := fun w h => hts w (List.mem_cons_of_mem _ h)
  have hown' : s.vm.findClass own = some m.cls := by rw [← hown]; exact findClass_of_methodNamed B.named
  subst hsz
  have hD := hD0.self (sz := s.heap.size)
  have hl := lv_entry av (n := maxL) hlen
  rw [lg_entry_eq]
  refine body p e s m _ below meth c (va_A (wf S) s.heap.size) _ s.heap _ ⟨B.exec, B.bytes, hml, hown', hts⟩ ⟨hK, hP, hD, va_S.rf, fun q h => Or.inr h⟩ hl ?_
  intro v u H1 locs1 pc ls1 hp hw hd
  obtain ⟨hK1, hP1, hD1, hS1, -⟩ := hw
  exact W.zret B.exec B.bytes B.returns (bI_nar v) (fun t ht hW => ⟨⟨bI v, u, rfl, hp, by rw [ht]; exact hP1, va_K.moved hW.alike hK1, hD1⟩, hS1.F ht⟩) hS1.2.2 hd B.notSynchronized
theorem MetGv.ofV {σ : Type} {l : Launch} {y : MethodName} {b : ByteArray} {maxL d : Nat} {av : List Value} {D : va_G} {tys : List (ClassId × FieldType)} {wf : σ → va_W} {S : σ} {post : σ → Prop} (own : String) (hy : plainName y.cls = true) (hown : y.cls = own) (hlen : (lg_sl av).length ≤ maxL)
    (body : ∀ (p : Program) (e : Env) (s : State) (m : MethodId) (args : Array Value) (below : List Frame) (meth : Method) (c : Code) (A : Nat → Prop) (Q : State → Prop) (H : Heap) (ls : Array Slot),
      CallFix p m c b maxL s args lw_all own → Wd D (wf S) tys A s H [] → lv_has ls maxL (lv_args 0 av) →
      (∀ (u : σ) (H1 : Heap) (locs1 : List Loc) (pc : Nat) (ls1 : Array Slot), post u → Wd D (wf u) tys A s H1 locs1 → decode b pc = .ok (.return_, 1) → W p l e (rmD d) s m args below meth c H1 locs1 0 0 Q (F0 m pc ls1 [])) →
      W p l e (rmD d) s m args below meth c H [] 0 0 Q (F0 m 0 ls [])) : MetGv l y b maxL none d av D tys wf S post := by
  intro sz
  refine Met.ofW (cc := b) (maxL := maxL) (ret := none) hy rfl ?_
  intro p e s m args below meth c s₁ B hml hv
  obtain ⟨rfl, hsz, hP, hK, hD0⟩ := hv
  have hts := atoms_spec (ws := ws_ y b maxL none) B.pre
  have hts : ∀ w ∈ lw_all, w.before _ s = true := fun w h => hts w (List.mem_cons_of_mem _ h)
  have hown' : s.vm.findClass own = some m.cls := by rw [← hown]; exact findClass_of_methodNamed B.named
  subst hsz
  have hD := hD0.self (sz := s.heap.size)
  have hl := lv_entry av (n := maxL) hlen
  rw [lg_entry_eq]
  refine body p e s m _ below meth c (va_A (wf S) s.heap.size) _ s.heap _ ⟨B.exec, B.bytes, hml, hown', hts⟩ ⟨hK, hP, hD, va_S.rf, fun q h => Or.inr h⟩ hl ?_
  intro u H1 locs1 pc ls1 hp hw hd
  obtain ⟨hK1, hP1, hD1, hS1, -⟩ := hw
  exact W.vret B.exec B.bytes B.returns (fun t ht hW => ⟨⟨u, rfl, hp, by rw [ht]; exact hP1, va_K.moved hW.alike hK1, hD1⟩, hS1.F ht⟩) hS1.2.2 hd B.notSynchronized
theorem MetGl.ofL {σ : Type} {l : Launch} {y : MethodName} {b : ByteArray} {maxL d : Nat} {av : List Value} {D : va_G} {tys : List (ClassId × FieldType)} {wf : σ → va_W} {S : σ} {post : Int64 → σ → Prop} (own : String) (hy : plainName y.cls = true) (hown : y.cls = own) (hlen : (lg_sl av).length ≤ maxL)
    (body : ∀ (p : Program) (e : Env) (s : State) (m : MethodId) (args : Array Value) (below : List Frame) (meth : Method) (c : Code) (A : Nat → Prop) (Q : State → Prop) (H : Heap) (ls : Array Slot),
      CallFix p m c b maxL s args lw_all own → Wd D (wf S) tys A s H [] → lv_has ls maxL (lv_args 0 av) →
      (∀ (v : Int64) (u : σ) (H1 : Heap) (locs1 : List Loc) (pc : Nat) (ls1 : Array Slot), post v u → Wd D (wf u) tys A s H1 locs1 → decode b pc = .ok (.lreturn, 1) → W p l e (rmD d) s m args below meth c H1 locs1 0 0 Q (F0 m pc ls1 [.long v])) →
      W p l e (rmD d) s m args below meth c H [] 0 0 Q (F0 m 0 ls [])) : MetGl l y b maxL (some .long) d av D tys wf S post := by
  intro sz
  refine Met.ofW (cc := b) (maxL := maxL) (ret := (some .long)) hy rfl ?_
  intro p e s m args below meth c s₁ B hml hv
  obtain ⟨rfl, hsz, hP, hK, hD0⟩ := hv
  have hts := atoms_spec (ws := ws_ y b maxL (some .long)) B.pre
  have hts : ∀ w ∈ lw_all, w.before _ s = true := fun w h => hts w (List.mem_cons_of_mem _ h)
  have hown' : s.vm.findClass own = some m.cls := by rw [← hown]; exact findClass_of_methodNamed B.named
  subst hsz
  have hD := hD0.self (sz := s.heap.size)
  have hl := lv_entry av (n := maxL) hlen
  rw [lg_entry_eq]
  refine body p e s m _ below meth c (va_A (wf S) s.heap.size) _ s.heap _ ⟨B.exec, B.bytes, hml, hown', hts⟩ ⟨hK, hP, hD, va_S.rf, fun q h => Or.inr h⟩ hl ?_
  intro v u H1 locs1 pc ls1 hp hw hd
  obtain ⟨hK1, hP1, hD1, hS1, -⟩ := hw
  exact W.lret B.exec B.bytes B.returns (fun t ht hW => ⟨⟨v, u, rfl, hp, by rw [ht]; exact hP1, va_K.moved hW.alike hK1, hD1⟩, hS1.F ht⟩) hS1.2.2 hd B.notSynchronized
section GC
variable {p : Program} {l : Launch} {e : Env} {R : Room} {s : State} {m : MethodId} {args : Array Value} {below : List Frame} {meth : Method} {c : Code} {H : Heap} {locs : List Loc} {cells slots : Nat} {Q : State → Prop}
variable {cc : ByteArray} {nL pc : Nat} {ls : Array Slot} {rest st0 : List Value} {D : va_G} {tys : List (ClassId × FieldType)} {A : Nat → Prop} {own C : String} {idx n maxL d a ci : Nat} {y : MethodName} {b : ByteArray} {rt : Option FieldType} {As fs : List Value} {q : vw_C}
theorem Wd.fr {ws : va_W} (w : Wd D ws tys A s H locs) : ∀ q, va_A ws H.size q → A q := by
  obtain ⟨hK, hP, hD, hS, hA⟩ := w
  intro x h
  rcases h with ⟨k, e, h⟩ | h
  · exact hD.2 k (x, e) h
  · exact hA x (Nat.le_trans hS.1 h)
theorem PcG.blind {ws : va_W} {av : List Value} {sz : Nat} : FrameBlind (PcG D ws tys av sz) := fun a U g mk q => by
  obtain ⟨q0, q1, qP, qK, qD⟩ := q
  exact ⟨q0, q1, qP, va_K.moved (u := U) (U := U.calling g mk a) (Vm.Alike.refl U.vm) qK, qD⟩
theorem g_calli {σ : Type} {wf : σ → va_W} {S : σ} {post : Int32 → σ → Prop} (F : CallFix p m c cc nL s args lw_all own) (w : Wd D (wf S) tys A s H locs) (hM : MetGi l y b maxL rt d (.ref a :: As) D tys wf S post)
    (hc : vwCl[ci]? = some q) (hq : q.1 = C) (he : (wf S)[0]? = some (a, .inr (ci, fs))) (cw : CallW R s args own C idx y b maxL rt (ws_ y b maxL rt) (rmD d) 0 0 n) (hn : As.length = n) (hsz : ls.size = nL) (hst : st0 = As.reverse ++ .ref a :: rest) (hrm : (rest.map fun v => v.category).sum ≤ 8) (hdg : decode cc pc = .ok (.invokevirtual idx, 3)) (hcs : cells ≤ R.cells ∧ slots ≤ R.slots)
    (kk : ∀ (r : Int32) (u : σ) (H1 : Heap) (locs1 : List Loc), post r u → Wd D (wf u) tys A s H1 locs1 → W p l e R s m args below meth c H1 locs1 cells slots Q (F0 m (pc + 3) ls (.int r :: rest))) : W p l e R s m args below meth c H locs cells slots Q (F0 m pc ls st0) := by
  have hF := w.fr
  obtain ⟨hK, hP, hD, hS, hA⟩ := w
  subst hq
  refine va_calli (va_runV (As := As) (rest := rest) F (hM H.size) cw ⟨PcG.blind, va_recv hK hP hc he, fun U hU hW => ⟨rfl, by rw [hU], by rw [hU]; exact hP, va_K.moved hW.alike hK, hD.weaken (fun _ _ _ _ => trivial)⟩⟩ rfl hn hsz hst (lv_room hrm) hdg hcs) hS (fun x _ h => hF x h) hF (fun r u t H1 locs1 ht hvm hp hB hz hk hS1 => ?_)
  obtain ⟨hP1, hK1, hD1⟩ := hB
  rw [ht] at hP1
  exact kk r u H1 locs1 hp ⟨va_K.moved hvm.symm hK1, hP1, hD1.weaken (fun _ q _ h => hF q.1 h), hS1, hA⟩
theorem g_callLi {σ : Type} {wf : σ → va_W} {S : σ} {post : Int32 → σ → Prop} {w2 : va_W} {t2 : List (ClassId × FieldType)} (F : CallFix p m c cc nL s args lw_all own) (w : Wd D (wf S ++ w2) (tys ++ t2) A s H locs) (isC isR isT is2 : List Nat)
    (hC : isC.map (fun i => (wf S ++ w2)[i]?) = (wf S).map some) (hR : isR.map (fun i => (wf S ++ w2)[i]?) = w2.map some) (hnC : va_nd isC = true) (hnR : va_nd isR = true) (hdis : ∀ i ∈ isR, i ∉ isC) (hfC : isC.filterMap (fun i => (wf S ++ w2)[i]?) = wf S) (hT : isT.filterMap (fun i => (tys ++ t2)[i]?) = tys) (hT2 : is2.filterMap (fun i => (tys ++ t2)[i]?) = t2)
    (hM : MetGi l y b maxL rt d (.ref a :: As) D tys wf S post)
    (hc : vwCl[ci]? = some q) (hq : q.1 = C) (he : (wf S)[0]? = some (a, .inr (ci, fs))) (cw : CallW R s args own C idx y b maxL rt (ws_ y b maxL rt) (rmD d) 0 0 n) (hn : As.length = n) (hsz : ls.size = nL) (hst : st0 = As.reverse ++ .ref a :: rest) (hrm : (rest.map fun v => v.category).sum ≤ 8) (hdg : decode cc pc = .ok (.invokevirtual idx, 3)) (hcs : cells ≤ R.cells ∧ slots ≤ R.slots)
    (kk : ∀ (r : Int32) (u : σ) (H1 : Heap) (locs1 : List Loc), post r u → Wd D (w2 ++ wf u) (t2 ++ tys) A s H1 locs1 → W p l e R s m args below meth c H1 locs1 cells slots Q (F0 m (pc + 3) ls (.int r :: rest))) : W p l e R s m args below meth c H locs cells slots Q (F0 m pc ls st0) := by
  obtain ⟨hK, hP, hD, hS, hA⟩ := w
  subst hq
  have hPc := hP.sub (ws' := wf S) isC hfC
  have hDc := hD.sub (ws' := wf S) isC hnC hC
  have hKc := hK.sub (tys' := tys) isT hT
  have hF := va_free (wc := wf S) hD hS hA isC hC
  refine va_calli (va_runV (As := As) (rest := rest) F (hM H.size) cw ⟨PcG.blind, va_recv hKc hPc hc he, fun U hU hW => ⟨rfl, by rw [hU], by rw [hU]; exact hPc, va_K.moved hW.alike hKc, hDc.weaken (fun _ _ _ _ => trivial)⟩⟩ rfl hn hsz hst (lv_room hrm) hdg hcs) hS (fun x _ h => hF x h) hF (fun r u t H1 locs1 ht hvm hp hB hz hk hS1 => ?_)
  obtain ⟨hP1, hK1, hD1⟩ := hB
  rw [ht] at hP1
  have hK1 := va_K.moved hvm.symm hK1
  obtain ⟨hPj, hDj⟩ := va_join (wr := w2) (w1 := wf u) hP hD isC isR hC hR hnR hdis hk hF hP1 hD1
  exact kk r u H1 locs1 hp ⟨(hK.sub (tys' := t2) is2 hT2).app hK1, hPj, hDj, hS1, hA⟩
theorem g_callv {σ : Type} {wf : σ → va_W} {S : σ} {post : σ → Prop} (F : CallFix p m c cc nL s args lw_all own) (w : Wd D (wf S) tys A s H locs) (hM : MetGv l y b maxL rt d (.ref a :: As) D tys wf S post)
    (hc : vwCl[ci]? = some q) (hq : q.1 = C) (he : (wf S)[0]? = some (a, .inr (ci, fs))) (cw : CallW R s args own C idx y b maxL rt (ws_ y b maxL rt) (rmD d) 0 0 n) (hn : As.length = n) (hsz : ls.size = nL) (hst : st0 = As.reverse ++ .ref a :: rest) (hrm : (rest.map fun v => v.category).sum ≤ 8) (hdg : decode cc pc = .ok (.invokevirtual idx, 3)) (hcs : cells ≤ R.cells ∧ slots ≤ R.slots)
    (kk : ∀ (u : σ) (H1 : Heap) (locs1 : List Loc), post u → Wd D (wf u) tys A s H1 locs1 → W p l e R s m args below meth c H1 locs1 cells slots Q (F0 m (pc + 3) ls rest)) : W p l e R s m args below meth c H locs cells slots Q (F0 m pc ls st0) := by
  have hF := w.fr
  obtain ⟨hK, hP, hD, hS, hA⟩ := w
  subst hq
  refine va_callv (va_runV (As := As) (rest := rest) F (hM H.size) cw ⟨PcG.blind, va_recv hK hP hc he, fun U hU hW => ⟨rfl, by rw [hU], by rw [hU]; exact hP, va_K.moved hW.alike hK, hD.weaken (fun _ _ _ _ => trivial)⟩⟩ rfl hn hsz hst (lv_room hrm) hdg hcs) hS (fun x _ h => hF x h) hF (fun u t H1 locs1 ht hvm hp hB hz hk hS1 => ?_)
  obtain ⟨hP1, hK1, hD1⟩ := hB
  rw [ht] at hP1
  exact kk u H1 locs1 hp ⟨va_K.moved hvm.symm hK1, hP1, hD1.weaken (fun _ q _ h => hF q.1 h), hS1, hA⟩
theorem g_callLv {σ : Type} {wf : σ → va_W} {S : σ} {post : σ → Prop} {w2 : va_W} {t2 : List (ClassId × FieldType)} (F : CallFix p m c cc nL s args lw_all own) (w : Wd D (wf S ++ w2) (tys ++ t2) A s H locs) (isC isR isT is2 : List Nat)
    (hC : isC.map (fun i => (wf S ++ w2)[i]?) = (wf S).map some) (hR : isR.map (fun i => (wf S ++ w2)[i]?) = w2.map some) (hnC : va_nd isC = true) (hnR : va_nd isR = true) (hdis : ∀ i ∈ isR, i ∉ isC) (hfC : isC.filterMap (fun i => (wf S ++ w2)[i]?) = wf S) (hT : isT.filterMap (fun i => (tys ++ t2)[i]?) = tys) (hT2 : is2.filterMap (fun i => (tys ++ t2)[i]?) = t2)
    (hM : MetGv l y b maxL rt d (.ref a :: As) D tys wf S post)
    (hc : vwCl[ci]? = some q) (hq : q.1 = C) (he : (wf S)[0]? = some (a, .inr (ci, fs))) (cw : CallW R s args own C idx y b maxL rt (ws_ y b maxL rt) (rmD d) 0 0 n) (hn : As.length = n) (hsz : ls.size = nL) (hst : st0 = As.reverse ++ .ref a :: rest) (hrm : (rest.map fun v => v.category).sum ≤ 8) (hdg : decode cc pc = .ok (.invokevirtual idx, 3)) (hcs : cells ≤ R.cells ∧ slots ≤ R.slots)
    (kk : ∀ (u : σ) (H1 : Heap) (locs1 : List Loc), post u → Wd D (w2 ++ wf u) (t2 ++ tys) A s H1 locs1 → W p l e R s m args below meth c H1 locs1 cells slots Q (F0 m (pc + 3) ls rest)) : W p l e R s m args below meth c H locs cells slots Q (F0 m pc ls st0) := by
  obtain ⟨hK, hP, hD, hS, hA⟩ := w
  subst hq
  have hPc := hP.sub (ws' := wf S) isC hfC
  have hDc := hD.sub (ws' := wf S) isC hnC hC
  have hKc := hK.sub (tys' := tys) isT hT
  have hF := va_free (wc := wf S) hD hS hA isC hC
  refine va_callv (va_runV (As := As) (rest := rest) F (hM H.size) cw ⟨PcG.blind, va_recv hKc hPc hc he, fun U hU hW => ⟨rfl, by rw [hU], by rw [hU]; exact hPc, va_K.moved hW.alike hKc, hDc.weaken (fun _ _ _ _ => trivial)⟩⟩ rfl hn hsz hst (lv_room hrm) hdg hcs) hS (fun x _ h => hF x h) hF (fun u t H1 locs1 ht hvm hp hB hz hk hS1 => ?_)
  obtain ⟨hP1, hK1, hD1⟩ := hB
  rw [ht] at hP1
  have hK1 := va_K.moved hvm.symm hK1
  obtain ⟨hPj, hDj⟩ := va_join (wr := w2) (w1 := wf u) hP hD isC isR hC hR hnR hdis hk hF hP1 hD1
  exact kk u H1 locs1 hp ⟨(hK.sub (tys' := t2) is2 hT2).app hK1, hPj, hDj, hS1, hA⟩
theorem g_calll {σ : Type} {wf : σ → va_W} {S : σ} {post : Int64 → σ → Prop} (F : CallFix p m c cc nL s args lw_all own) (w : Wd D (wf S) tys A s H locs) (hM : MetGl l y b maxL rt d (.ref a :: As) D tys wf S post)
    (hc : vwCl[ci]? = some q) (hq : q.1 = C) (he : (wf S)[0]? = some (a, .inr (ci, fs))) (cw : CallW R s args own C idx y b maxL rt (ws_ y b maxL rt) (rmD d) 0 0 n) (hn : As.length = n) (hsz : ls.size = nL) (hst : st0 = As.reverse ++ .ref a :: rest) (hrm : (rest.map fun v => v.category).sum ≤ 8) (hdg : decode cc pc = .ok (.invokevirtual idx, 3)) (hcs : cells ≤ R.cells ∧ slots ≤ R.slots)
    (kk : ∀ (r : Int64) (u : σ) (H1 : Heap) (locs1 : List Loc), post r u → Wd D (wf u) tys A s H1 locs1 → W p l e R s m args below meth c H1 locs1 cells slots Q (F0 m (pc + 3) ls (.long r :: rest))) : W p l e R s m args below meth c H locs cells slots Q (F0 m pc ls st0) := by
  have hF := w.fr
  obtain ⟨hK, hP, hD, hS, hA⟩ := w
  subst hq
  refine va_calll (va_runV (As := As) (rest := rest) F (hM H.size) cw ⟨PcG.blind, va_recv hK hP hc he, fun U hU hW => ⟨rfl, by rw [hU], by rw [hU]; exact hP, va_K.moved hW.alike hK, hD.weaken (fun _ _ _ _ => trivial)⟩⟩ rfl hn hsz hst (lv_room hrm) hdg hcs) hS (fun x _ h => hF x h) hF (fun r u t H1 locs1 ht hvm hp hB hz hk hS1 => ?_)
  obtain ⟨hP1, hK1, hD1⟩ := hB
  rw [ht] at hP1
  exact kk r u H1 locs1 hp ⟨va_K.moved hvm.symm hK1, hP1, hD1.weaken (fun _ q _ h => hF q.1 h), hS1, hA⟩
theorem g_callLl {σ : Type} {wf : σ → va_W} {S : σ} {post : Int64 → σ → Prop} {w2 : va_W} {t2 : List (ClassId × FieldType)} (F : CallFix p m c cc nL s args lw_all own) (w : Wd D (wf S ++ w2) (tys ++ t2) A s H locs) (isC isR isT is2 : List Nat)
    (hC : isC.map (fun i => (wf S ++ w2)[i]?) = (wf S).map some) (hR : isR.map (fun i => (wf S ++ w2)[i]?) = w2.map some) (hnC : va_nd isC = true) (hnR : va_nd isR = true) (hdis : ∀ i ∈ isR, i ∉ isC) (hfC : isC.filterMap (fun i => (wf S ++ w2)[i]?) = wf S) (hT : isT.filterMap (fun i => (tys ++ t2)[i]?) = tys) (hT2 : is2.filterMap (fun i => (tys ++ t2)[i]?) = t2)
    (hM : MetGl l y b maxL rt d (.ref a :: As) D tys wf S post)
    (hc : vwCl[ci]? = some q) (hq : q.1 = C) (he : (wf S)[0]? = some (a, .inr (ci, fs))) (cw : CallW R s args own C idx y b maxL rt (ws_ y b maxL rt) (rmD d) 0 0 n) (hn : As.length = n) (hsz : ls.size = nL) (hst : st0 = As.reverse ++ .ref a :: rest) (hrm : (rest.map fun v => v.category).sum ≤ 8) (hdg : decode cc pc = .ok (.invokevirtual idx, 3)) (hcs : cells ≤ R.cells ∧ slots ≤ R.slots)
    (kk : ∀ (r : Int64) (u : σ) (H1 : Heap) (locs1 : List Loc), post r u → Wd D (w2 ++ wf u) (t2 ++ tys) A s H1 locs1 → W p l e R s m args below meth c H1 locs1 cells slots Q (F0 m (pc + 3) ls (.long r :: rest))) : W p l e R s m args below meth c H locs cells slots Q (F0 m pc ls st0) := by
  obtain ⟨hK, hP, hD, hS, hA⟩ := w
  subst hq
  have hPc := hP.sub (ws' := wf S) isC hfC
  have hDc := hD.sub (ws' := wf S) isC hnC hC
  have hKc := hK.sub (tys' := tys) isT hT
  have hF := va_free (wc := wf S) hD hS hA isC hC
  refine va_calll (va_runV (As := As) (rest := rest) F (hM H.size) cw ⟨PcG.blind, va_recv hKc hPc hc he, fun U hU hW => ⟨rfl, by rw [hU], by rw [hU]; exact hPc, va_K.moved hW.alike hKc, hDc.weaken (fun _ _ _ _ => trivial)⟩⟩ rfl hn hsz hst (lv_room hrm) hdg hcs) hS (fun x _ h => hF x h) hF (fun r u t H1 locs1 ht hvm hp hB hz hk hS1 => ?_)
  obtain ⟨hP1, hK1, hD1⟩ := hB
  rw [ht] at hP1
  have hK1 := va_K.moved hvm.symm hK1
  obtain ⟨hPj, hDj⟩ := va_join (wr := w2) (w1 := wf u) hP hD isC isR hC hR hnR hdis hk hF hP1 hD1
  exact kk r u H1 locs1 hp ⟨(hK.sub (tys' := t2) is2 hT2).app hK1, hPj, hDj, hS1, hA⟩
theorem bI_0 {b : Bool} : bI b = 0 ↔ b = false := by
  cases b
  · exact ⟨fun _ => rfl, fun _ => rfl⟩
  · exact ⟨fun h => absurd h (by decide), fun h => absurd h (by decide)⟩
theorem bI_1 {b : Bool} : ¬ bI b = 0 ↔ b = true := by
  cases b
  · exact ⟨fun h => absurd rfl h, fun h => absurd h (by decide)⟩
  · exact ⟨fun _ => rfl, fun _ => by decide⟩
/-- the int on top, by another name -/
theorem tp_i {x y : Int32} (h : x = y) (k : W p l e R s m args below meth c H locs cells slots Q (F0 m pc ls (.int y :: rest))) : W p l e R s m args below meth c H locs cells slots Q (F0 m pc ls (.int x :: rest)) := h ▸ k
theorem b_ge (F : CallFix p m c cc nL s args lw_all own) {a b : Nat} {off : Int} {tgt : Nat} (hdg : decode cc pc = .ok (.if_icmp .ge off, 3)) (ht : (pc : Int) + off = (tgt : Int)) (ha : a < 2 ^ 31) (hb : b < 2 ^ 31)
    (kt : b ≤ a → W p l e R s m args below meth c H locs cells slots Q (F0 m tgt ls rest)) (kf : a < b → W p l e R s m args below meth c H locs cells slots Q (F0 m (pc + 3) ls rest)) : W p l e R s m args below meth c H locs cells slots Q (F0 m pc ls (.int (nI b) :: .int (nI a) :: rest)) :=
  lv_icmp_ge F.1 F.2.1 hdg ht (fun h => kt ((nI_leI hb ha).mp h)) (fun h => kf (Nat.lt_of_not_le (fun z => h ((nI_leI hb ha).mpr z))))
theorem b_le (F : CallFix p m c cc nL s args lw_all own) {a b : Nat} {off : Int} {tgt : Nat} (hdg : decode cc pc = .ok (.if_icmp .le off, 3)) (ht : (pc : Int) + off = (tgt : Int)) (ha : a < 2 ^ 31) (hb : b < 2 ^ 31)
    (kt : a ≤ b → W p l e R s m args below meth c H locs cells slots Q (F0 m tgt ls rest)) (kf : b < a → W p l e R s m args below meth c H locs cells slots Q (F0 m (pc + 3) ls rest)) : W p l e R s m args below meth c H locs cells slots Q (F0 m pc ls (.int (nI b) :: .int (nI a) :: rest)) :=
  lv_icmp_le F.1 F.2.1 hdg ht (fun h => kt ((nI_leI ha hb).mp h)) (fun h => kf (Nat.lt_of_not_le (fun z => h ((nI_leI ha hb).mpr z))))
theorem b_lt (F : CallFix p m c cc nL s args lw_all own) {a b : Nat} {off : Int} {tgt : Nat} (hdg : decode cc pc = .ok (.if_icmp .lt off, 3)) (ht : (pc : Int) + off = (tgt : Int)) (ha : a < 2 ^ 31) (hb : b < 2 ^ 31)
    (kt : a < b → W p l e R s m args below meth c H locs cells slots Q (F0 m tgt ls rest)) (kf : b ≤ a → W p l e R s m args below meth c H locs cells slots Q (F0 m (pc + 3) ls rest)) : W p l e R s m args below meth c H locs cells slots Q (F0 m pc ls (.int (nI b) :: .int (nI a) :: rest)) :=
  lv_icmp_lt F.1 F.2.1 hdg ht (fun h => kt ((nI_ltI ha hb).mp h)) (fun h => kf (Nat.le_of_not_lt (fun z => h ((nI_ltI ha hb).mpr z))))
theorem b_gt (F : CallFix p m c cc nL s args lw_all own) {a b : Nat} {off : Int} {tgt : Nat} (hdg : decode cc pc = .ok (.if_icmp .gt off, 3)) (ht : (pc : Int) + off = (tgt : Int)) (ha : a < 2 ^ 31) (hb : b < 2 ^ 31)
    (kt : b < a → W p l e R s m args below meth c H locs cells slots Q (F0 m tgt ls rest)) (kf : a ≤ b → W p l e R s m args below meth c H locs cells slots Q (F0 m (pc + 3) ls rest)) : W p l e R s m args below meth c H locs cells slots Q (F0 m pc ls (.int (nI b) :: .int (nI a) :: rest)) :=
  lv_icmp_gt F.1 F.2.1 hdg ht (fun h => kt ((nI_ltI hb ha).mp h)) (fun h => kf (Nat.le_of_not_lt (fun z => h ((nI_ltI hb ha).mpr z))))
theorem b_eq (F : CallFix p m c cc nL s args lw_all own) {a b : Nat} {off : Int} {tgt : Nat} (hdg : decode cc pc = .ok (.if_icmp .eq off, 3)) (ht : (pc : Int) + off = (tgt : Int)) (ha : a < 2 ^ 31) (hb : b < 2 ^ 31)
    (kt : a = b → W p l e R s m args below meth c H locs cells slots Q (F0 m tgt ls rest)) (kf : a ≠ b → W p l e R s m args below meth c H locs cells slots Q (F0 m (pc + 3) ls rest)) : W p l e R s m args below meth c H locs cells slots Q (F0 m pc ls (.int (nI b) :: .int (nI a) :: rest)) :=
  lv_icmp_eq F.1 F.2.1 hdg ht (fun h => kt ((nI_eq ha hb).mp h)) (fun h => kf (fun z => h ((nI_eq ha hb).mpr z)))
theorem b_ne (F : CallFix p m c cc nL s args lw_all own) {a b : Nat} {off : Int} {tgt : Nat} (hdg : decode cc pc = .ok (.if_icmp .ne off, 3)) (ht : (pc : Int) + off = (tgt : Int)) (ha : a < 2 ^ 31) (hb : b < 2 ^ 31)
    (kt : a ≠ b → W p l e R s m args below meth c H locs cells slots Q (F0 m tgt ls rest)) (kf : a = b → W p l e R s m args below meth c H locs cells slots Q (F0 m (pc + 3) ls rest)) : W p l e R s m args below meth c H locs cells slots Q (F0 m pc ls (.int (nI b) :: .int (nI a) :: rest)) :=
  lv_icmp_ne F.1 F.2.1 hdg ht (fun h => kt (fun z => h ((nI_eq ha hb).mpr z))) (fun h => kf ((nI_eq ha hb).mp h))
theorem z_eq (F : CallFix p m c cc nL s args lw_all own) {b : Bool} {off : Int} {tgt : Nat} (hdg : decode cc pc = .ok (.ifCond .eq off, 3)) (ht : (pc : Int) + off = (tgt : Int))
    (kt : b = false → W p l e R s m args below meth c H locs cells slots Q (F0 m tgt ls rest)) (kf : b = true → W p l e R s m args below meth c H locs cells slots Q (F0 m (pc + 3) ls rest)) : W p l e R s m args below meth c H locs cells slots Q (F0 m pc ls (.int (bI b) :: rest)) :=
  lv_if_eq F.1 F.2.1 hdg ht (fun h => kt (bI_0.mp h)) (fun h => kf (bI_1.mp h))
theorem n_eq (F : CallFix p m c cc nL s args lw_all own) {a : Nat} {off : Int} {tgt : Nat} (hdg : decode cc pc = .ok (.ifCond .eq off, 3)) (ht : (pc : Int) + off = (tgt : Int)) (ha : a < 2 ^ 31)
    (kt : a = 0 → W p l e R s m args below meth c H locs cells slots Q (F0 m tgt ls rest)) (kf : a ≠ 0 → W p l e R s m args below meth c H locs cells slots Q (F0 m (pc + 3) ls rest)) : W p l e R s m args below meth c H locs cells slots Q (F0 m pc ls (.int (nI a) :: rest)) :=
  lv_if_eq F.1 F.2.1 hdg ht (fun h => kt ((nI_eq ha (by decide)).mp h)) (fun h => kf (fun z => h (by rw [z]; rfl)))
theorem z_ne (F : CallFix p m c cc nL s args lw_all own) {b : Bool} {off : Int} {tgt : Nat} (hdg : decode cc pc = .ok (.ifCond .ne off, 3)) (ht : (pc : Int) + off = (tgt : Int))
    (kt : b = true → W p l e R s m args below meth c H locs cells slots Q (F0 m tgt ls rest)) (kf : b = false → W p l e R s m args below meth c H locs cells slots Q (F0 m (pc + 3) ls rest)) : W p l e R s m args below meth c H locs cells slots Q (F0 m pc ls (.int (bI b) :: rest)) :=
  lv_if_ne F.1 F.2.1 hdg ht (fun h => kt (bI_1.mp h)) (fun h => kf (bI_0.mp h))
theorem n_ne (F : CallFix p m c cc nL s args lw_all own) {a : Nat} {off : Int} {tgt : Nat} (hdg : decode cc pc = .ok (.ifCond .ne off, 3)) (ht : (pc : Int) + off = (tgt : Int)) (ha : a < 2 ^ 31)
    (kt : a ≠ 0 → W p l e R s m args below meth c H locs cells slots Q (F0 m tgt ls rest)) (kf : a = 0 → W p l e R s m args below meth c H locs cells slots Q (F0 m (pc + 3) ls rest)) : W p l e R s m args below meth c H locs cells slots Q (F0 m pc ls (.int (nI a) :: rest)) :=
  lv_if_ne F.1 F.2.1 hdg ht (fun h => kt (fun z => h (by rw [z]; rfl))) (fun h => kf ((nI_eq ha (by decide)).mp h))
theorem oI_lt {o : Option Nat} (ho : ∀ k, o = some k → k < 2 ^ 31) : oI o < 0 ↔ o = none := by
  cases o with
  | none => exact ⟨fun _ => rfl, fun _ => by decide⟩
  | some k => exact ⟨fun h => absurd h (nI_pos (ho k rfl)), fun h => (by cases h)⟩
theorem oI_ge {o : Option Nat} (ho : ∀ k, o = some k → k < 2 ^ 31) : 0 ≤ oI o ↔ o ≠ none := by
  cases o with
  | none => exact ⟨fun h => absurd h (by decide), fun h => absurd rfl h⟩
  | some k => exact ⟨fun _ h => (by cases h), fun _ => nI_pos' (ho k rfl)⟩
theorem oI_eq {o : Option Nat} {a : Nat} (ho : ∀ k, o = some k → k < 2 ^ 31) (ha : a < 2 ^ 31) : oI o = nI a ↔ o = some a := by
  cases o with
  | none => exact ⟨fun h => absurd ((oI_lt (o := none) ho).mpr rfl) (by rw [h]; exact nI_pos ha), fun h => (by cases h)⟩
  | some k => exact ⟨fun h => by rw [(nI_eq (ho k rfl) ha).mp h], fun h => by cases h; rfl⟩
/-- iflt, ifge on a place or none -/
theorem o_lt (F : CallFix p m c cc nL s args lw_all own) {o : Option Nat} {off : Int} {tgt : Nat} (hdg : decode cc pc = .ok (.ifCond .lt off, 3)) (ht : (pc : Int) + off = (tgt : Int)) (ho : ∀ k, o = some k → k < 2 ^ 31)
    (kt : o = none → W p l e R s m args below meth c H locs cells slots Q (F0 m tgt ls rest)) (kf : ∀ k, o = some k → W p l e R s m args below meth c H locs cells slots Q (F0 m (pc + 3) ls rest)) : W p l e R s m args below meth c H locs cells slots Q (F0 m pc ls (.int (oI o) :: rest)) := by
  refine lv_if_lt F.1 F.2.1 hdg ht (fun h => kt ((oI_lt ho).mp h)) (fun h => ?_)
  cases o with
  | none => exact absurd ((oI_lt ho).mpr rfl) h
  | some k => exact kf k rfl
theorem o_ge (F : CallFix p m c cc nL s args lw_all own) {o : Option Nat} {off : Int} {tgt : Nat} (hdg : decode cc pc = .ok (.ifCond .ge off, 3)) (ht : (pc : Int) + off = (tgt : Int)) (ho : ∀ k, o = some k → k < 2 ^ 31)
    (kt : ∀ k, o = some k → W p l e R s m args below meth c H locs cells slots Q (F0 m tgt ls rest)) (kf : o = none → W p l e R s m args below meth c H locs cells slots Q (F0 m (pc + 3) ls rest)) : W p l e R s m args below meth c H locs cells slots Q (F0 m pc ls (.int (oI o) :: rest)) := by
  refine lv_if_ge F.1 F.2.1 hdg ht (fun h => ?_) (fun h => kf ?_)
  · cases o with
    | none => exact absurd rfl ((oI_ge ho).mp h)
    | some k => exact kt k rfl
  · cases o with
    | none => rfl
    | some k => exact absurd ((oI_ge ho).mpr (fun z => by cases z)) h
theorem o_ne (F : CallFix p m c cc nL s args lw_all own) {o : Option Nat} {a : Nat} {off : Int} {tgt : Nat} (hdg : decode cc pc = .ok (.if_icmp .ne off, 3)) (ht : (pc : Int) + off = (tgt : Int)) (ho : ∀ k, o = some k → k < 2 ^ 31) (ha : a < 2 ^ 31)
    (kt : o ≠ some a → W p l e R s m args below meth c H locs cells slots Q (F0 m tgt ls rest)) (kf : o = some a → W p l e R s m args below meth c H locs cells slots Q (F0 m (pc + 3) ls rest)) : W p l e R s m args below meth c H locs cells slots Q (F0 m pc ls (.int (nI a) :: .int (oI o) :: rest)) :=
  lv_icmp_ne F.1 F.2.1 hdg ht (fun h => kt (fun z => h ((oI_eq ho ha).mpr z))) (fun h => kf ((oI_eq ho ha).mp h))
end GC
theorem upd_fu {α : Type} (g : α → Int32) (f : Nat → α) (k : Nat) (v : α) : upd (fun i => g (f i)) k (g v) = fun i => g (fu f k v i) := by
  funext j
  simp only [upd, fu]
  split <;> rfl
theorem nb_i : ∀ v, v < 128 → (nI v).toInt8.toInt32 = nI v := by decide +kernel
theorem nb_n {v : Nat} (h : v < 128) : vp_nar .byte (nI v) = nI v := nb_i v h
theorem nb_o {o : Option Nat} (h : ∀ k, o = some k → k < 128) : vp_nar .byte (oI o) = oI o := by
  cases o with
  | none => decide
  | some k => exact nb_i k (h k rfl)
theorem nz_b (b : Bool) : vp_nar .boolean (bI b) = bI b := by cases b <;> decide
theorem ninc (k : Nat) : nI k + Int32.ofInt 1 = nI (k + 1) := nI_1 k
section RF
variable {p : Program} {l : Launch} {e : Env} {R : Room} {s : State} {m : MethodId} {args : Array Value} {below : List Frame} {meth : Method} {c : Code} {H : Heap} {locs : List Loc} {cells slots : Nat} {Q : State → Prop}
variable {cc : ByteArray} {nL pc : Nat} {ls : Array Slot} {rest : List Value} {A : Nat → Prop} {G : FG} {S : FS}
theorem f_gSt (F : CallFix p m c cc nL s args lw_all RX1) (w : WdF G S A s H locs) (hdg : decode cc pc = .ok (.getfield 7, 3)) (kk : W p l e R s m args below meth c H locs cells slots Q (F0 m (pc + 3) ls (.ref (G.2.1 1) :: rest))) : W p l e R s m args below meth c H locs cells slots Q (F0 m pc ls (.ref (G.2.1 0) :: rest)) :=
  va_get (D := G.1) (ci := 0) (v := .ref (G.2.1 1)) (C := RX1) (T := TX1) (N := 10) F.1 F.2.1 F.2.2.2.2 in_X1 F.2.2.2.1 w.1 w.2.1 0 rfl rfl 0 (by decide) (F.2.2.2.2 _ q34) (fun _ h9 => h9) rfl hdg kk
theorem f_gDa (F : CallFix p m c cc nL s args lw_all RX1) (w : WdF G S A s H locs) (hdg : decode cc pc = .ok (.getfield 13, 3)) (kk : W p l e R s m args below meth c H locs cells slots Q (F0 m (pc + 3) ls (.ref (G.2.1 2) :: rest))) : W p l e R s m args below meth c H locs cells slots Q (F0 m pc ls (.ref (G.2.1 0) :: rest)) :=
  va_get (D := G.1) (ci := 0) (v := .ref (G.2.1 2)) (C := RX1) (T := TX1) (N := 10) F.1 F.2.1 F.2.2.2.2 in_X1 F.2.2.2.1 w.1 w.2.1 0 rfl rfl 1 (by decide) (F.2.2.2.2 _ q35) (fun _ h9 => h9) rfl hdg kk
theorem f_gLo (F : CallFix p m c cc nL s args lw_all RX1) (w : WdF G S A s H locs) (hdg : decode cc pc = .ok (.getfield 17, 3)) (kk : W p l e R s m args below meth c H locs cells slots Q (F0 m (pc + 3) ls (.ref (G.2.1 3) :: rest))) : W p l e R s m args below meth c H locs cells slots Q (F0 m pc ls (.ref (G.2.1 0) :: rest)) :=
  va_get (D := G.1) (ci := 0) (v := .ref (G.2.1 3)) (C := RX1) (T := TX1) (N := 10) F.1 F.2.1 F.2.2.2.2 in_X1 F.2.2.2.1 w.1 w.2.1 0 rfl rfl 2 (by decide) (F.2.2.2.2 _ q36) (fun _ h9 => h9) rfl hdg kk
theorem f_gEm (F : CallFix p m c cc nL s args lw_all RX1) (w : WdF G S A s H locs) (hdg : decode cc pc = .ok (.getfield 20, 3)) (kk : W p l e R s m args below meth c H locs cells slots Q (F0 m (pc + 3) ls (.ref (G.2.1 4) :: rest))) : W p l e R s m args below meth c H locs cells slots Q (F0 m pc ls (.ref (G.2.1 0) :: rest)) :=
  va_get (D := G.1) (ci := 0) (v := .ref (G.2.1 4)) (C := RX1) (T := TX1) (N := 10) F.1 F.2.1 F.2.2.2.2 in_X1 F.2.2.2.1 w.1 w.2.1 0 rfl rfl 3 (by decide) (F.2.2.2.2 _ q37) (fun _ h9 => h9) rfl hdg kk
theorem f_gRu (F : CallFix p m c cc nL s args lw_all RX1) (w : WdF G S A s H locs) (hdg : decode cc pc = .ok (.getfield 24, 3)) (kk : W p l e R s m args below meth c H locs cells slots Q (F0 m (pc + 3) ls (.ref (G.2.1 5) :: rest))) : W p l e R s m args below meth c H locs cells slots Q (F0 m pc ls (.ref (G.2.1 0) :: rest)) :=
  va_get (D := G.1) (ci := 0) (v := .ref (G.2.1 5)) (C := RX1) (T := TX1) (N := 10) F.1 F.2.1 F.2.2.2.2 in_X1 F.2.2.2.1 w.1 w.2.1 0 rfl rfl 4 (by decide) (F.2.2.2.2 _ q38) (fun _ h9 => h9) rfl hdg kk
theorem f_gEr (F : CallFix p m c cc nL s args lw_all RX1) (w : WdF G S A s H locs) (hdg : decode cc pc = .ok (.getfield 27, 3)) (kk : W p l e R s m args below meth c H locs cells slots Q (F0 m (pc + 3) ls (.ref (G.2.1 6) :: rest))) : W p l e R s m args below meth c H locs cells slots Q (F0 m pc ls (.ref (G.2.1 0) :: rest)) :=
  va_get (D := G.1) (ci := 0) (v := .ref (G.2.1 6)) (C := RX1) (T := TX1) (N := 10) F.1 F.2.1 F.2.2.2.2 in_X1 F.2.2.2.1 w.1 w.2.1 0 rfl rfl 5 (by decide) (F.2.2.2.2 _ q39) (fun _ h9 => h9) rfl hdg kk
theorem f_gSp (F : CallFix p m c cc nL s args lw_all RX1) (w : WdF G S A s H locs) (hdg : decode cc pc = .ok (.getfield 33, 3)) (kk : W p l e R s m args below meth c H locs cells slots Q (F0 m (pc + 3) ls (.int (nI (fSp S)) :: rest))) : W p l e R s m args below meth c H locs cells slots Q (F0 m pc ls (.ref (G.2.1 0) :: rest)) :=
  va_get (D := G.1) (ci := 0) (v := .int (nI (fSp S))) (C := RX1) (T := TX1) (N := 10) F.1 F.2.1 F.2.2.2.2 in_X1 F.2.2.2.1 w.1 w.2.1 0 rfl rfl 6 (by decide) (F.2.2.2.2 _ q40) (fun _ h9 => h9) rfl hdg kk
theorem f_pSp (F : CallFix p m c cc nL s args lw_all RX1) (w : WdF G S A s H locs) (x : Nat) (hdg : decode cc pc = .ok (.putfield 33, 3)) (kk : ∀ (H1 : Heap) (locs1 : List Loc), WdF G (uSp S x) A s H1 locs1 → W p l e R s m args below meth c H1 locs1 cells slots Q (F0 m (pc + 3) ls rest)) : W p l e R s m args below meth c H locs cells slots Q (F0 m pc ls (.int (nI x) :: .ref (G.2.1 0) :: rest)) :=
  va_put (D := G.1) (ci := 0) (v := .int (nI x)) (ty := .int) (C := RX1) (T := TX1) (N := 10) F.1 F.2.1 F.2.2.2.2 in_X1 tyX1 tyX1_ok nmX1 F.2.2.2.1 w.1 w.2.1 w.2.2.1 w.2.2.2.1 0 rfl rfl 6 (by decide) (F.2.2.2.2 _ q40) (fun _ h9 => h9) rfl (by decide +kernel) rfl rfl (Nat.le_of_ble_eq_true rfl) hdg (fun H1 locs1 hP hD hS => kk H1 locs1 ⟨w.1, hP, hD, hS, w.2.2.2.2⟩)
theorem f_gPl (F : CallFix p m c cc nL s args lw_all RX1) (w : WdF G S A s H locs) (hdg : decode cc pc = .ok (.getfield 30, 3)) (kk : W p l e R s m args below meth c H locs cells slots Q (F0 m (pc + 3) ls (.ref (G.2.1 7) :: rest))) : W p l e R s m args below meth c H locs cells slots Q (F0 m pc ls (.ref (G.2.1 0) :: rest)) :=
  va_get (D := G.1) (ci := 0) (v := .ref (G.2.1 7)) (C := RX1) (T := TX1) (N := 10) F.1 F.2.1 F.2.2.2.2 in_X1 F.2.2.2.1 w.1 w.2.1 0 rfl rfl 7 (by decide) (F.2.2.2.2 _ q41) (fun _ h9 => h9) rfl hdg kk
theorem f_gOb (F : CallFix p m c cc nL s args lw_all RX1) (w : WdF G S A s H locs) (hdg : decode cc pc = .ok (.getfield 87, 3)) (kk : W p l e R s m args below meth c H locs cells slots Q (F0 m (pc + 3) ls (.int (oI (fOb S)) :: rest))) : W p l e R s m args below meth c H locs cells slots Q (F0 m pc ls (.ref (G.2.1 0) :: rest)) :=
  va_get (D := G.1) (ci := 0) (v := .int (oI (fOb S))) (C := RX1) (T := TX1) (N := 10) F.1 F.2.1 F.2.2.2.2 in_X1 F.2.2.2.1 w.1 w.2.1 0 rfl rfl 8 (by decide) (F.2.2.2.2 _ q42) (fun _ h9 => h9) rfl hdg kk
theorem f_pOb (F : CallFix p m c cc nL s args lw_all RX1) (w : WdF G S A s H locs) (x : Option Nat) (hdg : decode cc pc = .ok (.putfield 87, 3)) (kk : ∀ (H1 : Heap) (locs1 : List Loc), WdF G (uOb S x) A s H1 locs1 → W p l e R s m args below meth c H1 locs1 cells slots Q (F0 m (pc + 3) ls rest)) : W p l e R s m args below meth c H locs cells slots Q (F0 m pc ls (.int (oI x) :: .ref (G.2.1 0) :: rest)) :=
  va_put (D := G.1) (ci := 0) (v := .int (oI x)) (ty := .int) (C := RX1) (T := TX1) (N := 10) F.1 F.2.1 F.2.2.2.2 in_X1 tyX1 tyX1_ok nmX1 F.2.2.2.1 w.1 w.2.1 w.2.2.1 w.2.2.2.1 0 rfl rfl 8 (by decide) (F.2.2.2.2 _ q42) (fun _ h9 => h9) rfl (by decide +kernel) rfl rfl (Nat.le_of_ble_eq_true rfl) hdg (fun H1 locs1 hP hD hS => kk H1 locs1 ⟨w.1, hP, hD, hS, w.2.2.2.2⟩)
theorem f_gNn (F : CallFix p m c cc nL s args lw_all RX1) (w : WdF G S A s H locs) (hdg : decode cc pc = .ok (.getfield 55, 3)) (kk : W p l e R s m args below meth c H locs cells slots Q (F0 m (pc + 3) ls (.int (nI (fNn S)) :: rest))) : W p l e R s m args below meth c H locs cells slots Q (F0 m pc ls (.ref (G.2.1 0) :: rest)) :=
  va_get (D := G.1) (ci := 0) (v := .int (nI (fNn S))) (C := RX1) (T := TX1) (N := 10) F.1 F.2.1 F.2.2.2.2 in_X1 F.2.2.2.1 w.1 w.2.1 0 rfl rfl 9 (by decide) (F.2.2.2.2 _ q43) (fun _ h9 => h9) rfl hdg kk
theorem f_pNn (F : CallFix p m c cc nL s args lw_all RX1) (w : WdF G S A s H locs) (x : Nat) (hdg : decode cc pc = .ok (.putfield 55, 3)) (kk : ∀ (H1 : Heap) (locs1 : List Loc), WdF G (uNn S x) A s H1 locs1 → W p l e R s m args below meth c H1 locs1 cells slots Q (F0 m (pc + 3) ls rest)) : W p l e R s m args below meth c H locs cells slots Q (F0 m pc ls (.int (nI x) :: .ref (G.2.1 0) :: rest)) :=
  va_put (D := G.1) (ci := 0) (v := .int (nI x)) (ty := .int) (C := RX1) (T := TX1) (N := 10) F.1 F.2.1 F.2.2.2.2 in_X1 tyX1 tyX1_ok nmX1 F.2.2.2.1 w.1 w.2.1 w.2.2.1 w.2.2.2.1 0 rfl rfl 9 (by decide) (F.2.2.2.2 _ q43) (fun _ h9 => h9) rfl (by decide +kernel) rfl rfl (Nat.le_of_ble_eq_true rfl) hdg (fun H1 locs1 hP hD hS => kk H1 locs1 ⟨w.1, hP, hD, hS, w.2.2.2.2⟩)
theorem f_lSt (F : CallFix p m c cc nL s args lw_all RX1) (w : WdF G S A s H locs) {k : Nat} (hk : k < 32) (hdg : decode cc pc = .ok (.baload, 1)) (kk : W p l e R s m args below meth c H locs cells slots Q (F0 m (pc + 1) ls (.int (nI (fSt S k)) :: rest))) : W p l e R s m args below meth c H locs cells slots Q (F0 m pc ls (.int (nI k) :: .ref (G.2.1 1) :: rest)) := by
  refine va_bald F.1 F.2.1 w.1 w.2.1 1 0 rfl rfl (vp_in_nI hk (by decide)) hdg ?_
  rw [nI_clamp (by omega)]
  exact kk
theorem f_sSt (F : CallFix p m c cc nL s args lw_all RX1) (w : WdF G S A s H locs) {k : Nat} (x : Nat) (hk : k < 32) (hx : x < 128) (hdg : decode cc pc = .ok (.bastore, 1)) (kk : ∀ (H1 : Heap) (locs1 : List Loc), WdF G (uSt S (fu (fSt S) k x)) A s H1 locs1 → W p l e R s m args below meth c H1 locs1 cells slots Q (F0 m (pc + 1) ls rest)) : W p l e R s m args below meth c H locs cells slots Q (F0 m pc ls (.int (nI x) :: .int (nI k) :: .ref (G.2.1 1) :: rest)) := by
  have e1 : upd (fun i => nI (fSt S i)) (nI k).toNatClampNeg (vp_nar .byte (nI x)) = fun i => nI (fu (fSt S) k x i) := by
    rw [nI_clamp (by omega), nb_n hx]
    exact upd_fu (g := nI) _ k x
  refine va_bast F.1 F.2.1 w.1 w.2.1 w.2.2.1 w.2.2.2.1 1 0 rfl rfl (vp_in_nI hk (by decide)) hdg (fun H1 locs1 hP hD hS => ?_)
  rw [e1] at hP hD
  exact kk H1 locs1 ⟨w.1, hP, hD, hS, w.2.2.2.2⟩
theorem f_lDa (F : CallFix p m c cc nL s args lw_all RX1) (w : WdF G S A s H locs) {k : Nat} (hk : k < 32) (hdg : decode cc pc = .ok (.iaload, 1)) (kk : W p l e R s m args below meth c H locs cells slots Q (F0 m (pc + 1) ls (.int (fDa S k) :: rest))) : W p l e R s m args below meth c H locs cells slots Q (F0 m pc ls (.int (nI k) :: .ref (G.2.1 2) :: rest)) := by
  refine va_iald F.1 F.2.1 w.1 w.2.1 2 1 rfl rfl (vp_in_nI hk (by decide)) hdg ?_
  rw [nI_clamp (by omega)]
  exact kk
theorem f_sDa (F : CallFix p m c cc nL s args lw_all RX1) (w : WdF G S A s H locs) {k : Nat} (x : Int32) (hk : k < 32) (hdg : decode cc pc = .ok (.iastore, 1)) (kk : ∀ (H1 : Heap) (locs1 : List Loc), WdF G (uDa S (fu (fDa S) k x)) A s H1 locs1 → W p l e R s m args below meth c H1 locs1 cells slots Q (F0 m (pc + 1) ls rest)) : W p l e R s m args below meth c H locs cells slots Q (F0 m pc ls (.int (x) :: .int (nI k) :: .ref (G.2.1 2) :: rest)) := by
  have e1 : upd (fun i => fDa S i) (nI k).toNatClampNeg x = fun i => fu (fDa S) k x i := by
    rw [nI_clamp (by omega)]
    exact upd_fu (g := fun z => z) _ k x
  refine va_iast F.1 F.2.1 w.1 w.2.1 w.2.2.1 w.2.2.2.1 2 1 rfl rfl (vp_in_nI hk (by decide)) hdg (fun H1 locs1 hP hD hS => ?_)
  rw [e1] at hP hD
  exact kk H1 locs1 ⟨w.1, hP, hD, hS, w.2.2.2.2⟩
theorem f_lLo (F : CallFix p m c cc nL s args lw_all RX1) (w : WdF G S A s H locs) {k : Nat} (hk : k < 32) (hdg : decode cc pc = .ok (.baload, 1)) (kk : W p l e R s m args below meth c H locs cells slots Q (F0 m (pc + 1) ls (.int (nI (fLo S k)) :: rest))) : W p l e R s m args below meth c H locs cells slots Q (F0 m pc ls (.int (nI k) :: .ref (G.2.1 3) :: rest)) := by
  refine va_bald F.1 F.2.1 w.1 w.2.1 3 2 rfl rfl (vp_in_nI hk (by decide)) hdg ?_
  rw [nI_clamp (by omega)]
  exact kk
theorem f_sLo (F : CallFix p m c cc nL s args lw_all RX1) (w : WdF G S A s H locs) {k : Nat} (x : Nat) (hk : k < 32) (hx : x < 128) (hdg : decode cc pc = .ok (.bastore, 1)) (kk : ∀ (H1 : Heap) (locs1 : List Loc), WdF G (uLo S (fu (fLo S) k x)) A s H1 locs1 → W p l e R s m args below meth c H1 locs1 cells slots Q (F0 m (pc + 1) ls rest)) : W p l e R s m args below meth c H locs cells slots Q (F0 m pc ls (.int (nI x) :: .int (nI k) :: .ref (G.2.1 3) :: rest)) := by
  have e1 : upd (fun i => nI (fLo S i)) (nI k).toNatClampNeg (vp_nar .byte (nI x)) = fun i => nI (fu (fLo S) k x i) := by
    rw [nI_clamp (by omega), nb_n hx]
    exact upd_fu (g := nI) _ k x
  refine va_bast F.1 F.2.1 w.1 w.2.1 w.2.2.1 w.2.2.2.1 3 2 rfl rfl (vp_in_nI hk (by decide)) hdg (fun H1 locs1 hP hD hS => ?_)
  rw [e1] at hP hD
  exact kk H1 locs1 ⟨w.1, hP, hD, hS, w.2.2.2.2⟩
theorem f_lEm (F : CallFix p m c cc nL s args lw_all RX1) (w : WdF G S A s H locs) {k : Nat} (hk : k < 32) (hdg : decode cc pc = .ok (.baload, 1)) (kk : W p l e R s m args below meth c H locs cells slots Q (F0 m (pc + 1) ls (.int (bI (fEm S k)) :: rest))) : W p l e R s m args below meth c H locs cells slots Q (F0 m pc ls (.int (nI k) :: .ref (G.2.1 4) :: rest)) := by
  refine va_zald F.1 F.2.1 w.1 w.2.1 4 3 rfl rfl (vp_in_nI hk (by decide)) hdg ?_
  rw [nI_clamp (by omega)]
  exact kk
theorem f_sEm (F : CallFix p m c cc nL s args lw_all RX1) (w : WdF G S A s H locs) {k : Nat} (x : Bool) (hk : k < 32) (hdg : decode cc pc = .ok (.bastore, 1)) (kk : ∀ (H1 : Heap) (locs1 : List Loc), WdF G (uEm S (fu (fEm S) k x)) A s H1 locs1 → W p l e R s m args below meth c H1 locs1 cells slots Q (F0 m (pc + 1) ls rest)) : W p l e R s m args below meth c H locs cells slots Q (F0 m pc ls (.int (bI x) :: .int (nI k) :: .ref (G.2.1 4) :: rest)) := by
  have e1 : upd (fun i => bI (fEm S i)) (nI k).toNatClampNeg (vp_nar .boolean (bI x)) = fun i => bI (fu (fEm S) k x i) := by
    rw [nI_clamp (by omega), nz_b x]
    exact upd_fu (g := bI) _ k x
  refine va_zast F.1 F.2.1 w.1 w.2.1 w.2.2.1 w.2.2.2.1 4 3 rfl rfl (vp_in_nI hk (by decide)) hdg (fun H1 locs1 hP hD hS => ?_)
  rw [e1] at hP hD
  exact kk H1 locs1 ⟨w.1, hP, hD, hS, w.2.2.2.2⟩
theorem f_lRu (F : CallFix p m c cc nL s args lw_all RX1) (w : WdF G S A s H locs) {k : Nat} (hk : k < 32) (hdg : decode cc pc = .ok (.iaload, 1)) (kk : W p l e R s m args below meth c H locs cells slots Q (F0 m (pc + 1) ls (.int (nI (fRu S k)) :: rest))) : W p l e R s m args below meth c H locs cells slots Q (F0 m pc ls (.int (nI k) :: .ref (G.2.1 5) :: rest)) := by
  refine va_iald F.1 F.2.1 w.1 w.2.1 5 4 rfl rfl (vp_in_nI hk (by decide)) hdg ?_
  rw [nI_clamp (by omega)]
  exact kk
theorem f_sRu (F : CallFix p m c cc nL s args lw_all RX1) (w : WdF G S A s H locs) {k : Nat} (x : Nat) (hk : k < 32) (hdg : decode cc pc = .ok (.iastore, 1)) (kk : ∀ (H1 : Heap) (locs1 : List Loc), WdF G (uRu S (fu (fRu S) k x)) A s H1 locs1 → W p l e R s m args below meth c H1 locs1 cells slots Q (F0 m (pc + 1) ls rest)) : W p l e R s m args below meth c H locs cells slots Q (F0 m pc ls (.int (nI x) :: .int (nI k) :: .ref (G.2.1 5) :: rest)) := by
  have e1 : upd (fun i => nI (fRu S i)) (nI k).toNatClampNeg (nI x) = fun i => nI (fu (fRu S) k x i) := by
    rw [nI_clamp (by omega)]
    exact upd_fu (g := nI) _ k x
  refine va_iast F.1 F.2.1 w.1 w.2.1 w.2.2.1 w.2.2.2.1 5 4 rfl rfl (vp_in_nI hk (by decide)) hdg (fun H1 locs1 hP hD hS => ?_)
  rw [e1] at hP hD
  exact kk H1 locs1 ⟨w.1, hP, hD, hS, w.2.2.2.2⟩
theorem f_lEr (F : CallFix p m c cc nL s args lw_all RX1) (w : WdF G S A s H locs) {k : Nat} (hk : k < 8) (hdg : decode cc pc = .ok (.iaload, 1)) (kk : W p l e R s m args below meth c H locs cells slots Q (F0 m (pc + 1) ls (.int (fEr S k) :: rest))) : W p l e R s m args below meth c H locs cells slots Q (F0 m pc ls (.int (nI k) :: .ref (G.2.1 6) :: rest)) := by
  refine va_iald F.1 F.2.1 w.1 w.2.1 6 5 rfl rfl (vp_in_nI hk (by decide)) hdg ?_
  rw [nI_clamp (by omega)]
  exact kk
theorem f_sEr (F : CallFix p m c cc nL s args lw_all RX1) (w : WdF G S A s H locs) {k : Nat} (x : Int32) (hk : k < 8) (hdg : decode cc pc = .ok (.iastore, 1)) (kk : ∀ (H1 : Heap) (locs1 : List Loc), WdF G (uEr S (fu (fEr S) k x)) A s H1 locs1 → W p l e R s m args below meth c H1 locs1 cells slots Q (F0 m (pc + 1) ls rest)) : W p l e R s m args below meth c H locs cells slots Q (F0 m pc ls (.int (x) :: .int (nI k) :: .ref (G.2.1 6) :: rest)) := by
  have e1 : upd (fun i => fEr S i) (nI k).toNatClampNeg x = fun i => fu (fEr S) k x i := by
    rw [nI_clamp (by omega)]
    exact upd_fu (g := fun z => z) _ k x
  refine va_iast F.1 F.2.1 w.1 w.2.1 w.2.2.1 w.2.2.2.1 6 5 rfl rfl (vp_in_nI hk (by decide)) hdg (fun H1 locs1 hP hD hS => ?_)
  rw [e1] at hP hD
  exact kk H1 locs1 ⟨w.1, hP, hD, hS, w.2.2.2.2⟩
theorem f_lPl (F : CallFix p m c cc nL s args lw_all RX1) (w : WdF G S A s H locs) {k : Nat} (hk : k < 12) (hdg : decode cc pc = .ok (.baload, 1)) (kk : W p l e R s m args below meth c H locs cells slots Q (F0 m (pc + 1) ls (.int (oI (fPl S k)) :: rest))) : W p l e R s m args below meth c H locs cells slots Q (F0 m pc ls (.int (nI k) :: .ref (G.2.1 7) :: rest)) := by
  refine va_bald F.1 F.2.1 w.1 w.2.1 7 6 rfl rfl (vp_in_nI hk (by decide)) hdg ?_
  rw [nI_clamp (by omega)]
  exact kk
theorem f_sPl (F : CallFix p m c cc nL s args lw_all RX1) (w : WdF G S A s H locs) {k : Nat} (x : Option Nat) (hk : k < 12) (hx : ∀ j, x = some j → j < 128) (hdg : decode cc pc = .ok (.bastore, 1)) (kk : ∀ (H1 : Heap) (locs1 : List Loc), WdF G (uPl S (fu (fPl S) k x)) A s H1 locs1 → W p l e R s m args below meth c H1 locs1 cells slots Q (F0 m (pc + 1) ls rest)) : W p l e R s m args below meth c H locs cells slots Q (F0 m pc ls (.int (oI x) :: .int (nI k) :: .ref (G.2.1 7) :: rest)) := by
  have e1 : upd (fun i => oI (fPl S i)) (nI k).toNatClampNeg (vp_nar .byte (oI x)) = fun i => oI (fu (fPl S) k x i) := by
    rw [nI_clamp (by omega), nb_o hx]
    exact upd_fu (g := oI) _ k x
  refine va_bast F.1 F.2.1 w.1 w.2.1 w.2.2.1 w.2.2.2.1 7 6 rfl rfl (vp_in_nI hk (by decide)) hdg (fun H1 locs1 hP hD hS => ?_)
  rw [e1] at hP hD
  exact kk H1 locs1 ⟨w.1, hP, hD, hS, w.2.2.2.2⟩
end RF
section RM
variable {p : Program} {l : Launch} {e : Env} {R : Room} {s : State} {m : MethodId} {args : Array Value} {below : List Frame} {meth : Method} {c : Code} {H : Heap} {locs : List Loc} {cells slots : Nat} {Q : State → Prop}
variable {cc : ByteArray} {nL pc : Nat} {ls : Array Slot} {rest : List Value} {A : Nat → Prop} {G : FG} {M : MS}
theorem m_gVa (F : CallFix p m c cc nL s args lw_all RX2) (w : WdM G M A s H locs) (hdg : decode cc pc = .ok (.getfield 7, 3)) (kk : W p l e R s m args below meth c H locs cells slots Q (F0 m (pc + 3) ls (.ref (G.2.1 1) :: rest))) : W p l e R s m args below meth c H locs cells slots Q (F0 m pc ls (.ref (G.2.1 0) :: rest)) :=
  va_get (D := G.1) (ci := 1) (v := .ref (G.2.1 1)) (C := RX2) (T := TX2) (N := 2) F.1 F.2.1 F.2.2.2.2 in_X2 F.2.2.2.1 w.1 w.2.1 0 rfl rfl 0 (by decide) (F.2.2.2.2 _ q173) (fun _ h9 => h9) rfl hdg kk
theorem m_gTh (F : CallFix p m c cc nL s args lw_all RX2) (w : WdM G M A s H locs) (hdg : decode cc pc = .ok (.getfield 13, 3)) (kk : W p l e R s m args below meth c H locs cells slots Q (F0 m (pc + 3) ls (.ref (G.2.1 2) :: rest))) : W p l e R s m args below meth c H locs cells slots Q (F0 m pc ls (.ref (G.2.1 0) :: rest)) :=
  va_get (D := G.1) (ci := 1) (v := .ref (G.2.1 2)) (C := RX2) (T := TX2) (N := 2) F.1 F.2.1 F.2.2.2.2 in_X2 F.2.2.2.1 w.1 w.2.1 0 rfl rfl 1 (by decide) (F.2.2.2.2 _ q174) (fun _ h9 => h9) rfl hdg kk
theorem m_lVa (F : CallFix p m c cc nL s args lw_all RX2) (w : WdM G M A s H locs) {k : Nat} (hk : k < 12) (hdg : decode cc pc = .ok (.iaload, 1)) (kk : W p l e R s m args below meth c H locs cells slots Q (F0 m (pc + 1) ls (.int (mVa M k) :: rest))) : W p l e R s m args below meth c H locs cells slots Q (F0 m pc ls (.int (nI k) :: .ref (G.2.1 1) :: rest)) := by
  refine va_iald F.1 F.2.1 w.1 w.2.1 1 0 rfl rfl (vp_in_nI hk (by decide)) hdg ?_
  rw [nI_clamp (by omega)]
  exact kk
theorem m_sVa (F : CallFix p m c cc nL s args lw_all RX2) (w : WdM G M A s H locs) {k : Nat} (x : Int32) (hk : k < 12) (hdg : decode cc pc = .ok (.iastore, 1)) (kk : ∀ (H1 : Heap) (locs1 : List Loc), WdM G (uVa M (fu (mVa M) k x)) A s H1 locs1 → W p l e R s m args below meth c H1 locs1 cells slots Q (F0 m (pc + 1) ls rest)) : W p l e R s m args below meth c H locs cells slots Q (F0 m pc ls (.int (x) :: .int (nI k) :: .ref (G.2.1 1) :: rest)) := by
  have e1 : upd (fun i => mVa M i) (nI k).toNatClampNeg x = fun i => fu (mVa M) k x i := by
    rw [nI_clamp (by omega)]
    exact upd_fu (g := fun z => z) _ k x
  refine va_iast F.1 F.2.1 w.1 w.2.1 w.2.2.1 w.2.2.2.1 1 0 rfl rfl (vp_in_nI hk (by decide)) hdg (fun H1 locs1 hP hD hS => ?_)
  rw [e1] at hP hD
  exact kk H1 locs1 ⟨w.1, hP, hD, hS, w.2.2.2.2⟩
theorem m_lTh (F : CallFix p m c cc nL s args lw_all RX2) (w : WdM G M A s H locs) {k : Nat} (hk : k < 12) (hdg : decode cc pc = .ok (.baload, 1)) (kk : W p l e R s m args below meth c H locs cells slots Q (F0 m (pc + 1) ls (.int (bI (mTh M k)) :: rest))) : W p l e R s m args below meth c H locs cells slots Q (F0 m pc ls (.int (nI k) :: .ref (G.2.1 2) :: rest)) := by
  refine va_zald F.1 F.2.1 w.1 w.2.1 2 1 rfl rfl (vp_in_nI hk (by decide)) hdg ?_
  rw [nI_clamp (by omega)]
  exact kk
theorem m_sTh (F : CallFix p m c cc nL s args lw_all RX2) (w : WdM G M A s H locs) {k : Nat} (x : Bool) (hk : k < 12) (hdg : decode cc pc = .ok (.bastore, 1)) (kk : ∀ (H1 : Heap) (locs1 : List Loc), WdM G (uTh M (fu (mTh M) k x)) A s H1 locs1 → W p l e R s m args below meth c H1 locs1 cells slots Q (F0 m (pc + 1) ls rest)) : W p l e R s m args below meth c H locs cells slots Q (F0 m pc ls (.int (bI x) :: .int (nI k) :: .ref (G.2.1 2) :: rest)) := by
  have e1 : upd (fun i => bI (mTh M i)) (nI k).toNatClampNeg (vp_nar .boolean (bI x)) = fun i => bI (fu (mTh M) k x i) := by
    rw [nI_clamp (by omega), nz_b x]
    exact upd_fu (g := bI) _ k x
  refine va_zast F.1 F.2.1 w.1 w.2.1 w.2.2.1 w.2.2.2.1 2 1 rfl rfl (vp_in_nI hk (by decide)) hdg (fun H1 locs1 hP hD hS => ?_)
  rw [e1] at hP hD
  exact kk H1 locs1 ⟨w.1, hP, hD, hS, w.2.2.2.2⟩
end RM
section CW
variable {p : Program} {R : Room} {s : State} {m : MethodId} {args : Array Value} {c : Code} {cc : ByteArray} {nL d : Nat} 
theorem hd_X1_empty : yX1_empty.cls = RX1 ∧ yX1_empty.cls ≠ "java/lang/invoke/MethodHandle" ∧ yX1_empty.cls ≠ "java/lang/invoke/VarHandle" ∧ (parseMethodDescriptor yX1_empty.desc).map (fun d => d.parameters.length) = some 1 := by decide +kernel
theorem cw_empty (F : CallFix p m c cc nL s args lw_all RX1) (hR : d + 1 ≤ R.frames ∧ 8 + (4 + 11) + 30 * d ≤ R.locals) : CallW R s args RX1 RX1 90 yX1_empty cX1_empty 4 none (ws_ yX1_empty cX1_empty 4 none) (rmD d) 0 0 1 :=
  cwV 1 F.2.2.2.2 (lw_V q112 q114 qs11 q16 q115) rfl rfl rfl hd_X1_empty hR
theorem hd_X1_fillPage : yX1_fillPage.cls = RX1 ∧ yX1_fillPage.cls ≠ "java/lang/invoke/MethodHandle" ∧ yX1_fillPage.cls ≠ "java/lang/invoke/VarHandle" ∧ (parseMethodDescriptor yX1_fillPage.desc).map (fun d => d.parameters.length) = some 4 := by decide +kernel
theorem cw_fillPage (F : CallFix p m c cc nL s args lw_all RX1) (hR : d + 1 ≤ R.frames ∧ 8 + (5 + 11) + 30 * d ≤ R.locals) : CallW R s args RX1 RX1 71 yX1_fillPage cX1_fillPage 5 none (ws_ yX1_fillPage cX1_fillPage 5 none) (rmD d) 0 0 4 :=
  cwV 4 F.2.2.2.2 (lw_V q116 q118 qs12 q16 q119) rfl rfl rfl hd_X1_fillPage hR
theorem hd_X1_freeBlocks : yX1_freeBlocks.cls = RX1 ∧ yX1_freeBlocks.cls ≠ "java/lang/invoke/MethodHandle" ∧ yX1_freeBlocks.cls ≠ "java/lang/invoke/VarHandle" ∧ (parseMethodDescriptor yX1_freeBlocks.desc).map (fun d => d.parameters.length) = some 0 := by decide +kernel
theorem cw_freeBlocks (F : CallFix p m c cc nL s args lw_all RX1) (hR : d + 1 ≤ R.frames ∧ 8 + (3 + 11) + 30 * d ≤ R.locals) : CallW R s args RX1 RX1 78 yX1_freeBlocks cX1_freeBlocks 3 (some .int) (ws_ yX1_freeBlocks cX1_freeBlocks 3 (some .int)) (rmD d) 0 0 0 :=
  cwV 0 F.2.2.2.2 (lw_V q92 q94 qs6 q16 q95) rfl rfl rfl hd_X1_freeBlocks hR
theorem hd_X1_freshPage : yX1_freshPage.cls = RX1 ∧ yX1_freshPage.cls ≠ "java/lang/invoke/MethodHandle" ∧ yX1_freshPage.cls ≠ "java/lang/invoke/VarHandle" ∧ (parseMethodDescriptor yX1_freshPage.desc).map (fun d => d.parameters.length) = some 0 := by decide +kernel
theorem cw_freshPage (F : CallFix p m c cc nL s args lw_all RX1) (hR : d + 1 ≤ R.frames ∧ 8 + (4 + 11) + 30 * d ≤ R.locals) : CallW R s args RX1 RX1 51 yX1_freshPage cX1_freshPage 4 (some .int) (ws_ yX1_freshPage cX1_freshPage 4 (some .int)) (rmD d) 0 0 0 :=
  cwV 0 F.2.2.2.2 (lw_V q84 q86 qs4 q16 q87) rfl rfl rfl hd_X1_freshPage hR
theorem hd_X1_has : yX1_has.cls = RX1 ∧ yX1_has.cls ≠ "java/lang/invoke/MethodHandle" ∧ yX1_has.cls ≠ "java/lang/invoke/VarHandle" ∧ (parseMethodDescriptor yX1_has.desc).map (fun d => d.parameters.length) = some 1 := by decide +kernel
theorem cw_has (F : CallFix p m c cc nL s args lw_all RX1) (hR : d + 1 ≤ R.frames ∧ 8 + (2 + 11) + 30 * d ≤ R.locals) : CallW R s args RX1 RX1 44 yX1_has cX1_has 2 (some .boolean) (ws_ yX1_has cX1_has 2 (some .boolean)) (rmD d) 0 0 1 :=
  cwV 1 F.2.2.2.2 (lw_V q76 q77 q78 q16 q79) rfl rfl rfl hd_X1_has hR
theorem hd_X1_isErased : yX1_isErased.cls = RX1 ∧ yX1_isErased.cls ≠ "java/lang/invoke/MethodHandle" ∧ yX1_isErased.cls ≠ "java/lang/invoke/VarHandle" ∧ (parseMethodDescriptor yX1_isErased.desc).map (fun d => d.parameters.length) = some 1 := by decide +kernel
theorem cw_isErased (F : CallFix p m c cc nL s args lw_all RX1) (hR : d + 1 ≤ R.frames ∧ 8 + (3 + 11) + 30 * d ≤ R.locals) : CallW R s args RX1 RX1 93 yX1_isErased cX1_isErased 3 (some .boolean) (ws_ yX1_isErased cX1_isErased 3 (some .boolean)) (rmD d) 0 0 1 :=
  cwV 1 F.2.2.2.2 (lw_V q30 q32 qs1 q16 q33) rfl rfl rfl hd_X1_isErased hR
theorem hd_X1_isPage : yX1_isPage.cls = RX1 ∧ yX1_isPage.cls ≠ "java/lang/invoke/MethodHandle" ∧ yX1_isPage.cls ≠ "java/lang/invoke/VarHandle" ∧ (parseMethodDescriptor yX1_isPage.desc).map (fun d => d.parameters.length) = some 1 := by decide +kernel
theorem cw_isPage (F : CallFix p m c cc nL s args lw_all RX1) (hR : d + 1 ≤ R.frames ∧ 8 + (2 + 11) + 30 * d ≤ R.locals) : CallW R s args RX1 RX1 40 yX1_isPage cX1_isPage 2 (some .boolean) (ws_ yX1_isPage cX1_isPage 2 (some .boolean)) (rmD d) 0 0 1 :=
  cwV 1 F.2.2.2.2 (lw_V q72 q74 qs2 q16 q75) rfl rfl rfl hd_X1_isPage hR
theorem hd_X1_isValid : yX1_isValid.cls = RX1 ∧ yX1_isValid.cls ≠ "java/lang/invoke/MethodHandle" ∧ yX1_isValid.cls ≠ "java/lang/invoke/VarHandle" ∧ (parseMethodDescriptor yX1_isValid.desc).map (fun d => d.parameters.length) = some 1 := by decide +kernel
theorem cw_isValid (F : CallFix p m c cc nL s args lw_all RX1) (hR : d + 1 ≤ R.frames ∧ 8 + (2 + 11) + 30 * d ≤ R.locals) : CallW R s args RX1 RX1 96 yX1_isValid cX1_isValid 2 (some .boolean) (ws_ yX1_isValid cX1_isValid 2 (some .boolean)) (rmD d) 0 0 1 :=
  cwV 1 F.2.2.2.2 (lw_V q104 q106 qs9 q16 q107) rfl rfl rfl hd_X1_isValid hR
theorem hd_X1_leastValidBlock : yX1_leastValidBlock.cls = RX1 ∧ yX1_leastValidBlock.cls ≠ "java/lang/invoke/MethodHandle" ∧ yX1_leastValidBlock.cls ≠ "java/lang/invoke/VarHandle" ∧ (parseMethodDescriptor yX1_leastValidBlock.desc).map (fun d => d.parameters.length) = some 0 := by decide +kernel
theorem cw_leastValidBlock (F : CallFix p m c cc nL s args lw_all RX1) (hR : d + 1 ≤ R.frames ∧ 8 + (5 + 11) + 30 * d ≤ R.locals) : CallW R s args RX1 RX1 81 yX1_leastValidBlock cX1_leastValidBlock 5 (some .int) (ws_ yX1_leastValidBlock cX1_leastValidBlock 5 (some .int)) (rmD d) 0 0 0 :=
  cwV 0 F.2.2.2.2 (lw_V q96 q98 qs7 q16 q99) rfl rfl rfl hd_X1_leastValidBlock hR
theorem hd_X1_leastWornFreeBlock : yX1_leastWornFreeBlock.cls = RX1 ∧ yX1_leastWornFreeBlock.cls ≠ "java/lang/invoke/MethodHandle" ∧ yX1_leastWornFreeBlock.cls ≠ "java/lang/invoke/VarHandle" ∧ (parseMethodDescriptor yX1_leastWornFreeBlock.desc).map (fun d => d.parameters.length) = some 0 := by decide +kernel
theorem cw_leastWornFreeBlock (F : CallFix p m c cc nL s args lw_all RX1) (hR : d + 1 ≤ R.frames ∧ 8 + (3 + 11) + 30 * d ≤ R.locals) : CallW R s args RX1 RX1 84 yX1_leastWornFreeBlock cX1_leastWornFreeBlock 3 (some .int) (ws_ yX1_leastWornFreeBlock cX1_leastWornFreeBlock 3 (some .int)) (rmD d) 0 0 0 :=
  cwV 0 F.2.2.2.2 (lw_V q108 q110 qs10 q16 q111) rfl rfl rfl hd_X1_leastWornFreeBlock hR
theorem hd_X1_nextInBlock : yX1_nextInBlock.cls = RX1 ∧ yX1_nextInBlock.cls ≠ "java/lang/invoke/MethodHandle" ∧ yX1_nextInBlock.cls ≠ "java/lang/invoke/VarHandle" ∧ (parseMethodDescriptor yX1_nextInBlock.desc).map (fun d => d.parameters.length) = some 0 := by decide +kernel
theorem cw_nextInBlock (F : CallFix p m c cc nL s args lw_all RX1) (hR : d + 1 ≤ R.frames ∧ 8 + (2 + 11) + 30 * d ≤ R.locals) : CallW R s args RX1 RX1 75 yX1_nextInBlock cX1_nextInBlock 2 (some .int) (ws_ yX1_nextInBlock cX1_nextInBlock 2 (some .int)) (rmD d) 0 0 0 :=
  cwV 0 F.2.2.2.2 (lw_V q88 q90 qs5 q16 q91) rfl rfl rfl hd_X1_nextInBlock hR
theorem hd_X1_program : yX1_program.cls = RX1 ∧ yX1_program.cls ≠ "java/lang/invoke/MethodHandle" ∧ yX1_program.cls ≠ "java/lang/invoke/VarHandle" ∧ (parseMethodDescriptor yX1_program.desc).map (fun d => d.parameters.length) = some 3 := by decide +kernel
theorem cw_program (F : CallFix p m c cc nL s args lw_all RX1) (hR : d + 1 ≤ R.frames ∧ 8 + (5 + 11) + 30 * d ≤ R.locals) : CallW R s args RX1 RX1 47 yX1_program cX1_program 5 none (ws_ yX1_program cX1_program 5 none) (rmD d) 0 0 3 :=
  cwV 3 F.2.2.2.2 (lw_V q80 q82 qs3 q16 q83) rfl rfl rfl hd_X1_program hR
theorem hd_X1_read : yX1_read.cls = RX1 ∧ yX1_read.cls ≠ "java/lang/invoke/MethodHandle" ∧ yX1_read.cls ≠ "java/lang/invoke/VarHandle" ∧ (parseMethodDescriptor yX1_read.desc).map (fun d => d.parameters.length) = some 1 := by decide +kernel
theorem cw_read (F : CallFix p m c cc nL s args lw_all RX1) (hR : d + 1 ≤ R.frames ∧ 8 + (2 + 11) + 30 * d ≤ R.locals) : CallW R s args RX1 RX1 61 yX1_read cX1_read 2 (some .int) (ws_ yX1_read cX1_read 2 (some .int)) (rmD d) 0 0 1 :=
  cwV 1 F.2.2.2.2 (lw_V q150 q138 q139 q16 q140) rfl rfl rfl hd_X1_read hR
theorem hd_X1_replace : yX1_replace.cls = RX1 ∧ yX1_replace.cls ≠ "java/lang/invoke/MethodHandle" ∧ yX1_replace.cls ≠ "java/lang/invoke/VarHandle" ∧ (parseMethodDescriptor yX1_replace.desc).map (fun d => d.parameters.length) = some 3 := by decide +kernel
theorem cw_replace (F : CallFix p m c cc nL s args lw_all RX1) (hR : d + 1 ≤ R.frames ∧ 8 + (4 + 11) + 30 * d ≤ R.locals) : CallW R s args RX1 RX1 65 yX1_replace cX1_replace 4 none (ws_ yX1_replace cX1_replace 4 none) (rmD d) 0 0 3 :=
  cwV 3 F.2.2.2.2 (lw_V q155 q157 qs13 q16 q158) rfl rfl rfl hd_X1_replace hR
theorem hd_X1_startUp : yX1_startUp.cls = RX1 ∧ yX1_startUp.cls ≠ "java/lang/invoke/MethodHandle" ∧ yX1_startUp.cls ≠ "java/lang/invoke/VarHandle" ∧ (parseMethodDescriptor yX1_startUp.desc).map (fun d => d.parameters.length) = some 0 := by decide +kernel
theorem cw_startUp (F : CallFix p m c cc nL s args lw_all RX1) (hR : d + 1 ≤ R.frames ∧ 8 + (3 + 11) + 30 * d ≤ R.locals) : CallW R s args RX1 RX1 37 yX1_startUp cX1_startUp 3 none (ws_ yX1_startUp cX1_startUp 3 none) (rmD d) 0 0 0 :=
  cwV 0 F.2.2.2.2 (lw_V q26 q28 qs0 q16 q29) rfl rfl rfl hd_X1_startUp hR
theorem hd_X1_trim : yX1_trim.cls = RX1 ∧ yX1_trim.cls ≠ "java/lang/invoke/MethodHandle" ∧ yX1_trim.cls ≠ "java/lang/invoke/VarHandle" ∧ (parseMethodDescriptor yX1_trim.desc).map (fun d => d.parameters.length) = some 1 := by decide +kernel
theorem cw_trim (F : CallFix p m c cc nL s args lw_all RX1) (hR : d + 1 ≤ R.frames ∧ 8 + (2 + 11) + 30 * d ≤ R.locals) : CallW R s args RX1 RX1 68 yX1_trim cX1_trim 2 (some .int) (ws_ yX1_trim cX1_trim 2 (some .int)) (rmD d) 0 0 1 :=
  cwV 1 F.2.2.2.2 (lw_V q159 q125 q126 q16 q127) rfl rfl rfl hd_X1_trim hR
theorem hd_X1_used : yX1_used.cls = RX1 ∧ yX1_used.cls ≠ "java/lang/invoke/MethodHandle" ∧ yX1_used.cls ≠ "java/lang/invoke/VarHandle" ∧ (parseMethodDescriptor yX1_used.desc).map (fun d => d.parameters.length) = some 0 := by decide +kernel
theorem cw_used (F : CallFix p m c cc nL s args lw_all RX1) (hR : d + 1 ≤ R.frames ∧ 8 + (3 + 11) + 30 * d ≤ R.locals) : CallW R s args RX1 RX1 58 yX1_used cX1_used 3 (some .int) (ws_ yX1_used cX1_used 3 (some .int)) (rmD d) 0 0 0 :=
  cwV 0 F.2.2.2.2 (lw_V q132 q133 q134 q16 q135) rfl rfl rfl hd_X1_used hR
theorem hd_X1_validIn : yX1_validIn.cls = RX1 ∧ yX1_validIn.cls ≠ "java/lang/invoke/MethodHandle" ∧ yX1_validIn.cls ≠ "java/lang/invoke/VarHandle" ∧ (parseMethodDescriptor yX1_validIn.desc).map (fun d => d.parameters.length) = some 1 := by decide +kernel
theorem cw_validIn (F : CallFix p m c cc nL s args lw_all RX1) (hR : d + 1 ≤ R.frames ∧ 8 + (4 + 11) + 30 * d ≤ R.locals) : CallW R s args RX1 RX1 99 yX1_validIn cX1_validIn 4 (some .int) (ws_ yX1_validIn cX1_validIn 4 (some .int)) (rmD d) 0 0 1 :=
  cwV 1 F.2.2.2.2 (lw_V q100 q102 qs8 q16 q103) rfl rfl rfl hd_X1_validIn hR
theorem hd_X1_exchange : yX1_exchange.cls = RX1 ∧ yX1_exchange.cls ≠ "java/lang/invoke/MethodHandle" ∧ yX1_exchange.cls ≠ "java/lang/invoke/VarHandle" ∧ (parseMethodDescriptor yX1_exchange.desc).map (fun d => d.parameters.length) = some 2 := by decide +kernel
theorem cl_exchange (F : CallFix p m c cc nL s args lw_all RX0) (hR : d + 1 ≤ R.frames ∧ 8 + (7 + 11) + 30 * d ≤ R.locals) : CallW R s args RX0 RX1 62 yX1_exchange cX1_exchange 7 (some .int) (ws_ yX1_exchange cX1_exchange 7 (some .int)) (rmD d) 0 0 2 :=
  cwV 2 F.2.2.2.2 (lw_V q151 q152 q153 q16 q154) rfl rfl rfl hd_X1_exchange hR
theorem hd_X1_fill : yX1_fill.cls = RX1 ∧ yX1_fill.cls ≠ "java/lang/invoke/MethodHandle" ∧ yX1_fill.cls ≠ "java/lang/invoke/VarHandle" ∧ (parseMethodDescriptor yX1_fill.desc).map (fun d => d.parameters.length) = some 3 := by decide +kernel
theorem cl_fill (F : CallFix p m c cc nL s args lw_all RX0) (hR : d + 1 ≤ R.frames ∧ 8 + (7 + 11) + 30 * d ≤ R.locals) : CallW R s args RX0 RX1 66 yX1_fill cX1_fill 7 (some .int) (ws_ yX1_fill cX1_fill 7 (some .int)) (rmD d) 0 0 3 :=
  cwV 3 F.2.2.2.2 (lw_V q160 q161 q162 q16 q163) rfl rfl rfl hd_X1_fill hR
theorem cl_has (F : CallFix p m c cc nL s args lw_all RX0) (hR : d + 1 ≤ R.frames ∧ 8 + (2 + 11) + 30 * d ≤ R.locals) : CallW R s args RX0 RX1 40 yX1_has cX1_has 2 (some .boolean) (ws_ yX1_has cX1_has 2 (some .boolean)) (rmD d) 0 0 1 :=
  cwV 1 F.2.2.2.2 (lw_V q136 q77 q78 q16 q79) rfl rfl rfl hd_X1_has hR
theorem hd_X1_nextUsed : yX1_nextUsed.cls = RX1 ∧ yX1_nextUsed.cls ≠ "java/lang/invoke/MethodHandle" ∧ yX1_nextUsed.cls ≠ "java/lang/invoke/VarHandle" ∧ (parseMethodDescriptor yX1_nextUsed.desc).map (fun d => d.parameters.length) = some 1 := by decide +kernel
theorem cl_nextUsed (F : CallFix p m c cc nL s args lw_all RX0) (hR : d + 1 ≤ R.frames ∧ 8 + (3 + 11) + 30 * d ≤ R.locals) : CallW R s args RX0 RX1 53 yX1_nextUsed cX1_nextUsed 3 (some .int) (ws_ yX1_nextUsed cX1_nextUsed 3 (some .int)) (rmD d) 0 0 1 :=
  cwV 1 F.2.2.2.2 (lw_V q142 q143 q144 q16 q145) rfl rfl rfl hd_X1_nextUsed hR
theorem hd_X1_powerCut : yX1_powerCut.cls = RX1 ∧ yX1_powerCut.cls ≠ "java/lang/invoke/MethodHandle" ∧ yX1_powerCut.cls ≠ "java/lang/invoke/VarHandle" ∧ (parseMethodDescriptor yX1_powerCut.desc).map (fun d => d.parameters.length) = some 0 := by decide +kernel
theorem cl_powerCut (F : CallFix p m c cc nL s args lw_all RX0) (hR : d + 1 ≤ R.frames ∧ 8 + (1 + 11) + 30 * d ≤ R.locals) : CallW R s args RX0 RX1 35 yX1_powerCut cX1_powerCut 1 (some .int) (ws_ yX1_powerCut cX1_powerCut 1 (some .int)) (rmD d) 0 0 0 :=
  cwV 0 F.2.2.2.2 (lw_V q128 q129 q130 q16 q131) rfl rfl rfl hd_X1_powerCut hR
theorem cl_read (F : CallFix p m c cc nL s args lw_all RX0) (hR : d + 1 ≤ R.frames ∧ 8 + (2 + 11) + 30 * d ≤ R.locals) : CallW R s args RX0 RX1 45 yX1_read cX1_read 2 (some .int) (ws_ yX1_read cX1_read 2 (some .int)) (rmD d) 0 0 1 :=
  cwV 1 F.2.2.2.2 (lw_V q137 q138 q139 q16 q140) rfl rfl rfl hd_X1_read hR
theorem hd_X1_torn : yX1_torn.cls = RX1 ∧ yX1_torn.cls ≠ "java/lang/invoke/MethodHandle" ∧ yX1_torn.cls ≠ "java/lang/invoke/VarHandle" ∧ (parseMethodDescriptor yX1_torn.desc).map (fun d => d.parameters.length) = some 2 := by decide +kernel
theorem cl_torn (F : CallFix p m c cc nL s args lw_all RX0) (hR : d + 1 ≤ R.frames ∧ 8 + (4 + 11) + 30 * d ≤ R.locals) : CallW R s args RX0 RX1 26 yX1_torn cX1_torn 4 (some .int) (ws_ yX1_torn cX1_torn 4 (some .int)) (rmD d) 0 0 2 :=
  cwV 2 F.2.2.2.2 (lw_V q120 q121 q122 q16 q123) rfl rfl rfl hd_X1_torn hR
theorem hd_X1_total : yX1_total.cls = RX1 ∧ yX1_total.cls ≠ "java/lang/invoke/MethodHandle" ∧ yX1_total.cls ≠ "java/lang/invoke/VarHandle" ∧ (parseMethodDescriptor yX1_total.desc).map (fun d => d.parameters.length) = some 0 := by decide +kernel
theorem cl_total (F : CallFix p m c cc nL s args lw_all RX0) (hR : d + 1 ≤ R.frames ∧ 8 + (4 + 11) + 30 * d ≤ R.locals) : CallW R s args RX0 RX1 57 yX1_total cX1_total 4 (some .long) (ws_ yX1_total cX1_total 4 (some .long)) (rmD d) 0 0 0 :=
  cwV 0 F.2.2.2.2 (lw_V q146 q147 q148 q16 q149) rfl rfl rfl hd_X1_total hR
theorem cl_trim (F : CallFix p m c cc nL s args lw_all RX0) (hR : d + 1 ≤ R.frames ∧ 8 + (2 + 11) + 30 * d ≤ R.locals) : CallW R s args RX0 RX1 30 yX1_trim cX1_trim 2 (some .int) (ws_ yX1_trim cX1_trim 2 (some .int)) (rmD d) 0 0 1 :=
  cwV 1 F.2.2.2.2 (lw_V q124 q125 q126 q16 q127) rfl rfl rfl hd_X1_trim hR
theorem cl_used (F : CallFix p m c cc nL s args lw_all RX0) (hR : d + 1 ≤ R.frames ∧ 8 + (3 + 11) + 30 * d ≤ R.locals) : CallW R s args RX0 RX1 49 yX1_used cX1_used 3 (some .int) (ws_ yX1_used cX1_used 3 (some .int)) (rmD d) 0 0 0 :=
  cwV 0 F.2.2.2.2 (lw_V q141 q133 q134 q16 q135) rfl rfl rfl hd_X1_used hR
theorem hd_X1_write : yX1_write.cls = RX1 ∧ yX1_write.cls ≠ "java/lang/invoke/MethodHandle" ∧ yX1_write.cls ≠ "java/lang/invoke/VarHandle" ∧ (parseMethodDescriptor yX1_write.desc).map (fun d => d.parameters.length) = some 2 := by decide +kernel
theorem cl_write (F : CallFix p m c cc nL s args lw_all RX0) (hR : d + 1 ≤ R.frames ∧ 8 + (4 + 11) + 30 * d ≤ R.locals) : CallW R s args RX0 RX1 21 yX1_write cX1_write 4 (some .int) (ws_ yX1_write cX1_write 4 (some .int)) (rmD d) 0 0 2 :=
  cwV 2 F.2.2.2.2 (lw_V q68 q69 q70 q16 q71) rfl rfl rfl hd_X1_write hR
theorem hd_X2_exchange : yX2_exchange.cls = RX2 ∧ yX2_exchange.cls ≠ "java/lang/invoke/MethodHandle" ∧ yX2_exchange.cls ≠ "java/lang/invoke/VarHandle" ∧ (parseMethodDescriptor yX2_exchange.desc).map (fun d => d.parameters.length) = some 2 := by decide +kernel
theorem ck_exchange (F : CallFix p m c cc nL s args lw_all RX0) (hR : d + 1 ≤ R.frames ∧ 8 + (6 + 11) + 30 * d ≤ R.locals) : CallW R s args RX0 RX2 65 yX2_exchange cX2_exchange 6 (some .int) (ws_ yX2_exchange cX2_exchange 6 (some .int)) (rmD d) 0 0 2 :=
  cwV 2 F.2.2.2.2 (lw_V q223 q224 q225 q17 q226) rfl rfl rfl hd_X2_exchange hR
theorem hd_X2_fill : yX2_fill.cls = RX2 ∧ yX2_fill.cls ≠ "java/lang/invoke/MethodHandle" ∧ yX2_fill.cls ≠ "java/lang/invoke/VarHandle" ∧ (parseMethodDescriptor yX2_fill.desc).map (fun d => d.parameters.length) = some 3 := by decide +kernel
theorem ck_fill (F : CallFix p m c cc nL s args lw_all RX0) (hR : d + 1 ≤ R.frames ∧ 8 + (7 + 11) + 30 * d ≤ R.locals) : CallW R s args RX0 RX2 70 yX2_fill cX2_fill 7 (some .int) (ws_ yX2_fill cX2_fill 7 (some .int)) (rmD d) 0 0 3 :=
  cwV 3 F.2.2.2.2 (lw_V q227 q228 q229 q17 q230) rfl rfl rfl hd_X2_fill hR
theorem hd_X2_has : yX2_has.cls = RX2 ∧ yX2_has.cls ≠ "java/lang/invoke/MethodHandle" ∧ yX2_has.cls ≠ "java/lang/invoke/VarHandle" ∧ (parseMethodDescriptor yX2_has.desc).map (fun d => d.parameters.length) = some 1 := by decide +kernel
theorem ck_has (F : CallFix p m c cc nL s args lw_all RX0) (hR : d + 1 ≤ R.frames ∧ 8 + (2 + 11) + 30 * d ≤ R.locals) : CallW R s args RX0 RX2 44 yX2_has cX2_has 2 (some .boolean) (ws_ yX2_has cX2_has 2 (some .boolean)) (rmD d) 0 0 1 :=
  cwV 1 F.2.2.2.2 (lw_V q204 q205 q206 q17 q207) rfl rfl rfl hd_X2_has hR
theorem hd_X2_nextUsed : yX2_nextUsed.cls = RX2 ∧ yX2_nextUsed.cls ≠ "java/lang/invoke/MethodHandle" ∧ yX2_nextUsed.cls ≠ "java/lang/invoke/VarHandle" ∧ (parseMethodDescriptor yX2_nextUsed.desc).map (fun d => d.parameters.length) = some 1 := by decide +kernel
theorem ck_nextUsed (F : CallFix p m c cc nL s args lw_all RX0) (hR : d + 1 ≤ R.frames ∧ 8 + (3 + 11) + 30 * d ≤ R.locals) : CallW R s args RX0 RX2 56 yX2_nextUsed cX2_nextUsed 3 (some .int) (ws_ yX2_nextUsed cX2_nextUsed 3 (some .int)) (rmD d) 0 0 1 :=
  cwV 1 F.2.2.2.2 (lw_V q214 q215 q216 q17 q217) rfl rfl rfl hd_X2_nextUsed hR
theorem hd_X2_powerCut : yX2_powerCut.cls = RX2 ∧ yX2_powerCut.cls ≠ "java/lang/invoke/MethodHandle" ∧ yX2_powerCut.cls ≠ "java/lang/invoke/VarHandle" ∧ (parseMethodDescriptor yX2_powerCut.desc).map (fun d => d.parameters.length) = some 0 := by decide +kernel
theorem ck_powerCut (F : CallFix p m c cc nL s args lw_all RX0) (hR : d + 1 ≤ R.frames ∧ 8 + (1 + 11) + 30 * d ≤ R.locals) : CallW R s args RX0 RX2 39 yX2_powerCut cX2_powerCut 1 (some .int) (ws_ yX2_powerCut cX2_powerCut 1 (some .int)) (rmD d) 0 0 0 :=
  cwV 0 F.2.2.2.2 (lw_V q196 q197 q198 q17 q199) rfl rfl rfl hd_X2_powerCut hR
theorem hd_X2_read : yX2_read.cls = RX2 ∧ yX2_read.cls ≠ "java/lang/invoke/MethodHandle" ∧ yX2_read.cls ≠ "java/lang/invoke/VarHandle" ∧ (parseMethodDescriptor yX2_read.desc).map (fun d => d.parameters.length) = some 1 := by decide +kernel
theorem ck_read (F : CallFix p m c cc nL s args lw_all RX0) (hR : d + 1 ≤ R.frames ∧ 8 + (2 + 11) + 30 * d ≤ R.locals) : CallW R s args RX0 RX2 48 yX2_read cX2_read 2 (some .int) (ws_ yX2_read cX2_read 2 (some .int)) (rmD d) 0 0 1 :=
  cwV 1 F.2.2.2.2 (lw_V q208 q209 q210 q17 q211) rfl rfl rfl hd_X2_read hR
theorem hd_X2_torn : yX2_torn.cls = RX2 ∧ yX2_torn.cls ≠ "java/lang/invoke/MethodHandle" ∧ yX2_torn.cls ≠ "java/lang/invoke/VarHandle" ∧ (parseMethodDescriptor yX2_torn.desc).map (fun d => d.parameters.length) = some 2 := by decide +kernel
theorem ck_torn (F : CallFix p m c cc nL s args lw_all RX0) (hR : d + 1 ≤ R.frames ∧ 8 + (3 + 11) + 30 * d ≤ R.locals) : CallW R s args RX0 RX2 29 yX2_torn cX2_torn 3 (some .int) (ws_ yX2_torn cX2_torn 3 (some .int)) (rmD d) 0 0 2 :=
  cwV 2 F.2.2.2.2 (lw_V q188 q189 q190 q17 q191) rfl rfl rfl hd_X2_torn hR
theorem hd_X2_total : yX2_total.cls = RX2 ∧ yX2_total.cls ≠ "java/lang/invoke/MethodHandle" ∧ yX2_total.cls ≠ "java/lang/invoke/VarHandle" ∧ (parseMethodDescriptor yX2_total.desc).map (fun d => d.parameters.length) = some 0 := by decide +kernel
theorem ck_total (F : CallFix p m c cc nL s args lw_all RX0) (hR : d + 1 ≤ R.frames ∧ 8 + (4 + 11) + 30 * d ≤ R.locals) : CallW R s args RX0 RX2 61 yX2_total cX2_total 4 (some .long) (ws_ yX2_total cX2_total 4 (some .long)) (rmD d) 0 0 0 :=
  cwV 0 F.2.2.2.2 (lw_V q218 q219 q220 q17 q221) rfl rfl rfl hd_X2_total hR
theorem hd_X2_trim : yX2_trim.cls = RX2 ∧ yX2_trim.cls ≠ "java/lang/invoke/MethodHandle" ∧ yX2_trim.cls ≠ "java/lang/invoke/VarHandle" ∧ (parseMethodDescriptor yX2_trim.desc).map (fun d => d.parameters.length) = some 1 := by decide +kernel
theorem ck_trim (F : CallFix p m c cc nL s args lw_all RX0) (hR : d + 1 ≤ R.frames ∧ 8 + (3 + 11) + 30 * d ≤ R.locals) : CallW R s args RX0 RX2 34 yX2_trim cX2_trim 3 (some .int) (ws_ yX2_trim cX2_trim 3 (some .int)) (rmD d) 0 0 1 :=
  cwV 1 F.2.2.2.2 (lw_V q192 q193 q194 q17 q195) rfl rfl rfl hd_X2_trim hR
theorem hd_X2_used : yX2_used.cls = RX2 ∧ yX2_used.cls ≠ "java/lang/invoke/MethodHandle" ∧ yX2_used.cls ≠ "java/lang/invoke/VarHandle" ∧ (parseMethodDescriptor yX2_used.desc).map (fun d => d.parameters.length) = some 0 := by decide +kernel
theorem ck_used (F : CallFix p m c cc nL s args lw_all RX0) (hR : d + 1 ≤ R.frames ∧ 8 + (3 + 11) + 30 * d ≤ R.locals) : CallW R s args RX0 RX2 52 yX2_used cX2_used 3 (some .int) (ws_ yX2_used cX2_used 3 (some .int)) (rmD d) 0 0 0 :=
  cwV 0 F.2.2.2.2 (lw_V q213 q201 q202 q17 q203) rfl rfl rfl hd_X2_used hR
theorem hd_X2_write : yX2_write.cls = RX2 ∧ yX2_write.cls ≠ "java/lang/invoke/MethodHandle" ∧ yX2_write.cls ≠ "java/lang/invoke/VarHandle" ∧ (parseMethodDescriptor yX2_write.desc).map (fun d => d.parameters.length) = some 2 := by decide +kernel
theorem ck_write (F : CallFix p m c cc nL s args lw_all RX0) (hR : d + 1 ≤ R.frames ∧ 8 + (4 + 11) + 30 * d ≤ R.locals) : CallW R s args RX0 RX2 25 yX2_write cX2_write 4 (some .int) (ws_ yX2_write cX2_write 4 (some .int)) (rmD d) 0 0 2 :=
  cwV 2 F.2.2.2.2 (lw_V q180 q181 q182 q17 q183) rfl rfl rfl hd_X2_write hR
theorem cm_has (F : CallFix p m c cc nL s args lw_all RX2) (hR : d + 1 ≤ R.frames ∧ 8 + (2 + 11) + 30 * d ≤ R.locals) : CallW R s args RX2 RX2 25 yX2_has cX2_has 2 (some .boolean) (ws_ yX2_has cX2_has 2 (some .boolean)) (rmD d) 0 0 1 :=
  cwV 1 F.2.2.2.2 (lw_V q212 q205 q206 q17 q207) rfl rfl rfl hd_X2_has hR
theorem hd_X2_isPage : yX2_isPage.cls = RX2 ∧ yX2_isPage.cls ≠ "java/lang/invoke/MethodHandle" ∧ yX2_isPage.cls ≠ "java/lang/invoke/VarHandle" ∧ (parseMethodDescriptor yX2_isPage.desc).map (fun d => d.parameters.length) = some 1 := by decide +kernel
theorem cm_isPage (F : CallFix p m c cc nL s args lw_all RX2) (hR : d + 1 ≤ R.frames ∧ 8 + (2 + 11) + 30 * d ≤ R.locals) : CallW R s args RX2 RX2 17 yX2_isPage cX2_isPage 2 (some .boolean) (ws_ yX2_isPage cX2_isPage 2 (some .boolean)) (rmD d) 0 0 1 :=
  cwV 1 F.2.2.2.2 (lw_V q184 q186 qs14 q17 q187) rfl rfl rfl hd_X2_isPage hR
theorem cm_read (F : CallFix p m c cc nL s args lw_all RX2) (hR : d + 1 ≤ R.frames ∧ 8 + (2 + 11) + 30 * d ≤ R.locals) : CallW R s args RX2 RX2 28 yX2_read cX2_read 2 (some .int) (ws_ yX2_read cX2_read 2 (some .int)) (rmD d) 0 0 1 :=
  cwV 1 F.2.2.2.2 (lw_V q222 q209 q210 q17 q211) rfl rfl rfl hd_X2_read hR
theorem cm_used (F : CallFix p m c cc nL s args lw_all RX2) (hR : d + 1 ≤ R.frames ∧ 8 + (3 + 11) + 30 * d ≤ R.locals) : CallW R s args RX2 RX2 21 yX2_used cX2_used 3 (some .int) (ws_ yX2_used cX2_used 3 (some .int)) (rmD d) 0 0 0 :=
  cwV 0 F.2.2.2.2 (lw_V q200 q201 q202 q17 q203) rfl rfl rfl hd_X2_used hR
end CW
end
section
/-! the plain law: FlashMap's state against a table of twelve values -/
theorem fu_s {α : Type} {f : Nat → α} {k : Nat} {v : α} : fu f k v k = v := by simp [fu]
theorem fu_n {α : Type} {f : Nat → α} {k j : Nat} {v : α} (h : j ≠ k) : fu f k v j = f j := by simp [fu, h]
theorem fu_id {α : Type} (f : Nat → α) (k : Nat) : fu f k (f k) = f := by
  funext j
  by_cases h : j = k
  · rw [h, fu_s]
  · rw [fu_n h]
def isPg (p : Int32) : Bool := decide (0 ≤ p) && decide (p ≤ 11)
theorem isPg_t {p : Int32} (h : isPg p = true) : ∃ j, j < 12 ∧ p = nI j := by
  simp only [isPg, Bool.and_eq_true, decide_eq_true_eq] at h
  obtain ⟨j, h1, h2⟩ := nI_of2 (M := 11) (n := 11) (by decide) (Int32.not_lt.mpr h.1) h.2
  exact ⟨j, by omega, h2⟩
theorem isPg_n {j : Nat} (h : j < 12) : isPg (nI j) = true := by
  simp only [isPg, Bool.and_eq_true, decide_eq_true_eq]
  exact ⟨nI_pos' (by omega), (nI_leI (b := 11) (by omega) (by decide)).mpr (by omega)⟩
abbrev TB : Type := Nat → Option Int32
def hasT (T : TB) (p : Int32) : Bool := isPg p && (T p.toNatClampNeg).isSome
def rdT (T : TB) (p : Int32) : Int32 := if isPg p = true then (T p.toNatClampNeg).getD 0 else 0
def cntT (T : TB) : Nat → Nat
  | 0 => 0
  | n + 1 => cntT T n + (if (T n).isSome = true then 1 else 0)
def nxT (T : TB) (p : Int32) : Nat → Int32
  | 0 => -2
  | n + 1 => if p < nI (11 - n) ∧ (T (11 - n)).isSome = true then nI (11 - n) else nxT T p n
def sumT (T : TB) : Nat → Int64
  | 0 => 0
  | n + 1 => sumT T n + (rdT T (nI n)).toInt64
def wrT (T : TB) (p : Int32) (x : Option Int32) : TB := if isPg p = true then fu T p.toNatClampNeg x else T
def wrA (T : TB) (p : Int32) : Int32 := if isPg p = true then bI (T p.toNatClampNeg).isSome else -1
def exT (T : TB) (p q : Int32) : TB := if (isPg p && isPg q) = true then fu (fu T p.toNatClampNeg (T q.toNatClampNeg)) q.toNatClampNeg (T p.toNatClampNeg) else T
def exA (T : TB) (p q : Int32) : Int32 := if (isPg p && isPg q) = true then bI (T p.toNatClampNeg).isSome + bI (T q.toNatClampNeg).isSome else -1
def flC (p q r : Int32) : Bool := isPg p && isPg q && isPg r && decide (q ≤ r)
def flN (T : TB) (x : Option Int32) (a b : Nat) : TB := fun k => if a ≤ k ∧ k < b then x else T k
def flT (T : TB) (p q r : Int32) : TB := if flC p q r = true then flN T (T p.toNatClampNeg) q.toNatClampNeg (r.toNatClampNeg + 1) else T
def flA (p q r : Int32) : Int32 := if flC p q r = true then r - q + 1 else -1
theorem flN_0 (T : TB) (x : Option Int32) (a : Nat) : flN T x a a = T := by
  funext k
  simp only [flN]
  rw [if_neg (by omega)]
theorem flN_s (T : TB) (x : Option Int32) {a b : Nat} (h : a ≤ b) : fu (flN T x a b) b x = flN T x a (b + 1) := by
  funext k
  by_cases hk : k = b
  · subst hk
    rw [fu_s]
    simp only [flN]
    rw [if_pos (by omega)]
  · rw [fu_n hk]
    simp only [flN]
    by_cases h2 : a ≤ k ∧ k < b
    · rw [if_pos h2, if_pos (by omega)]
    · rw [if_neg h2, if_neg (by omega)]
/-- what the flash says of a logical page -/
def tv (S : FS) (p : Nat) : Option Int32 := match fPl S p with
  | none => none
  | some k => if fEm S k = true then none else some (fDa S k)
theorem tv_n {S : FS} {p : Nat} (h : fPl S p = none) : tv S p = none := by simp only [tv, h]
theorem tv_s {S : FS} {p k : Nat} (h : fPl S p = some k) : tv S p = if fEm S k = true then none else some (fDa S k) := by simp only [tv, h]
def Fl (S : FS) (T : TB) : Prop :=
  (∀ a, a < 32 → fSt S a < 3) ∧ (∀ a, a < 32 → fLo S a < 12) ∧ (∀ p k, p < 12 → fPl S p = some k → k < 32 ∧ fSt S k = 1 ∧ fLo S k = p) ∧
  (∀ a, a < 32 → fSt S a = 1 → ∃ k, fPl S (fLo S a) = some k ∧ (a = k ∨ fRu S a < fRu S k)) ∧ (∀ a, a < 32 → fSt S a = 1 → fRu S a < fNn S) ∧ 1 ≤ fNn S ∧ (∀ p, p < 12 → T p = tv S p)
def erB (S : FS) (b : Nat) : Bool := decide (fSt S (4 * b) = 0 ∧ fSt S (4 * b + 1) = 0 ∧ fSt S (4 * b + 2) = 0 ∧ fSt S (4 * b + 3) = 0)
theorem erB_t {S : FS} {b : Nat} (h : erB S b = true) : ∀ i, i < 4 → fSt S (4 * b + i) = 0 := by
  simp only [erB, decide_eq_true_eq] at h
  intro i hi
  rcases (show i = 0 ∨ i = 1 ∨ i = 2 ∨ i = 3 by omega) with e | e | e | e <;> subst e
  · exact h.1
  · exact h.2.1
  · exact h.2.2.1
  · exact h.2.2.2
theorem erB_i {S : FS} {b : Nat} (h : ∀ i, i < 4 → fSt S (4 * b + i) = 0) : erB S b = true := by
  simp only [erB, decide_eq_true_eq]
  exact ⟨h 0 (by omega), h 1 (by omega), h 2 (by omega), h 3 (by omega)⟩
theorem erB_f {S : FS} {b i : Nat} (hi : i < 4) (h : fSt S (4 * b + i) ≠ 0) : erB S b = false := by
  cases hq : erB S b with
  | false => rfl
  | true => exact absurd (erB_t hq i hi) h
def Bl (S : FS) : Prop :=
  (∀ b i j, b < 8 → i < j → j < 4 → fSt S (4 * b + i) = 0 → fSt S (4 * b + j) = 0) ∧
  (∀ b, b < 8 → fSt S (4 * b + 3) = 0 → fSt S (4 * b) = 0 ∨ fOb S = some b) ∧
  (∀ b, fOb S = some b → b < 8) ∧ (∃ b, b < 8 ∧ erB S b = true ∧ fOb S ≠ some b) ∧ 1 ≤ fSp S ∧ fSp S ≤ 3
def Inv (S : FS) (T : TB) (N : Nat) : Prop := Fl S T ∧ Bl S ∧ fNn S ≤ N
theorem Fl.tb {S : FS} {T T' : TB} (h : Fl S T) (e : ∀ p, p < 12 → T' p = T p) : Fl S T' := by
  obtain ⟨h1, h2, h3, h4, h5, h6, h7⟩ := h
  exact ⟨h1, h2, h3, h4, h5, h6, fun p hp => (e p hp).trans (h7 p hp)⟩
theorem Fl.pl {S : FS} {T : TB} (h : Fl S T) {p k : Nat} (hp : p < 12) (e : fPl S p = some k) : k < 2 ^ 31 := by
  have := (h.2.2.1 p k hp e).1
  omega
/-- a page is filled -/
def fillS (S : FS) (a p : Nat) (v : Int32) (e : Bool) : FS := (fu (fSt S) a 1, fu (fDa S) a v, fu (fLo S) a p, fu (fEm S) a e, fu (fRu S) a (fNn S), fEr S, fSp S, fu (fPl S) p (some a), fOb S, fNn S + 1)
theorem Fl.fill {S : FS} {T : TB} {a p : Nat} {v : Int32} {e : Bool} (h : Fl S T) (ha : a < 32) (hz : fSt S a = 0) (hp : p < 12) : Fl (fillS S a p v e) (fu T p (if e = true then none else some v)) := by
  obtain ⟨h1, h2, h3, h4, h5, h6, h7⟩ := h
  have nz : ∀ k, fSt S k = 1 → k ≠ a := fun k hk q => by rw [q, hz] at hk; omega
  refine ⟨fun x hx => ?_, fun x hx => ?_, fun q k hq hk => ?_, fun x hx hs => ?_, fun x hx hs => ?_, ?_, fun q hq => ?_⟩
  · show fu (fSt S) a 1 x < 3
    by_cases hxa : x = a
    · rw [hxa, fu_s]; omega
    · rw [fu_n hxa]; exact h1 x hx
  · show fu (fLo S) a p x < 12
    by_cases hxa : x = a
    · rw [hxa, fu_s]; omega
    · rw [fu_n hxa]; exact h2 x hx
  · have hk : fu (fPl S) p (some a) q = some k := hk
    show k < 32 ∧ fu (fSt S) a 1 k = 1 ∧ fu (fLo S) a p k = q
    by_cases hqp : q = p
    · rw [hqp, fu_s] at hk
      cases hk
      rw [fu_s, fu_s]
      exact ⟨ha, rfl, hqp.symm⟩
    · rw [fu_n hqp] at hk
      obtain ⟨g1, g2, g3⟩ := h3 q k hq hk
      rw [fu_n (nz k g2), fu_n (nz k g2)]
      exact ⟨g1, g2, g3⟩
  · have hs : fu (fSt S) a 1 x = 1 := hs
    show ∃ k, fu (fPl S) p (some a) (fu (fLo S) a p x) = some k ∧ (x = k ∨ fu (fRu S) a (fNn S) x < fu (fRu S) a (fNn S) k)
    by_cases hxa : x = a
    · subst hxa
      refine ⟨x, ?_, Or.inl rfl⟩
      rw [fu_s, fu_s]
    · rw [fu_n hxa] at hs
      rw [fu_n hxa, fu_n hxa]
      obtain ⟨k, g1, g2⟩ := h4 x hx hs
      by_cases hlp : fLo S x = p
      · refine ⟨a, ?_, Or.inr ?_⟩
        · rw [hlp, fu_s]
        · rw [fu_s]
          exact h5 x hx hs
      · refine ⟨k, ?_, ?_⟩
        · rw [fu_n hlp]; exact g1
        · rw [fu_n (nz k (h3 _ k (h2 x hx) g1).2.1)]
          exact g2
  · have hs : fu (fSt S) a 1 x = 1 := hs
    show fu (fRu S) a (fNn S) x < fNn S + 1
    by_cases hxa : x = a
    · rw [hxa, fu_s]; omega
    · rw [fu_n hxa] at hs ⊢
      have := h5 x hx hs
      omega
  · show 1 ≤ fNn S + 1
    omega
  · by_cases hqp : q = p
    · subst hqp
      rw [fu_s, tv_s (S := fillS S a q v e) (k := a) (show fu (fPl S) q (some a) q = some a from fu_s)]
      show _ = if fu (fEm S) a e a = true then none else some (fu (fDa S) a v a)
      rw [fu_s, fu_s]
    · rw [fu_n hqp, h7 q hq]
      cases hpl : fPl S q with
      | none => rw [tv_n hpl, tv_n (S := fillS S a p v e) (show fu (fPl S) p (some a) q = none by rw [fu_n hqp]; exact hpl)]
      | some k =>
        have hka := nz k (h3 q k hq hpl).2.1
        rw [tv_s hpl, tv_s (S := fillS S a p v e) (k := k) (show fu (fPl S) p (some a) q = some k by rw [fu_n hqp]; exact hpl)]
        show _ = if fu (fEm S) a e k = true then none else some (fu (fDa S) a v k)
        rw [fu_n hka, fu_n hka]
/-- a page is torn -/
def tornS (S : FS) (a p : Nat) (v : Int32) : FS := (fu (fSt S) a 2, fu (fDa S) a v, fu (fLo S) a p, fEm S, fu (fRu S) a (fNn S), fEr S, fSp S, fPl S, fOb S, fNn S)
theorem Fl.torn {S : FS} {T : TB} {a p : Nat} {v : Int32} (h : Fl S T) (hz : fSt S a = 0) (hp : p < 12) : Fl (tornS S a p v) T := by
  obtain ⟨h1, h2, h3, h4, h5, h6, h7⟩ := h
  have nz : ∀ k, fSt S k = 1 → k ≠ a := fun k hk q => by rw [q, hz] at hk; omega
  refine ⟨fun x hx => ?_, fun x hx => ?_, fun q k hq hk => ?_, fun x hx hs => ?_, fun x hx hs => ?_, h6, fun q hq => ?_⟩
  · show fu (fSt S) a 2 x < 3
    by_cases hxa : x = a
    · rw [hxa, fu_s]; omega
    · rw [fu_n hxa]; exact h1 x hx
  · show fu (fLo S) a p x < 12
    by_cases hxa : x = a
    · rw [hxa, fu_s]; omega
    · rw [fu_n hxa]; exact h2 x hx
  · obtain ⟨g1, g2, g3⟩ := h3 q k hq hk
    show k < 32 ∧ fu (fSt S) a 2 k = 1 ∧ fu (fLo S) a p k = q
    rw [fu_n (nz k g2), fu_n (nz k g2)]
    exact ⟨g1, g2, g3⟩
  · have hs : fu (fSt S) a 2 x = 1 := hs
    have hxa : x ≠ a := fun q => by rw [q, fu_s] at hs; omega
    rw [fu_n hxa] at hs
    show ∃ k, fPl S (fu (fLo S) a p x) = some k ∧ (x = k ∨ fu (fRu S) a (fNn S) x < fu (fRu S) a (fNn S) k)
    rw [fu_n hxa, fu_n hxa]
    obtain ⟨k, g1, g2⟩ := h4 x hx hs
    refine ⟨k, g1, ?_⟩
    rw [fu_n (nz k (h3 _ k (h2 x hx) g1).2.1)]
    exact g2
  · have hs : fu (fSt S) a 2 x = 1 := hs
    have hxa : x ≠ a := fun q => by rw [q, fu_s] at hs; omega
    rw [fu_n hxa] at hs
    show fu (fRu S) a (fNn S) x < fNn S
    rw [fu_n hxa]
    exact h5 x hx hs
  · rw [h7 q hq]
    cases hpl : fPl S q with
    | none => rw [tv_n hpl, tv_n (S := tornS S a p v) (show fPl S q = none from hpl)]
    | some k =>
      have hka := nz k (h3 q k hq hpl).2.1
      rw [tv_s hpl, tv_s (S := tornS S a p v) (k := k) (show fPl S q = some k from hpl)]
      show _ = if fEm S k = true then none else some (fu (fDa S) a v k)
      rw [fu_n hka]
/-- a page that nothing points to is erased -/
theorem Fl.erase {S : FS} {T : TB} {a : Nat} (h : Fl S T) (hn : ∀ p, p < 12 → fPl S p ≠ some a) : Fl (uSt S (fu (fSt S) a 0)) T := by
  obtain ⟨h1, h2, h3, h4, h5, h6, h7⟩ := h
  refine ⟨fun x hx => ?_, h2, fun q k hq hk => ?_, fun x hx hs => ?_, fun x hx hs => ?_, h6, h7⟩
  · show fu (fSt S) a 0 x < 3
    by_cases hxa : x = a
    · rw [hxa, fu_s]; omega
    · rw [fu_n hxa]; exact h1 x hx
  · obtain ⟨g1, g2, g3⟩ := h3 q k hq hk
    have hka : k ≠ a := fun z => hn q hq (by rw [← z]; exact hk)
    show k < 32 ∧ fu (fSt S) a 0 k = 1 ∧ fLo S k = q
    rw [fu_n hka]
    exact ⟨g1, g2, g3⟩
  · have hs : fu (fSt S) a 0 x = 1 := hs
    have hxa : x ≠ a := fun q => by rw [q, fu_s] at hs; omega
    rw [fu_n hxa] at hs
    exact h4 x hx hs
  · have hs : fu (fSt S) a 0 x = 1 := hs
    have hxa : x ≠ a := fun q => by rw [q, fu_s] at hs; omega
    rw [fu_n hxa] at hs
    exact h5 x hx hs
/-- the places may be read off another function, the next number may be another -/
theorem Fl.plc {S : FS} {T : TB} {f : Nat → Option Nat} (h : Fl S T) (e : ∀ q, q < 12 → f q = fPl S q) : Fl (uPl S f) T := by
  obtain ⟨h1, h2, h3, h4, h5, h6, h7⟩ := h
  refine ⟨h1, h2, fun q k hq hk => h3 q k hq (by rw [← e q hq]; exact hk), fun x hx hs => ?_, h5, h6, fun q hq => ?_⟩
  · obtain ⟨k, g1, g2⟩ := h4 x hx hs
    refine ⟨k, ?_, g2⟩
    show f (fLo S x) = some k
    rw [e _ (h2 x hx)]
    exact g1
  · rw [h7 q hq]
    cases hpl : fPl S q with
    | none => rw [tv_n hpl, tv_n (S := uPl S f) (show f q = none by rw [e q hq]; exact hpl)]
    | some k => rw [tv_s hpl, tv_s (S := uPl S f) (k := k) (show f q = some k by rw [e q hq]; exact hpl)]; rfl
theorem Fl.nnc {S : FS} {T : TB} {n : Nat} (h : Fl S T) (h0 : 1 ≤ n) (e : ∀ a, a < 32 → fSt S a = 1 → fRu S a < n) : Fl (uNn S n) T := by
  obtain ⟨h1, h2, h3, h4, h5, h6, h7⟩ := h
  exact ⟨h1, h2, h3, h4, e, h0, h7⟩
/-! counting -/
def cntE (S : FS) : Nat → Nat
  | 0 => 0
  | n + 1 => cntE S n + (if erB S n = true then 1 else 0)
theorem cntE_le (S : FS) : ∀ n, cntE S n ≤ n
  | 0 => Nat.le_refl _
  | n + 1 => by
    have := cntE_le S n
    simp only [cntE]
    split <;> omega
theorem cntE_one {S : FS} {b0 : Nat} : ∀ n, (∀ b, b < n → erB S b = true → b = b0) → cntE S n ≤ (if b0 < n then 1 else 0)
  | 0, _ => Nat.zero_le _
  | n + 1, h => by
    have ih := cntE_one n (fun b hb => h b (by omega))
    simp only [cntE]
    by_cases he : erB S n = true
    · have := h n (by omega) he
      rw [if_pos he, if_pos (by omega)]
      rw [if_neg (by omega)] at ih
      omega
    · rw [if_neg he]
      split at ih
      · rw [if_pos (by omega)]; omega
      · omega
theorem cntE_two {S : FS} {b0 : Nat} (h : 2 ≤ cntE S 8) : ∃ b, b < 8 ∧ erB S b = true ∧ b ≠ b0 := by
  refine Classical.byContradiction fun hn => ?_
  have := cntE_one (S := S) (b0 := b0) 8 (fun b hb he => Classical.byContradiction fun q => hn ⟨b, hb, he, q⟩)
  split at this <;> omega
def vlB (S : FS) (a : Nat) : Bool := decide (fSt S a = 1 ∧ fPl S (fLo S a) = some a)
theorem vlB_t {S : FS} {a : Nat} (h : vlB S a = true) : fSt S a = 1 ∧ fPl S (fLo S a) = some a := by
  simp only [vlB, decide_eq_true_eq] at h
  exact h
theorem vlB_i {S : FS} {a : Nat} (h1 : fSt S a = 1) (h2 : fPl S (fLo S a) = some a) : vlB S a = true := by
  simp only [vlB, decide_eq_true_eq]
  exact ⟨h1, h2⟩
theorem vlB_f {S : FS} {a : Nat} (h : ¬ (fSt S a = 1 ∧ fPl S (fLo S a) = some a)) : vlB S a = false := by
  simp only [vlB, decide_eq_false_iff_not]
  exact h
def vc (S : FS) (b : Nat) : Nat → Nat
  | 0 => 0
  | n + 1 => vc S b n + (if vlB S (4 * b + n) = true then 1 else 0)
theorem vc_le (S : FS) (b : Nat) : ∀ n, vc S b n ≤ n
  | 0 => Nat.le_refl _
  | n + 1 => by
    have := vc_le S b n
    simp only [vc]
    split <;> omega
theorem vc_mono (S : FS) (b : Nat) {i : Nat} : ∀ n, i ≤ n → vc S b i ≤ vc S b n
  | 0, h => by rw [show i = 0 by omega]; exact Nat.le_refl _
  | n + 1, h => by
    by_cases e : i = n + 1
    · rw [e]; exact Nat.le_refl _
    · have := vc_mono S b (i := i) n (by omega)
      simp only [vc]
      omega
theorem vc_er {S : FS} {b : Nat} (h : erB S b = true) : ∀ n, n ≤ 4 → vc S b n = 0
  | 0, _ => rfl
  | n + 1, hn => by
    simp only [vc]
    rw [vc_er h n (by omega), if_neg]
    intro q
    have h1 := (vlB_t q).1
    rw [erB_t h n (by omega)] at h1
    omega
def vsum (S : FS) : Nat → Nat
  | 0 => 0
  | n + 1 => vsum S n + vc S n 4
def vall (S : FS) : Nat → Nat
  | 0 => 0
  | n + 1 => vall S n + (if vlB S n = true then 1 else 0)
theorem vsum_all (S : FS) : ∀ n, vsum S n = vall S (4 * n)
  | 0 => rfl
  | n + 1 => by
    have ih := vsum_all S n
    show vsum S n + vc S n 4 = vall S (4 * n + 1 + 1 + 1 + 1)
    simp only [vall, vc]
    rw [ih]
    simp only [Nat.add_assoc, Nat.add_zero, Nat.zero_add, Nat.reduceAdd]
def sumN (f : Nat → Nat) : Nat → Nat
  | 0 => 0
  | n + 1 => sumN f n + f n
theorem sumN_add (f g : Nat → Nat) : ∀ n, sumN (fun p => f p + g p) n = sumN f n + sumN g n
  | 0 => rfl
  | n + 1 => by
    simp only [sumN]
    rw [sumN_add f g n]
    omega
theorem sumN_le (f : Nat → Nat) : ∀ n, (∀ p, p < n → f p ≤ 1) → sumN f n ≤ n
  | 0, _ => Nat.le_refl _
  | n + 1, h => by
    have h1 := sumN_le f n (fun p hp => h p (by omega))
    have h2 := h n (by omega)
    simp only [sumN]
    omega
theorem sumN_ind (c : Prop) [Decidable c] (x : Nat) : ∀ n, sumN (fun p => if c ∧ x = p then 1 else 0) n = if c ∧ x < n then 1 else 0
  | 0 => by simp [sumN]
  | n + 1 => by
    simp only [sumN]
    rw [sumN_ind c x n]
    by_cases hc : c
    · by_cases hx : x = n
      · simp [hc, hx]
      · by_cases h2 : x < n
        · simp [hc, hx, h2, show x < n + 1 by omega]
        · simp [hc, hx, h2, show ¬ x < n + 1 by omega]
    · simp [hc]
def cpg (S : FS) (p : Nat) : Nat → Nat
  | 0 => 0
  | n + 1 => cpg S p n + (if vlB S n = true ∧ fLo S n = p then 1 else 0)
theorem cpg_le (S : FS) (p : Nat) : ∀ n, cpg S p n ≤ 1 ∧ (1 ≤ cpg S p n → ∃ k, k < n ∧ fPl S p = some k)
  | 0 => ⟨Nat.zero_le _, fun h => absurd h (by simp [cpg])⟩
  | n + 1 => by
    obtain ⟨h1, h2⟩ := cpg_le S p n
    simp only [cpg]
    by_cases hv : vlB S n = true ∧ fLo S n = p
    · have hp : fPl S p = some n := by rw [← hv.2]; exact (vlB_t hv.1).2
      rw [if_pos hv]
      refine ⟨?_, fun _ => ⟨n, by omega, hp⟩⟩
      by_cases h0 : 1 ≤ cpg S p n
      · obtain ⟨k, g1, g2⟩ := h2 h0
        rw [hp] at g2
        cases g2
        omega
      · omega
    · rw [if_neg hv]
      refine ⟨by omega, fun h => ?_⟩
      obtain ⟨k, g1, g2⟩ := h2 (by omega)
      exact ⟨k, by omega, g2⟩
theorem vall_cpg (S : FS) : ∀ n, (∀ a, a < n → fLo S a < 12) → vall S n = sumN (fun p => cpg S p n) 12
  | 0, _ => by simp [vall, cpg, sumN]
  | n + 1, h => by
    have ih := vall_cpg S n (fun a ha => h a (by omega))
    have h1 := sumN_add (fun p => cpg S p n) (fun p => if vlB S n = true ∧ fLo S n = p then 1 else 0) 12
    have h2 := sumN_ind (vlB S n = true) (fLo S n) 12
    have h3 := h n (by omega)
    show vall S n + _ = sumN (fun p => cpg S p n + if vlB S n = true ∧ fLo S n = p then 1 else 0) 12
    rw [h1, h2, ← ih]
    by_cases hv : vlB S n = true
    · rw [if_pos hv, if_pos ⟨hv, h3⟩]
    · rw [if_neg hv, if_neg (fun q => hv q.1)]
theorem vsum_12 {S : FS} (h : ∀ a, a < 32 → fLo S a < 12) : vsum S 8 ≤ 12 := by
  rw [vsum_all, vall_cpg S (4 * 8) (fun a ha => h a (by omega))]
  exact sumN_le _ 12 (fun p _ => (cpg_le S p _).1)
theorem vsum_ge {S : FS} : ∀ n, (∀ b, b < n → erB S b = false → 4 ≤ vc S b 4) → 4 * n ≤ vsum S n + 4 * cntE S n
  | 0, _ => Nat.zero_le _
  | n + 1, h => by
    have ih := vsum_ge n (fun b hb => h b (by omega))
    simp only [vsum, cntE]
    cases he : erB S n with
    | true => rw [if_pos rfl]; omega
    | false =>
      have := h n (by omega) he
      simp only [Bool.false_eq_true, if_false]
      omega
/-- with at most three blocks free, the block with least that is valid has at most three pages of it -/
theorem least3 {S : FS} {v : Nat} (h : ∀ a, a < 32 → fLo S a < 12) (hc : cntE S 8 ≤ 3) (hm : ∀ b, b < 8 → erB S b = false → vc S v 4 ≤ vc S b 4) : vc S v 4 ≤ 3 := by
  refine Classical.byContradiction fun hn => ?_
  have h1 := vsum_ge (S := S) 8 (fun b hb he => by have := hm b hb he; omega)
  have h2 := vsum_12 h
  omega
theorem some_full {S : FS} (hc : cntE S 8 ≤ 3) : ∃ b, b < 8 ∧ erB S b = false := by
  refine Classical.byContradiction fun hn => ?_
  have key : ∀ n, n ≤ 8 → cntE S n = n := by
    intro n
    induction n with
    | zero => intro _; rfl
    | succ n ih =>
      intro hb
      simp only [cntE]
      rw [ih (by omega), if_pos]
      cases hq : erB S n with
      | true => rfl
      | false => exact absurd ⟨n, by omega, hq⟩ hn
  have := key 8 (by omega)
  omega
end
section
/-! emptying a block, a fresh page, starting up: the plain steps -/
theorem Inv.mono {S : FS} {T : TB} {N N' : Nat} (h : Inv S T N) (hn : N ≤ N') : Inv S T N' := ⟨h.1, h.2.1, Nat.le_trans h.2.2 hn⟩
def EmI (S : FS) (T : TB) (b o i : Nat) (S' : FS) : Prop :=
  Fl S' T ∧ fOb S' = some o ∧ fSp S' = fSp S ∧ fNn S' = fNn S + vc S b i ∧
  (∀ j, j < vc S b i → fSt S' (4 * o + j) = 1) ∧ (∀ j, vc S b i ≤ j → j < 4 → fSt S' (4 * o + j) = 0) ∧
  (∀ a, a < 32 → a / 4 ≠ o → fSt S' a = fSt S a) ∧
  (∀ j, i ≤ j → j < 4 → vlB S' (4 * b + j) = vlB S (4 * b + j)) ∧ (∀ j, j < i → vlB S' (4 * b + j) = false)
theorem EmI_0 {S : FS} {T : TB} {b o : Nat} (h : Fl S T) (ho : fOb S = some o) (he : erB S o = true) : EmI S T b o 0 S :=
  ⟨h, ho, rfl, rfl, fun j hj => absurd hj (Nat.not_lt_zero _), fun j _ hj => erB_t he j hj, fun _ _ _ => rfl, fun _ _ _ => rfl, fun j hj => absurd hj (Nat.not_lt_zero _)⟩
theorem EmI_n {S S' : FS} {T : TB} {b o i : Nat} (h : EmI S T b o i S') (hi : i < 4) (hv : vlB S' (4 * b + i) = false) : EmI S T b o (i + 1) S' := by
  obtain ⟨h1, h2, h3, h4, h5, h6, h7, h8, h9⟩ := h
  have hc : vc S b (i + 1) = vc S b i := by
    simp only [vc]
    rw [if_neg (by rw [← h8 i (Nat.le_refl _) hi, hv]; decide)]
    rfl
  rw [← hc] at h4 h5 h6
  refine ⟨h1, h2, h3, h4, h5, h6, h7, fun j hj hj4 => h8 j (by omega) hj4, fun j hj => ?_⟩
  by_cases e : j = i
  · rw [e]; exact hv
  · exact h9 j (by omega)
theorem EmI_v {S S' : FS} {T : TB} {b o i : Nat} (h : EmI S T b o i S') (hi : i < 4) (hb : b < 8) (ho : o < 8) (hbo : b ≠ o) (h3v : vc S b 4 ≤ 3) (hv : vlB S' (4 * b + i) = true) :
    vc S b i < 4 ∧ EmI S T b o (i + 1) (fillS S' (4 * o + vc S b i) (fLo S' (4 * b + i)) (fDa S' (4 * b + i)) (fEm S' (4 * b + i))) := by
  obtain ⟨h1, h2, h3, h4, h5, h6, h7, h8, h9⟩ := h
  have hvs : vlB S (4 * b + i) = true := by rw [← h8 i (Nat.le_refl _) hi]; exact hv
  have hc : vc S b (i + 1) = vc S b i + 1 := by
    simp only [vc]
    rw [if_pos hvs]
  have hm := vc_mono S b (i := i + 1) 4 (by omega)
  have hc4 : vc S b i < 4 := by omega
  refine ⟨hc4, ?_⟩
  obtain ⟨hs1, hs2⟩ := vlB_t hv
  have hlo : fLo S' (4 * b + i) < 12 := h1.2.1 _ (by omega)
  generalize hcc : vc S b i = c at *
  have hz := h6 c (Nat.le_refl _) hc4
  have hT : fu T (fLo S' (4 * b + i)) (if fEm S' (4 * b + i) = true then none else some (fDa S' (4 * b + i))) = T := by
    rw [← tv_s hs2, ← h1.2.2.2.2.2.2 _ hlo]
    exact fu_id T _
  have hF := h1.fill (a := 4 * o + c) (p := fLo S' (4 * b + i)) (v := fDa S' (4 * b + i)) (e := fEm S' (4 * b + i)) (by omega) hz hlo
  rw [hT] at hF
  have hoff : ∀ j, j < 4 → 4 * b + j ≠ 4 * o + c := fun j hj q => hbo (by omega)
  refine ⟨hF, h2, h3, ?_, fun j hj => ?_, fun j hj hj4 => ?_, fun a ha hao => ?_, fun j hj hj4 => ?_, fun j hj => ?_⟩
  · show fNn S' + 1 = _
    rw [hc, h4]
    omega
  · show fu (fSt S') (4 * o + c) 1 (4 * o + j) = 1
    by_cases e : j = c
    · rw [e, fu_s]
    · rw [fu_n (by omega)]
      exact h5 j (by omega)
  · show fu (fSt S') (4 * o + c) 1 (4 * o + j) = 0
    rw [fu_n (by omega)]
    exact h6 j (by omega) hj4
  · show fu (fSt S') (4 * o + c) 1 a = fSt S a
    rw [fu_n (by omega)]
    exact h7 a ha hao
  · rw [← h8 j (by omega) hj4]
    have hne := hoff j hj4
    have e1 : fSt (fillS S' (4 * o + c) (fLo S' (4 * b + i)) (fDa S' (4 * b + i)) (fEm S' (4 * b + i))) (4 * b + j) = fSt S' (4 * b + j) := fu_n hne
    have e2 : fLo (fillS S' (4 * o + c) (fLo S' (4 * b + i)) (fDa S' (4 * b + i)) (fEm S' (4 * b + i))) (4 * b + j) = fLo S' (4 * b + j) := fu_n hne
    by_cases hl : fLo S' (4 * b + j) = fLo S' (4 * b + i)
    · rw [vlB_f (S := S') (fun q => by
        have q2 := q.2
        rw [hl, hs2] at q2
        have := Option.some.inj q2
        omega)]
      refine vlB_f (fun q => ?_)
      have q2 := q.2
      rw [e2, hl] at q2
      have q3 : fu (fPl S') (fLo S' (4 * b + i)) (some (4 * o + c)) (fLo S' (4 * b + i)) = some (4 * b + j) := q2
      rw [fu_s] at q3
      exact hne (Option.some.inj q3).symm
    · have e3 : fPl (fillS S' (4 * o + c) (fLo S' (4 * b + i)) (fDa S' (4 * b + i)) (fEm S' (4 * b + i))) (fLo S' (4 * b + j)) = fPl S' (fLo S' (4 * b + j)) := fu_n hl
      simp only [vlB]
      rw [e1, e2, e3]
  · have hne := hoff j (by omega)
    have e1 : fSt (fillS S' (4 * o + c) (fLo S' (4 * b + i)) (fDa S' (4 * b + i)) (fEm S' (4 * b + i))) (4 * b + j) = fSt S' (4 * b + j) := fu_n hne
    have e2 : fLo (fillS S' (4 * o + c) (fLo S' (4 * b + i)) (fDa S' (4 * b + i)) (fEm S' (4 * b + i))) (4 * b + j) = fLo S' (4 * b + j) := fu_n hne
    by_cases hl : fLo S' (4 * b + j) = fLo S' (4 * b + i)
    · refine vlB_f (fun q => ?_)
      have q2 := q.2
      rw [e2, hl] at q2
      have q3 : fu (fPl S') (fLo S' (4 * b + i)) (some (4 * o + c)) (fLo S' (4 * b + i)) = some (4 * b + j) := q2
      rw [fu_s] at q3
      exact hne (Option.some.inj q3).symm
    · have e3 : fPl (fillS S' (4 * o + c) (fLo S' (4 * b + i)) (fDa S' (4 * b + i)) (fEm S' (4 * b + i))) (fLo S' (4 * b + j)) = fPl S' (fLo S' (4 * b + j)) := fu_n hl
      have hji : j ≠ i := fun q => hl (by rw [q])
      have h10 := h9 j (by omega)
      simp only [vlB] at h10 ⊢
      rw [e1, e2, e3]
      exact h10
def ErI (S : FS) (T : TB) (b i : Nat) (S' : FS) : Prop :=
  Fl S' T ∧ fOb S' = fOb S ∧ fSp S' = fSp S ∧ fNn S' = fNn S ∧ fPl S' = fPl S ∧ (∀ j, j < i → fSt S' (4 * b + j) = 0) ∧ (∀ a, a < 32 → a / 4 ≠ b → fSt S' a = fSt S a)
theorem ErI_0 {S : FS} {T : TB} {b : Nat} (h : Fl S T) : ErI S T b 0 S := ⟨h, rfl, rfl, rfl, rfl, fun j hj => absurd hj (Nat.not_lt_zero _), fun _ _ _ => rfl⟩
theorem ErI_s {S S' : FS} {T : TB} {b i : Nat} (h : ErI S T b i S') (hi : i < 4) (hn : ∀ p, p < 12 → ∀ j, j < 4 → fPl S p ≠ some (4 * b + j)) : ErI S T b (i + 1) (uSt S' (fu (fSt S') (4 * b + i) 0)) := by
  obtain ⟨h1, h2, h3, h4, h5, h6, h7⟩ := h
  refine ⟨h1.erase (fun p hp => by rw [h5]; exact hn p hp i hi), h2, h3, h4, h5, fun j hj => ?_, fun a ha hab => ?_⟩
  · show fu (fSt S') (4 * b + i) 0 (4 * b + j) = 0
    by_cases e : j = i
    · rw [e, fu_s]
    · rw [fu_n (by omega)]
      exact h6 j (by omega)
  · show fu (fSt S') (4 * b + i) 0 a = fSt S a
    rw [fu_n (by omega)]
    exact h7 a ha hab
theorem EmI_no {S S' : FS} {T : TB} {b o : Nat} (h : EmI S T b o 4 S') : ∀ p, p < 12 → ∀ j, j < 4 → fPl S' p ≠ some (4 * b + j) := by
  intro p hp j hj q
  obtain ⟨h1, -, -, -, -, -, -, -, h9⟩ := h
  obtain ⟨g1, g2, g3⟩ := h1.2.2.1 p _ hp q
  have := vlB_i g2 (by rw [g3]; exact q)
  rw [h9 j hj] at this
  cases this
def EmP (S : FS) (T : TB) (b o : Nat) (S' : FS) : Prop :=
  ∃ k, k ≤ 3 ∧ Fl S' T ∧ fOb S' = some o ∧ fSp S' = fSp S ∧ fNn S' ≤ fNn S + 4 ∧ (∀ j, j < 4 → fSt S' (4 * b + j) = 0) ∧ (∀ j, j < k → fSt S' (4 * o + j) = 1) ∧ (∀ j, k ≤ j → j < 4 → fSt S' (4 * o + j) = 0) ∧
    (∀ a, a < 32 → a / 4 ≠ b → a / 4 ≠ o → fSt S' a = fSt S a)
theorem EmP_i {S S1 S2 : FS} {T : TB} {b o : Nat} {f : Nat → Int32} (h1 : EmI S T b o 4 S1) (h2 : ErI S1 T b 4 S2) (ho : o < 8) (hbo : b ≠ o) (h3v : vc S b 4 ≤ 3) : EmP S T b o (uEr S2 f) := by
  obtain ⟨a1, a2, a3, a4, a5, a6, a7, a8, a9⟩ := h1
  obtain ⟨b1, b2, b3, b4, b5, b6, b7⟩ := h2
  have hst : ∀ j, j < 4 → fSt S2 (4 * o + j) = fSt S1 (4 * o + j) := fun j hj => b7 _ (by omega) (by omega)
  refine ⟨vc S b 4, h3v, b1, b2.trans a2, b3.trans a3, ?_, b6, fun j hj => ?_, fun j hj hj4 => ?_, fun a ha q1 q2 => (b7 a ha q1).trans (a7 a ha q2)⟩
  · show fNn S2 ≤ _
    rw [b4, a4]
    omega
  · show fSt S2 _ = 1
    rw [hst j (by omega)]
    exact a5 j hj
  · show fSt S2 _ = 0
    rw [hst j hj4]
    exact a6 j hj hj4
def NxP (S : FS) (r : Int32) : Prop :=
  (r = oI none ∧ ∀ b, fOb S = some b → ∀ i, i < 4 → fSt S (4 * b + i) ≠ 0) ∨
  (∃ b i, fOb S = some b ∧ b < 8 ∧ i < 4 ∧ fSt S (4 * b + i) = 0 ∧ (∀ j, j < i → fSt S (4 * b + j) ≠ 0) ∧ r = oI (some (4 * b + i)))
def FrP (T : TB) (N : Nat) (r : Int32) (S' : FS) : Prop :=
  ∃ o i, o < 8 ∧ i < 4 ∧ r = nI (4 * o + i) ∧ Inv S' T N ∧ fOb S' = some o ∧ fSt S' (4 * o + i) = 0 ∧ ∀ j, j < i → fSt S' (4 * o + j) ≠ 0
theorem FrP_i {S : FS} {T : TB} {N : Nat} {r : Int32} {o z : Nat} (h : Inv S T N) (hn : NxP S r) (ho : fOb S = some o) (hz : z < 4) (h0 : fSt S (4 * o + z) = 0) : FrP T N r S := by
  rcases hn with ⟨-, h1⟩ | ⟨b, i, h1, h2, h3, h4, h5, h6⟩
  · exact absurd h0 (h1 o ho z hz)
  · exact ⟨b, i, h2, h3, h6, h, h1, h4, h5⟩
/-- a free block is opened, and another one stays free -/
theorem fr_B {S : FS} {T : TB} {N o : Nat} (h : Inv S T N) (hf : ∀ b, fOb S = some b → ∀ i, i < 4 → fSt S (4 * b + i) ≠ 0) (hc : fSp S < cntE S 8) (ho : o < 8) : Inv (uOb S (some o)) T N := by
  obtain ⟨h1, ⟨g1, g2, g3, g4, g5, g6⟩, h3⟩ := h
  refine ⟨h1, ⟨g1, fun b hb hz => ?_, fun b hb => ?_, ?_, g5, g6⟩, h3⟩
  · rcases g2 b hb hz with q | q
    · exact Or.inl q
    · exact absurd hz (hf b q 3 (by omega))
  · have hb : some o = some b := hb
    cases hb
    exact ho
  · obtain ⟨b, q1, q2, q3⟩ := cntE_two (S := S) (b0 := o) (by omega)
    exact ⟨b, q1, q2, fun z => q3 (by have z : some o = some b := z; cases z; rfl)⟩
theorem fr_C {S S2 : FS} {T : TB} {N v o : Nat} (h : Inv S T N) (hf : ∀ b, fOb S = some b → ∀ i, i < 4 → fSt S (4 * b + i) ≠ 0) (hv : v < 8) (ho : o < 8) (hvo : v ≠ o) (hE : EmP (uOb S (some o)) T v o S2) : Inv S2 T (N + 4) := by
  obtain ⟨h1, ⟨g1, g2, g3, g4, g5, g6⟩, h3⟩ := h
  obtain ⟨k, e1, e2, e3, e4, e5, e6, e7, e8, e9⟩ := hE
  have hoth : ∀ b i, b < 8 → i < 4 → b ≠ v → b ≠ o → fSt S2 (4 * b + i) = fSt S (4 * b + i) := fun b i hb hi q1 q2 => e9 _ (by omega) (by omega) (by omega)
  refine ⟨e2, ⟨fun b i j hb hij hj hz => ?_, fun b hb hz => ?_, fun b hb => ?_, ⟨v, hv, erB_i e6, ?_⟩, ?_, ?_⟩, ?_⟩
  · by_cases q1 : b = v
    · rw [q1]; exact e6 j hj
    · by_cases q2 : b = o
      · subst q2
        by_cases hk : j < k
        · have := e7 i (by omega)
          omega
        · exact e8 j (by omega) hj
      · rw [hoth b i hb (by omega) q1 q2] at hz
        rw [hoth b j hb hj q1 q2]
        exact g1 b i j hb hij hj hz
  · by_cases q1 : b = v
    · left
      rw [q1]
      exact e6 0 (by omega)
    · by_cases q2 : b = o
      · right
        rw [q2]
        exact e3
      · rw [hoth b 3 hb (by omega) q1 q2] at hz
        left
        have h0 := hoth b 0 hb (by omega) q1 q2
        rw [Nat.add_zero] at h0
        rw [h0]
        rcases g2 b hb hz with q | q
        · exact q
        · exact absurd hz (hf b q 3 (by omega))
  · rw [e3] at hb
    cases hb
    exact ho
  · rw [e3]
    intro q
    exact hvo (Option.some.inj q).symm
  · have e4 : fSp S2 = fSp S := e4
    omega
  · have e4 : fSp S2 = fSp S := e4
    omega
  · have e5 : fNn S2 ≤ fNn S + 4 := e5
    omega
theorem Bl_w {S S' : FS} {o i : Nat} {x : Nat} (h : Bl S) (hS : fSt S' = fu (fSt S) (4 * o + i) x) (hx : x ≠ 0) (hob : fOb S' = fOb S) (hsp : fSp S' = fSp S) (ho : o < 8) (hi : i < 4) (hoo : fOb S = some o) (hj : ∀ j, j < i → fSt S (4 * o + j) ≠ 0) : Bl S' := by
  obtain ⟨g1, g2, g3, ⟨b0, g4, g4', g4''⟩, g5, g6⟩ := h
  have hat : ∀ b j, j < 4 → (b ≠ o ∨ j ≠ i) → fSt S' (4 * b + j) = fSt S (4 * b + j) := fun b j hj q => by rw [hS, fu_n (by omega)]
  have hself : fSt S' (4 * o + i) = x := by rw [hS, fu_s]
  refine ⟨fun b k j hb hkj hj4 hz => ?_, fun b hb hz => ?_, fun b hb => g3 b (by rw [← hob]; exact hb), ⟨b0, g4, ?_, by rw [hob]; exact g4''⟩, by omega, by omega⟩
  · by_cases q : b = o ∧ k = i
    · rw [q.1, q.2, hself] at hz
      exact absurd hz hx
    · have hz' : fSt S (4 * b + k) = 0 := by
        rw [← hat b k (by omega) (by omega)]
        exact hz
      have hjz := g1 b k j hb hkj hj4 hz'
      by_cases q2 : b = o ∧ j = i
      · exact absurd (by rw [← q2.1]; exact hz') (hj k (by omega))
      · rw [hat b j hj4 (by omega)]
        exact hjz
  · rw [hob]
    by_cases q : b = o
    · right
      rw [q]
      exact hoo
    · rw [hat b 3 (by omega) (Or.inl q)] at hz
      have h0 := hat b 0 (by omega) (Or.inl q)
      rw [Nat.add_zero] at h0
      rw [h0]
      exact g2 b hb hz
  · refine erB_i (fun j hj => ?_)
    rw [hat b0 j hj (Or.inl (fun q => g4'' (by rw [q]; exact hoo)))]
    exact erB_t g4' j hj
theorem FrP_fill {S : FS} {T : TB} {N o i p : Nat} {v : Int32} {e : Bool} (h : Inv S T N) (ho : o < 8) (hi : i < 4) (hoo : fOb S = some o) (hz : fSt S (4 * o + i) = 0) (hj : ∀ j, j < i → fSt S (4 * o + j) ≠ 0) (hp : p < 12) : Inv (fillS S (4 * o + i) p v e) (fu T p (if e = true then none else some v)) (N + 1) := by
  obtain ⟨h1, h2, h3⟩ := h
  exact ⟨h1.fill (by omega) hz hp, Bl_w h2 (x := 1) rfl (by decide) rfl rfl ho hi hoo hj, Nat.succ_le_succ h3⟩
theorem FrP_torn {S : FS} {T : TB} {N o i p : Nat} {v : Int32} (h : Inv S T N) (ho : o < 8) (hi : i < 4) (hoo : fOb S = some o) (hz : fSt S (4 * o + i) = 0) (hj : ∀ j, j < i → fSt S (4 * o + j) ≠ 0) (hp : p < 12) : Inv (tornS S (4 * o + i) p v) T N := by
  obtain ⟨h1, h2, h3⟩ := h
  exact ⟨h1.torn hz hp, Bl_w h2 (x := 2) rfl (by decide) rfl rfl ho hi hoo hj, h3⟩
/-! starting up -/
def sS (S : FS) (f : Nat → Option Nat) (o : Option Nat) (n : Nat) : FS := (fSt S, fDa S, fLo S, fEm S, fRu S, fEr S, fSp S, f, o, n)
def Fsh (S : FS) (T : TB) (N : Nat) : Prop := ∃ f o n, Inv (sS S f o n) T N
theorem Inv.fsh {S : FS} {T : TB} {N : Nat} (h : Inv S T N) : Fsh S T N := ⟨fPl S, fOb S, fNn S, h⟩
def SuF (S : FS) (i : Nat) (f : Nat → Option Nat) : Prop :=
  (∀ q k, q < 12 → f q = some k → k < i ∧ fSt S k = 1 ∧ fLo S k = q) ∧ (∀ a, a < i → fSt S a = 1 → ∃ k, f (fLo S a) = some k ∧ fRu S a ≤ fRu S k)
def SuN (S : FS) (i n0 n : Nat) : Prop := 1 ≤ n ∧ (∀ a, a < i → fSt S a = 1 → fRu S a < n) ∧ n ≤ n0
theorem SuF_0 {S : FS} {f : Nat → Option Nat} (h : ∀ q, q < 12 → f q = none) : SuF S 0 f := ⟨fun q k hq hk => (by rw [h q hq] at hk; cases hk), fun a ha => absurd ha (Nat.not_lt_zero _)⟩
theorem SuF_n {S : FS} {i : Nat} {f : Nat → Option Nat} (h : SuF S i f) (hs : fSt S i ≠ 1) : SuF S (i + 1) f := by
  refine ⟨fun q k hq hk => ?_, fun a ha h1 => ?_⟩
  · obtain ⟨g1, g2⟩ := h.1 q k hq hk
    exact ⟨by omega, g2⟩
  · by_cases e : a = i
    · rw [e] at h1
      exact absurd h1 hs
    · exact h.2 a (by omega) h1
theorem SuF_k {S : FS} {i k : Nat} {f : Nat → Option Nat} (h : SuF S i f) (hk : f (fLo S i) = some k) (hr : fRu S i ≤ fRu S k) : SuF S (i + 1) f := by
  refine ⟨fun q k hq hk => ?_, fun a ha h1 => ?_⟩
  · obtain ⟨g1, g2⟩ := h.1 q k hq hk
    exact ⟨by omega, g2⟩
  · by_cases e : a = i
    · rw [e]
      exact ⟨k, hk, hr⟩
    · exact h.2 a (by omega) h1
theorem SuF_w {S : FS} {i : Nat} {f : Nat → Option Nat} (h : SuF S i f) (hs : fSt S i = 1) (hr : ∀ k, f (fLo S i) = some k → fRu S k < fRu S i) : SuF S (i + 1) (fu f (fLo S i) (some i)) := by
  refine ⟨fun q k hq hk => ?_, fun a ha h1 => ?_⟩
  · by_cases e : q = fLo S i
    · rw [e, fu_s] at hk
      cases hk
      exact ⟨by omega, hs, e.symm⟩
    · rw [fu_n e] at hk
      obtain ⟨g1, g2⟩ := h.1 q k hq hk
      exact ⟨by omega, g2⟩
  · by_cases e : a = i
    · rw [e]
      exact ⟨i, fu_s, Nat.le_refl _⟩
    · obtain ⟨k, g1, g2⟩ := h.2 a (by omega) h1
      by_cases e2 : fLo S a = fLo S i
      · refine ⟨i, by rw [e2]; exact fu_s, ?_⟩
        have := hr k (by rw [← e2]; exact g1)
        omega
      · exact ⟨k, by rw [fu_n e2]; exact g1, g2⟩
theorem SuN_n {S : FS} {i n0 n : Nat} (h : SuN S i n0 n) (hs : fSt S i ≠ 1) : SuN S (i + 1) n0 n := by
  refine ⟨h.1, fun a ha h1 => ?_, h.2.2⟩
  by_cases e : a = i
  · rw [e] at h1
    exact absurd h1 hs
  · exact h.2.1 a (by omega) h1
theorem SuN_k {S : FS} {i n0 n : Nat} (h : SuN S i n0 n) (hr : fRu S i < n) : SuN S (i + 1) n0 n := by
  refine ⟨h.1, fun a ha h1 => ?_, h.2.2⟩
  by_cases e : a = i
  · rw [e]
    exact hr
  · exact h.2.1 a (by omega) h1
theorem SuN_w {S : FS} {i n0 n : Nat} (h : SuN S i n0 n) (hr : n ≤ fRu S i) (h0 : fRu S i < n0) : SuN S (i + 1) n0 (fRu S i + 1) := by
  refine ⟨by omega, fun a ha h1 => ?_, h0⟩
  by_cases e : a = i
  · rw [e]
    omega
  · have := h.2.1 a (by omega) h1
    omega
def ObI (S : FS) (i : Nat) (o : Option Nat) : Prop :=
  (∀ b, o = some b → b < 8 ∧ erB S b = false ∧ fSt S (4 * b + 3) = 0) ∧ (∀ b, b < i → erB S b = false → fSt S (4 * b + 3) = 0 → ∃ k, o = some k)
theorem ObI_0 {S : FS} : ObI S 0 none := ⟨fun b h => (by cases h), fun b h => absurd h (Nat.not_lt_zero _)⟩
theorem ObI_n {S : FS} {i : Nat} {o : Option Nat} (h : ObI S i o) (hn : erB S i = false → fSt S (4 * i + 3) ≠ 0) : ObI S (i + 1) o := by
  refine ⟨h.1, fun b hb h1 h2 => ?_⟩
  by_cases e : b = i
  · subst e
    exact absurd h2 (hn h1)
  · exact h.2 b (by omega) h1 h2
theorem ObI_w {S : FS} {i : Nat} {o : Option Nat} (_h : ObI S i o) (hi : i < 8) (h1 : erB S i = false) (h2 : fSt S (4 * i + 3) = 0) : ObI S (i + 1) (some i) := by
  refine ⟨fun b hb => ?_, fun b hb g1 g2 => ⟨i, rfl⟩⟩
  cases hb
  exact ⟨hi, h1, h2⟩
/-- the places found are the places that were -/
theorem Su_pl {S : FS} {T : TB} {f0 f : Nat → Option Nat} {o0 : Option Nat} {n0 : Nat} (h : Fl (sS S f0 o0 n0) T) (hf : SuF S 32 f) : ∀ q, q < 12 → f q = f0 q := by
  obtain ⟨h1, h2, h3, h4, h5, h6, h7⟩ := h
  intro q hq
  cases hq0 : f0 q with
  | none =>
    cases hqf : f q with
    | none => rfl
    | some k =>
      obtain ⟨g1, g2, g3⟩ := hf.1 q k hq hqf
      obtain ⟨k2, g4, -⟩ := h4 k g1 g2
      have g4 : f0 (fLo S k) = some k2 := g4
      rw [g3, hq0] at g4
      cases g4
  | some k0 =>
    obtain ⟨a1, a2, a3⟩ := h3 q k0 hq hq0
    have a2 : fSt S k0 = 1 := a2
    have a3 : fLo S k0 = q := a3
    obtain ⟨k, b1, b2⟩ := hf.2 k0 a1 a2
    rw [a3] at b1
    obtain ⟨g1, g2, g3⟩ := hf.1 q k hq b1
    obtain ⟨k2, c1, c2⟩ := h4 k g1 g2
    have c1 : f0 (fLo S k) = some k2 := c1
    have c2 : k = k2 ∨ fRu S k < fRu S k2 := c2
    rw [g3, hq0] at c1
    cases c1
    rw [b1]
    rcases c2 with e | e
    · rw [e]
    · omega
theorem Su_end {S : FS} {T : TB} {N : Nat} {f0 f : Nat → Option Nat} {o0 o : Option Nat} {n0 n : Nat} (h : Inv (sS S f0 o0 n0) T N) (hf : SuF S 32 f) (hn : SuN S 32 n0 n) (ho : ObI S 8 o) : Inv (sS S f o n) T N := by
  obtain ⟨h1, ⟨g1, g2, g3, ⟨b0, g4, g4', g4''⟩, g5, g6⟩, h3⟩ := h
  have hpl := Su_pl h1 hf
  have e1 : Fl (uPl (sS S f0 o0 n0) f) T := h1.plc hpl
  have e2 : Fl (uNn (uPl (sS S f0 o0 n0) f) n) T := e1.nnc hn.1 hn.2.1
  have hpart : ∀ b, b < 8 → erB S b = false → fSt S (4 * b + 3) = 0 → o0 = some b := by
    intro b hb he hz
    rcases g2 b hb hz with q | q
    · have q : fSt S (4 * b) = 0 := q
      have : erB S b = true := erB_i (fun i hi => by
        by_cases e : i = 0
        · rw [e]; exact q
        · exact g1 b 0 i hb (by omega) hi q)
      rw [this] at he
      cases he
    · exact q
  refine ⟨e2, ⟨g1, fun b hb hz => ?_, fun b hb => (ho.1 b hb).1, ⟨b0, g4, g4', ?_⟩, g5, g6⟩, Nat.le_trans hn.2.2 h3⟩
  · cases he : erB S b with
    | true => exact Or.inl (erB_t he 0 (by omega))
    | false =>
      right
      obtain ⟨k, hk⟩ := ho.2 b hb he hz
      obtain ⟨k1, k2, k3⟩ := ho.1 k hk
      have p1 := hpart b hb he hz
      have p2 := hpart k k1 k2 k3
      rw [p1] at p2
      show o = some b
      rw [hk, Option.some.inj p2]
  · intro q
    have q : o = some b0 := q
    have := (ho.1 b0 q).2.1
    have g4' : erB S b0 = true := g4'
    rw [g4'] at this
    cases this
def S00 (sp : Nat) (pl : Nat → Option Nat) (ob : Option Nat) (nn : Nat) : FS := (fun _ => 0, fun _ => 0, fun _ => 0, fun _ => false, fun _ => 0, fun _ => 0, sp, pl, ob, nn)
/-- a new flash is blank -/
theorem Fsh_0 {sp : Nat} {pl : Nat → Option Nat} {ob : Option Nat} {nn : Nat} (h1 : 1 ≤ sp) (h2 : sp ≤ 3) : Fsh (S00 sp pl ob nn) (fun _ => none) 1 := by
  refine ⟨fun _ => none, none, 1, ⟨fun a _ => ?_, fun a _ => ?_, fun p k _ h => ?_, fun a _ h => ?_, fun a _ h => ?_, Nat.le_refl _, fun p _ => ?_⟩, ⟨fun b i j _ _ _ _ => rfl, fun b _ _ => Or.inl rfl, fun b h => ?_, ⟨0, by decide, erB_i (fun _ _ => rfl), fun h => ?_⟩, h1, h2⟩, Nat.le_refl _⟩
  · show (0 : Nat) < 3
    decide
  · show (0 : Nat) < 12
    decide
  · have h : (none : Option Nat) = some k := h
    cases h
  · have h : (0 : Nat) = 1 := h
    omega
  · have h : (0 : Nat) = 1 := h
    omega
  · rfl
  · have h : (none : Option Nat) = some b := h
    cases h
  · have h : (none : Option Nat) = some 0 := h
    cases h
end
section
/-! small rows for the walks -/
theorem isPg_lt {p : Int32} (h : p < 0) : isPg p = false := by
  simp only [isPg]
  rw [decide_eq_false (Int32.not_le.mpr h)]
  rfl
theorem isPg_gt {p : Int32} (h : 11 < p) : isPg p = false := by
  simp only [isPg]
  rw [decide_eq_false (p := p ≤ 11) (Int32.not_le.mpr h), Bool.and_false]
theorem isPg_in {p : Int32} (h1 : ¬ p < 0) (h2 : ¬ 11 < p) : isPg p = true := by
  simp only [isPg, Bool.and_eq_true, decide_eq_true_eq]
  exact ⟨Int32.not_lt.mp h1, Int32.not_lt.mp h2⟩
theorem hasT_f {T : TB} {p : Int32} (h : isPg p = false) : hasT T p = false := by simp only [hasT, h, Bool.false_and]
theorem hasT_n {T : TB} {j : Nat} (h : j < 12) : hasT T (nI j) = (T j).isSome := by
  simp only [hasT]
  rw [isPg_n h, nI_clamp (by omega), Bool.true_and]
theorem rdT_n {T : TB} {j : Nat} (h : j < 12) : rdT T (nI j) = (T j).getD 0 := by
  simp only [rdT]
  rw [if_pos (isPg_n h), nI_clamp (by omega)]
theorem rdT_f {T : TB} {p : Int32} (h : hasT T p = false) : rdT T p = 0 := by
  simp only [rdT]
  by_cases hp : isPg p = true
  · rw [if_pos hp]
    simp only [hasT, hp, Bool.true_and] at h
    cases hT : T p.toNatClampNeg with
    | none => rfl
    | some x => rw [hT] at h; cases h
  · rw [if_neg hp]
theorem hasT_pg {T : TB} {p : Int32} (h : hasT T p = true) : isPg p = true := by
  simp only [hasT, Bool.and_eq_true] at h
  exact h.1
theorem Fl.has {S : FS} {T : TB} (h : Fl S T) {j : Nat} (hj : j < 12) (ht : hasT T (nI j) = true) : ∃ k, k < 32 ∧ fPl S j = some k ∧ T j = some (fDa S k) := by
  rw [hasT_n hj] at ht
  have h7 := h.2.2.2.2.2.2 j hj
  cases hp : fPl S j with
  | none =>
    rw [h7, tv_n hp] at ht
    cases ht
  | some k =>
    rw [tv_s hp] at h7
    refine ⟨k, (h.2.2.1 j k hj hp).1, rfl, ?_⟩
    by_cases he : fEm S k = true
    · rw [if_pos he] at h7
      rw [h7] at ht
      cases ht
    · rw [if_neg he] at h7
      exact h7
theorem Fl.tn {S : FS} {T : TB} (h : Fl S T) {j : Nat} (hj : j < 12) (hp : fPl S j = none) : T j = none := by rw [h.2.2.2.2.2.2 j hj, tv_n hp]
theorem Fl.te {S : FS} {T : TB} (h : Fl S T) {j k : Nat} (hj : j < 12) (hp : fPl S j = some k) (he : fEm S k = true) : T j = none := by rw [h.2.2.2.2.2.2 j hj, tv_s hp, if_pos he]
theorem Fl.ts {S : FS} {T : TB} (h : Fl S T) {j k : Nat} (hj : j < 12) (hp : fPl S j = some k) (he : fEm S k = false) : T j = some (fDa S k) := by rw [h.2.2.2.2.2.2 j hj, tv_s hp, he]; rfl
theorem cntT_t {T : TB} {i : Nat} (h : (T i).isSome = true) : cntT T (i + 1) = cntT T i + 1 := by
  simp only [cntT]
  rw [if_pos h]
theorem cntT_f {T : TB} {i : Nat} (h : (T i).isSome = false) : cntT T (i + 1) = cntT T i := by
  simp only [cntT]
  rw [if_neg (by rw [h]; decide)]
  rfl
theorem cntT_le (T : TB) : ∀ n, cntT T n ≤ n
  | 0 => Nat.le_refl _
  | n + 1 => by
    have := cntT_le T n
    simp only [cntT]
    split <;> omega
theorem cntE_t {S : FS} {i : Nat} (h : erB S i = true) : cntE S (i + 1) = cntE S i + 1 := by
  simp only [cntE]
  rw [if_pos h]
theorem cntE_f {S : FS} {i : Nat} (h : erB S i = false) : cntE S (i + 1) = cntE S i := by
  simp only [cntE]
  rw [if_neg (by rw [h]; decide)]
  rfl
theorem vc_t {S : FS} {b i : Nat} (h : vlB S (4 * b + i) = true) : vc S b (i + 1) = vc S b i + 1 := by
  simp only [vc]
  rw [if_pos h]
theorem vc_f {S : FS} {b i : Nat} (h : vlB S (4 * b + i) = false) : vc S b (i + 1) = vc S b i := by
  simp only [vc]
  rw [if_neg (by rw [h]; decide)]
  rfl
theorem nxT_s {T : TB} {p : Int32} {i : Nat} (h : i < 12) : nxT T p (12 - i) = if p < nI i ∧ (T i).isSome = true then nI i else nxT T p (12 - (i + 1)) := by
  rw [show 12 - i = (11 - i) + 1 by omega]
  simp only [nxT]
  rw [show 11 - (11 - i) = i by omega, show 12 - (i + 1) = 11 - i by omega]
theorem nxT_t {T : TB} {p : Int32} {i : Nat} (h : i < 12) (h1 : p < nI i) (h2 : (T i).isSome = true) : nxT T p (12 - i) = nI i := by rw [nxT_s h, if_pos ⟨h1, h2⟩]
theorem nxT_f1 {T : TB} {p : Int32} {i : Nat} (h : i < 12) (h1 : ¬ p < nI i) : nxT T p (12 - i) = nxT T p (12 - (i + 1)) := by rw [nxT_s h, if_neg (fun q => h1 q.1)]
theorem nxT_f2 {T : TB} {p : Int32} {i : Nat} (h : i < 12) (h1 : (T i).isSome = false) : nxT T p (12 - i) = nxT T p (12 - (i + 1)) := by rw [nxT_s h, if_neg (fun q => by rw [h1] at q; exact absurd q.2 (by decide))]
def LwI (S : FS) (i : Nat) (o : Option Nat) : Prop := (o = none → ∀ b, b < i → erB S b = false) ∧ (∀ b, o = some b → b < 8 ∧ erB S b = true)
theorem LwI_n {S : FS} {i : Nat} {o : Option Nat} (h : LwI S i o) (he : erB S i = false ∨ o ≠ none) : LwI S (i + 1) o := by
  refine ⟨fun ho b hb => ?_, h.2⟩
  by_cases e : b = i
  · rw [e]
    exact he.resolve_right (fun q => q ho)
  · exact h.1 ho b (by omega)
theorem LwI_w {S : FS} {i : Nat} (hi : i < 8) (he : erB S i = true) : LwI S (i + 1) (some i) := ⟨fun h => (by cases h), fun b h => by cases h; exact ⟨hi, he⟩⟩
theorem LwI.lt {S : FS} {i : Nat} {o : Option Nat} (h : LwI S i o) : ∀ k, o = some k → k < 2 ^ 31 := fun k hk => by
  have := (h.2 k hk).1
  omega
def LvI (S : FS) (i : Nat) (o : Option Nat) (f : Nat) : Prop :=
  (o = none ∧ f = 5 ∧ ∀ b, b < i → erB S b = true) ∨ (∃ v, o = some v ∧ v < 8 ∧ erB S v = false ∧ f = vc S v 4 ∧ ∀ b, b < i → erB S b = false → vc S v 4 ≤ vc S b 4)
theorem LvI_e {S : FS} {i f : Nat} {o : Option Nat} (h : LvI S i o f) (he : erB S i = true) : LvI S (i + 1) o f := by
  rcases h with ⟨h1, h2, h3⟩ | ⟨v, h1, h2, h3, h4, h5⟩
  · refine Or.inl ⟨h1, h2, fun b hb => ?_⟩
    by_cases e : b = i
    · rw [e]; exact he
    · exact h3 b (by omega)
  · refine Or.inr ⟨v, h1, h2, h3, h4, fun b hb hf => ?_⟩
    by_cases e : b = i
    · rw [e, he] at hf
      cases hf
    · exact h5 b (by omega) hf
theorem LvI.le {S : FS} {i f : Nat} {o : Option Nat} (h : LvI S i o f) : f ≤ 5 := by
  rcases h with ⟨h1, h2, h3⟩ | ⟨v, h1, h2, h3, h4, h5⟩
  · omega
  · have := vc_le S v 4
    omega
/-- the block is no better: the best one stays -/
theorem LvI_k {S : FS} {i f : Nat} {o : Option Nat} (h : LvI S i o f) (hf : f ≤ vc S i 4) : LvI S (i + 1) o f := by
  rcases h with ⟨h1, h2, h3⟩ | ⟨v, h1, h2, h3, h4, h5⟩
  · have := vc_le S i 4
    omega
  · refine Or.inr ⟨v, h1, h2, h3, h4, fun b hb hq => ?_⟩
    by_cases e : b = i
    · rw [e]; omega
    · exact h5 b (by omega) hq
theorem LvI_w {S : FS} {i f : Nat} {o : Option Nat} (h : LvI S i o f) (hi : i < 8) (he : erB S i = false) (hf : vc S i 4 ≤ f) : LvI S (i + 1) (some i) (vc S i 4) := by
  refine Or.inr ⟨i, rfl, hi, he, rfl, fun b hb hq => ?_⟩
  by_cases e : b = i
  · rw [e]; exact Nat.le_refl _
  · rcases h with ⟨h1, h2, h3⟩ | ⟨v, h1, h2, h3, h4, h5⟩
    · rw [h3 b (by omega)] at hq
      cases hq
    · have := h5 b (by omega) hq
      omega
theorem LvI_some {S : FS} {i f : Nat} {o : Option Nat} (h : LvI S i o f) (hf : f = vc S i 4) : ∃ v, o = some v ∧ v < 8 := by
  rcases h with ⟨h1, h2, h3⟩ | ⟨v, h1, h2, h3, h4, h5⟩
  · have := vc_le S i 4
    omega
  · exact ⟨v, h1, h2⟩
theorem LvI_end {S : FS} {f : Nat} {o : Option Nat} (h : LvI S 8 o f) (hlo : ∀ a, a < 32 → fLo S a < 12) (hc : cntE S 8 ≤ 3) : ∃ v, o = some v ∧ v < 8 ∧ erB S v = false ∧ vc S v 4 ≤ 3 := by
  rcases h with ⟨h1, h2, h3⟩ | ⟨v, h1, h2, h3, h4, h5⟩
  · obtain ⟨b, g1, g2⟩ := some_full hc
    rw [h3 b g1] at g2
    cases g2
  · exact ⟨v, h1, h2, h3, least3 hlo hc h5⟩
theorem wrT_n {T : TB} {j : Nat} {x : Option Int32} (h : j < 12) : wrT T (nI j) x = fu T j x := by
  simp only [wrT]
  rw [if_pos (isPg_n h), nI_clamp (by omega)]
theorem wrT_f {T : TB} {p : Int32} {x : Option Int32} (h : isPg p = false) : wrT T p x = T := by
  simp only [wrT]
  rw [if_neg (by rw [h]; decide)]
theorem wrA_n {T : TB} {j : Nat} (h : j < 12) : wrA T (nI j) = bI (T j).isSome := by
  simp only [wrA]
  rw [if_pos (isPg_n h), nI_clamp (by omega)]
theorem wrA_f {T : TB} {p : Int32} (h : isPg p = false) : wrA T p = -1 := by
  simp only [wrA]
  rw [if_neg (by rw [h]; decide)]
theorem exT_f {T : TB} {p q : Int32} (h : (isPg p && isPg q) = false) : exT T p q = T := by
  simp only [exT]
  rw [if_neg (by rw [h]; decide)]
theorem exA_f {T : TB} {p q : Int32} (h : (isPg p && isPg q) = false) : exA T p q = -1 := by
  simp only [exA]
  rw [if_neg (by rw [h]; decide)]
theorem exT_n {T : TB} {i j : Nat} (hi : i < 12) (hj : j < 12) : exT T (nI i) (nI j) = fu (fu T i (T j)) j (T i) := by
  simp only [exT]
  rw [if_pos (by rw [isPg_n hi, isPg_n hj]; rfl), nI_clamp (by omega), nI_clamp (by omega)]
theorem exA_n {T : TB} {i j : Nat} (hi : i < 12) (hj : j < 12) : exA T (nI i) (nI j) = bI (T i).isSome + bI (T j).isSome := by
  simp only [exA]
  rw [if_pos (by rw [isPg_n hi, isPg_n hj]; rfl), nI_clamp (by omega), nI_clamp (by omega)]
theorem flT_f {T : TB} {p q r : Int32} (h : flC p q r = false) : flT T p q r = T := by
  simp only [flT]
  rw [if_neg (by rw [h]; decide)]
theorem flA_f {p q r : Int32} (h : flC p q r = false) : flA p q r = -1 := by
  simp only [flA]
  rw [if_neg (by rw [h]; decide)]
theorem flC_n {i j k : Nat} (hi : i < 12) (hj : j < 12) (hk : k < 12) (h : j ≤ k) : flC (nI i) (nI j) (nI k) = true := by
  simp only [flC]
  rw [isPg_n hi, isPg_n hj, isPg_n hk, decide_eq_true ((nI_leI (by omega) (by omega)).mpr h)]
  rfl
theorem flT_n {T : TB} {i j k : Nat} (hi : i < 12) (hj : j < 12) (hk : k < 12) (h : j ≤ k) : flT T (nI i) (nI j) (nI k) = flN T (T i) j (k + 1) := by
  simp only [flT]
  rw [if_pos (flC_n hi hj hk h), nI_clamp (by omega), nI_clamp (by omega), nI_clamp (by omega)]
theorem flA_n {i j k : Nat} (hi : i < 12) (hj : j < 12) (hk : k < 12) (h : j ≤ k) : flA (nI i) (nI j) (nI k) = nI k - nI j + nI 1 := by
  simp only [flA]
  rw [if_pos (flC_n hi hj hk h)]
  rfl
theorem flC_f1 {p q r : Int32} (h : isPg p = false) : flC p q r = false := by simp only [flC, h, Bool.false_and]
theorem flC_f2 {p q r : Int32} (h : isPg q = false) : flC p q r = false := by simp only [flC, h, Bool.and_false, Bool.false_and]
theorem flC_f3 {p q r : Int32} (h : isPg r = false) : flC p q r = false := by simp only [flC, h, Bool.and_false, Bool.false_and]
theorem flC_f4 {j k : Nat} {p : Int32} (hj : j < 12) (hk : k < 12) (h : k < j) : flC p (nI j) (nI k) = false := by
  simp only [flC]
  rw [decide_eq_false (fun q => by have := (nI_leI (by omega) (by omega)).mp q; omega), Bool.and_false]
/-- the model's table -/
def TM (M : MS) : TB := fun p => if mTh M p = true then some (mVa M p) else none
theorem TM_some {M : MS} {j : Nat} : (TM M j).isSome = mTh M j := by
  simp only [TM]
  cases mTh M j <;> rfl
theorem TM_t {M : MS} {j : Nat} (h : mTh M j = true) : TM M j = some (mVa M j) := by simp only [TM, h, if_true]
theorem TM_f {M : MS} {j : Nat} (h : mTh M j = false) : TM M j = none := by simp only [TM, h, Bool.false_eq_true, if_false]
theorem TM_w {M : MS} {j : Nat} {v : Int32} : TM (uTh (uVa M (fu (mVa M) j v)) (fu (mTh M) j true)) = fu (TM M) j (some v) := by
  funext k
  by_cases h : k = j
  · subst h
    rw [fu_s, TM_t (M := uTh (uVa M (fu (mVa M) k v)) (fu (mTh M) k true)) (show fu (mTh M) k true k = true from fu_s)]
    show some (fu (mVa M) k v k) = _
    rw [fu_s]
  · rw [fu_n h]
    show (if fu (mTh M) j true k = true then some (fu (mVa M) j v k) else none) = TM M k
    rw [fu_n h, fu_n h]
    rfl
theorem TM_r {M : MS} {j : Nat} : TM (uTh M (fu (mTh M) j false)) = fu (TM M) j none := by
  funext k
  by_cases h : k = j
  · subst h
    rw [fu_s, TM_f (M := uTh M (fu (mTh M) k false)) (show fu (mTh M) k false k = false from fu_s)]
  · rw [fu_n h]
    show (if fu (mTh M) j false k = true then some (mVa M k) else none) = TM M k
    rw [fu_n h]
    rfl
theorem TM_set {M : MS} {j i : Nat} : TM (fu (mVa M) j (mVa M i), fu (mTh M) j (mTh M i)) = fu (TM M) j (TM M i) := by
  funext k
  show (if fu (mTh M) j (mTh M i) k = true then some (fu (mVa M) j (mVa M i) k) else none) = _
  by_cases h : k = j
  · rw [h, fu_s, fu_s, fu_s]
    rfl
  · rw [fu_n h, fu_n h, fu_n h]
    rfl
theorem TM_set2 {M : MS} {j : Nat} {t : Bool} {v : Int32} {x : Option Int32} (hx : x = if t = true then some v else none) : TM (fu (mVa M) j v, fu (mTh M) j t) = fu (TM M) j x := by
  funext k
  show (if fu (mTh M) j t k = true then some (fu (mVa M) j v k) else none) = _
  by_cases h : k = j
  · rw [h, fu_s, fu_s, fu_s]
    exact hx.symm
  · rw [fu_n h, fu_n h, fu_n h]
    rfl
theorem bI_t {b : Bool} (h : b = true) : bI b = 1 := by rw [h]; rfl
theorem bI_f {b : Bool} (h : b = false) : bI b = 0 := by rw [h]; rfl
end
section
set_option maxHeartbeats 4000000 in
set_option maxRecDepth 100000 in
theorem met_isPage (l : Launch) (G : FG) (S : FS) (q : Int32) : MetGi l yX1_isPage cX1_isPage 2 (some .boolean) 0 (.ref (G.2.1 0) :: [.int q]) G.1 (tF G) (wF G) S (fun r u => r = bI (isPg q) ∧ S = u) := by
  refine MetGi.ofZ RX1 (by decide) rfl (Nat.le_of_ble_eq_true rfl) ?_
  intro p e s m args below meth c A Q H ls F w hl ret
  have hl : lv_has ls 2 [(0, .ref (G.2.1 0)), (1, .int q)] := hl
  refine lv_iload_n F.1 F.2.1 dX1_isPage_0 rfl (lv_at hl 1 rfl) ?_
  refine lv_if_lt (tgt := 14) F.1 F.2.1 dX1_isPage_1 (by decide) (fun c1 => ?_) (fun c1 => ?_)
  · skip
    refine lv_iconst (v := (bI false)) F.1 F.2.1 dX1_isPage_14 (by decide) ?_
    exact ret false _ _ _ _ _ (⟨by rw [isPg_lt c1], rfl⟩) w dX1_isPage_15
  · skip
    refine lv_iload_n F.1 F.2.1 dX1_isPage_4 rfl (lv_at hl 1 rfl) ?_
    refine lv_bipush (v := 11) F.1 F.2.1 dX1_isPage_5 (by decide) ?_
    refine lv_icmp_gt (tgt := 14) F.1 F.2.1 dX1_isPage_7 (by decide) (fun c2 => ?_) (fun c2 => ?_)
    · skip
      refine lv_iconst (v := (bI false)) F.1 F.2.1 dX1_isPage_14 (by decide) ?_
      exact ret false _ _ _ _ _ (⟨by rw [isPg_gt c2], rfl⟩) w dX1_isPage_15
    · skip
      refine lv_iconst (v := (bI true)) F.1 F.2.1 dX1_isPage_10 (by decide) ?_
      refine lv_goto (tgt := 15) F.1 F.2.1 dX1_isPage_11 (by decide) ?_
      exact ret true _ _ _ _ _ (⟨by rw [isPg_in c1 c2], rfl⟩) w dX1_isPage_15
set_option maxHeartbeats 4000000 in
set_option maxRecDepth 100000 in
theorem met_has (l : Launch) (G : FG) (S : FS) {T : TB} (hF : Fl S T) (q : Int32) : MetGi l yX1_has cX1_has 2 (some .boolean) 1 (.ref (G.2.1 0) :: [.int q]) G.1 (tF G) (wF G) S (fun r u => r = bI (hasT T q) ∧ S = u) := by
  refine MetGi.ofZ RX1 (by decide) rfl (Nat.le_of_ble_eq_true rfl) ?_
  intro p e s m args below meth c A Q H ls F w hl ret
  have hl : lv_has ls 2 [(0, .ref (G.2.1 0)), (1, .int q)] := hl
  refine lv_aload_n F.1 F.2.1 dX1_has_0 rfl (lv_at hl 0 rfl) ?_
  refine lv_iload_n F.1 F.2.1 dX1_has_1 rfl (lv_at hl 1 rfl) ?_
  refine g_calli F w (met_isPage l G S q) rfl rfl rfl (cw_isPage F ⟨Nat.le_of_ble_eq_true rfl, Nat.le_of_ble_eq_true rfl⟩) rfl hl.1 rfl (Nat.le_of_ble_eq_true rfl) dX1_has_2 ⟨Nat.zero_le _, Nat.zero_le _⟩ (fun r S1 H locs hp w => ?_)
  obtain ⟨rfl, rfl⟩ := hp
  refine z_eq (tgt := 35) F dX1_has_5 (by decide) (fun c1 => ?_) (fun c1 => ?_)
  · skip
    refine lv_iconst (v := (bI false)) F.1 F.2.1 dX1_has_35 (by decide) ?_
    exact ret false _ _ _ _ _ (⟨by rw [hasT_f c1], rfl⟩) w dX1_has_36
  · skip
    obtain ⟨j, hj, rfl⟩ := isPg_t c1
    refine lv_aload_n F.1 F.2.1 dX1_has_8 rfl (lv_at hl 0 rfl) ?_
    refine f_gPl F w dX1_has_9 ?_
    refine lv_iload_n F.1 F.2.1 dX1_has_12 rfl (lv_at hl 1 rfl) ?_
    refine f_lPl F w (by omega) dX1_has_13 ?_
    refine o_lt (tgt := 35) F dX1_has_14 (by decide) (fun k hk => hF.pl hj hk) (fun c2 => ?_) (fun k c2 => ?_)
    · skip
      refine lv_iconst (v := (bI false)) F.1 F.2.1 dX1_has_35 (by decide) ?_
      exact ret false _ _ _ _ _ (⟨by rw [hasT_n hj, hF.tn hj c2]; rfl, rfl⟩) w dX1_has_36
    · skip
      have hk : k < 32 := (hF.2.2.1 j k hj c2).1
      refine lv_aload_n F.1 F.2.1 dX1_has_17 rfl (lv_at hl 0 rfl) ?_
      refine f_gEm F w dX1_has_18 ?_
      refine lv_aload_n F.1 F.2.1 dX1_has_21 rfl (lv_at hl 0 rfl) ?_
      refine f_gPl F w dX1_has_22 ?_
      refine lv_iload_n F.1 F.2.1 dX1_has_25 rfl (lv_at hl 1 rfl) ?_
      refine f_lPl F w (by omega) dX1_has_26 ?_
      refine tp_i (y := nI k) (by rw [c2]; rfl) ?_
      refine f_lEm F w (by omega) dX1_has_27 ?_
      refine z_ne (tgt := 35) F dX1_has_28 (by decide) (fun c3 => ?_) (fun c3 => ?_)
      · skip
        refine lv_iconst (v := (bI false)) F.1 F.2.1 dX1_has_35 (by decide) ?_
        exact ret false _ _ _ _ _ (⟨by rw [hasT_n hj, hF.te hj c2 c3]; rfl, rfl⟩) w dX1_has_36
      · skip
        refine lv_iconst (v := (bI true)) F.1 F.2.1 dX1_has_31 (by decide) ?_
        refine lv_goto (tgt := 36) F.1 F.2.1 dX1_has_32 (by decide) ?_
        exact ret true _ _ _ _ _ (⟨by rw [hasT_n hj, hF.ts hj c2 c3]; rfl, rfl⟩) w dX1_has_36
set_option maxHeartbeats 4000000 in
set_option maxRecDepth 100000 in
theorem met_read (l : Launch) (G : FG) (S : FS) {T : TB} (hF : Fl S T) (q : Int32) : MetGi l yX1_read cX1_read 2 (some .int) 2 (.ref (G.2.1 0) :: [.int q]) G.1 (tF G) (wF G) S (fun r u => r = rdT T q ∧ S = u) := by
  refine MetGi.ofI RX1 (by decide) rfl (Nat.le_of_ble_eq_true rfl) ?_
  intro p e s m args below meth c A Q H ls F w hl ret
  have hl : lv_has ls 2 [(0, .ref (G.2.1 0)), (1, .int q)] := hl
  refine lv_aload_n F.1 F.2.1 dX1_read_0 rfl (lv_at hl 0 rfl) ?_
  refine lv_iload_n F.1 F.2.1 dX1_read_1 rfl (lv_at hl 1 rfl) ?_
  refine g_calli F w (met_has l G S hF q) rfl rfl rfl (cw_has F ⟨Nat.le_of_ble_eq_true rfl, Nat.le_of_ble_eq_true rfl⟩) rfl hl.1 rfl (Nat.le_of_ble_eq_true rfl) dX1_read_2 ⟨Nat.zero_le _, Nat.zero_le _⟩ (fun r S1 H locs hp w => ?_)
  obtain ⟨rfl, rfl⟩ := hp
  refine z_eq (tgt := 22) F dX1_read_5 (by decide) (fun c1 => ?_) (fun c1 => ?_)
  · skip
    refine lv_iconst (v := 0) F.1 F.2.1 dX1_read_22 (by decide) ?_
    exact ret _ _ _ _ _ _ (⟨(rdT_f c1).symm, rfl⟩) w dX1_read_23
  · skip
    obtain ⟨j, hj, rfl⟩ := isPg_t (hasT_pg c1)
    obtain ⟨k, hk, c2, c3⟩ := hF.has hj c1
    refine lv_aload_n F.1 F.2.1 dX1_read_8 rfl (lv_at hl 0 rfl) ?_
    refine f_gDa F w dX1_read_9 ?_
    refine lv_aload_n F.1 F.2.1 dX1_read_12 rfl (lv_at hl 0 rfl) ?_
    refine f_gPl F w dX1_read_13 ?_
    refine lv_iload_n F.1 F.2.1 dX1_read_16 rfl (lv_at hl 1 rfl) ?_
    refine f_lPl F w (by omega) dX1_read_17 ?_
    refine tp_i (y := nI k) (by rw [c2]; rfl) ?_
    refine f_lDa F w (by omega) dX1_read_18 ?_
    refine lv_goto (tgt := 23) F.1 F.2.1 dX1_read_19 (by decide) ?_
    exact ret _ _ _ _ _ _ (⟨by rw [rdT_n hj, c3]; rfl, rfl⟩) w dX1_read_23
set_option maxHeartbeats 4000000 in
set_option maxRecDepth 100000 in
theorem met_used (l : Launch) (G : FG) (S : FS) {T : TB} (hF : Fl S T) : MetGi l yX1_used cX1_used 3 (some .int) 2 (.ref (G.2.1 0) :: []) G.1 (tF G) (wF G) S (fun r u => r = nI (cntT T 12) ∧ S = u) := by
  refine MetGi.ofI RX1 (by decide) rfl (Nat.le_of_ble_eq_true rfl) ?_
  intro p e s m args below meth c A Q H ls F w hl ret
  have hl : lv_has ls 3 [(0, .ref (G.2.1 0))] := hl
  refine lv_iconst (v := (nI 0)) F.1 F.2.1 dX1_used_0 (by decide) ?_
  refine lv_istore_n (lv' := [(1, .int (nI 0)), (0, .ref (G.2.1 0))]) F.1 F.2.1 dX1_used_1 rfl hl (by decide) rfl (fun ls hl => ?_)
  refine lv_iconst (v := (nI 0)) F.1 F.2.1 dX1_used_2 (by decide) ?_
  refine lv_istore_n (lv' := [(2, .int (nI 0)), (1, .int (nI 0)), (0, .ref (G.2.1 0))]) F.1 F.2.1 dX1_used_3 rfl hl (by decide) rfl (fun ls hl => ?_)
  have loop : ∀ (n i : Nat) (H : Heap) (locs : List Loc) (ls : Array Slot), i ≤ 12 → 12 + 1 ≤ i + n → WdF G S A s H locs → lv_has ls 3 [(0, .ref (G.2.1 0)), (1, .int (nI (cntT T i))), (2, .int (nI i))] → W p l e (rmD 2) s m args below meth c H locs 0 0 Q (F0 m 4 ls []) := by
    intro n
    induction n with
    | zero =>
      intro i H locs ls hi hn w hl
      exact absurd hn (by omega)
    | succ n ih =>
      intro i H locs ls hi hn w hl
      refine lv_iload_n F.1 F.2.1 dX1_used_4 rfl (lv_at hl 2 rfl) ?_
      refine lv_bipush (v := (nI 12)) F.1 F.2.1 dX1_used_5 (by decide) ?_
      refine b_ge (tgt := 27) F dX1_used_7 (by decide) (by omega) (by omega) (fun c1 => ?_) (fun c1 => ?_)
      · skip
        have hi12 : i = 12 := by omega
        refine lv_iload_n F.1 F.2.1 dX1_used_27 rfl (lv_at hl 1 rfl) ?_
        exact ret _ _ _ _ _ _ (⟨by rw [hi12], rfl⟩) w dX1_used_28
      · skip
        refine lv_aload_n F.1 F.2.1 dX1_used_10 rfl (lv_at hl 0 rfl) ?_
        refine lv_iload_n F.1 F.2.1 dX1_used_11 rfl (lv_at hl 2 rfl) ?_
        refine g_calli F w (met_has l G S hF (nI i)) rfl rfl rfl (cw_has F ⟨Nat.le_of_ble_eq_true rfl, Nat.le_of_ble_eq_true rfl⟩) rfl hl.1 rfl (Nat.le_of_ble_eq_true rfl) dX1_used_12 ⟨Nat.zero_le _, Nat.zero_le _⟩ (fun r S1 H locs hp w => ?_)
        obtain ⟨rfl, rfl⟩ := hp
        rw [hasT_n (by omega)]
        refine z_eq (tgt := 21) F dX1_used_15 (by decide) (fun c2 => ?_) (fun c2 => ?_)
        · skip
          refine lv_iinc (v := (nI (i + 1))) (lv' := [(2, .int (nI (i + 1))), (0, .ref (G.2.1 0)), (1, .int (nI (cntT T i)))]) F.1 F.2.1 dX1_used_21 hl (k := 2) rfl (ninc i) (by decide) rfl (fun ls hl => ?_)
          refine lv_goto (tgt := 4) F.1 F.2.1 dX1_used_24 (by decide) ?_
          exact ih (i + 1) _ _ _ (by omega) (by omega) w (by rw [cntT_f c2]; exact lv_sub hl [1, 2, 0] rfl)
        · skip
          refine lv_iinc (v := (nI (cntT T i + 1))) (lv' := [(1, .int (nI (cntT T i + 1))), (0, .ref (G.2.1 0)), (2, .int (nI i))]) F.1 F.2.1 dX1_used_18 hl (k := 1) rfl (ninc (cntT T i)) (by decide) rfl (fun ls hl => ?_)
          refine lv_iinc (v := (nI (i + 1))) (lv' := [(2, .int (nI (i + 1))), (1, .int (nI (cntT T i + 1))), (0, .ref (G.2.1 0))]) F.1 F.2.1 dX1_used_21 hl (k := 2) rfl (ninc i) (by decide) rfl (fun ls hl => ?_)
          refine lv_goto (tgt := 4) F.1 F.2.1 dX1_used_24 (by decide) ?_
          exact ih (i + 1) _ _ _ (by omega) (by omega) w (by rw [cntT_t c2]; exact lv_sub hl [2, 1, 0] rfl)
  exact loop 13 0 _ _ _ (by omega) (by omega) w (lv_sub hl [2, 1, 0] rfl)
set_option maxHeartbeats 4000000 in
set_option maxRecDepth 100000 in
theorem met_nextUsed (l : Launch) (G : FG) (S : FS) {T : TB} (hF : Fl S T) (q : Int32) : MetGi l yX1_nextUsed cX1_nextUsed 3 (some .int) 2 (.ref (G.2.1 0) :: [.int q]) G.1 (tF G) (wF G) S (fun r u => r = nxT T q 12 ∧ S = u) := by
  refine MetGi.ofI RX1 (by decide) rfl (Nat.le_of_ble_eq_true rfl) ?_
  intro p e s m args below meth c A Q H ls F w hl ret
  have hl : lv_has ls 3 [(0, .ref (G.2.1 0)), (1, .int q)] := hl
  refine lv_iconst (v := (nI 0)) F.1 F.2.1 dX1_nextUsed_0 (by decide) ?_
  refine lv_istore_n (lv' := [(2, .int (nI 0)), (0, .ref (G.2.1 0)), (1, .int q)]) F.1 F.2.1 dX1_nextUsed_1 rfl hl (by decide) rfl (fun ls hl => ?_)
  have loop : ∀ (n i : Nat) (H : Heap) (locs : List Loc) (ls : Array Slot), i ≤ 12 → 12 + 1 ≤ i + n → nxT T q 12 = nxT T q (12 - i) → WdF G S A s H locs → lv_has ls 3 [(0, .ref (G.2.1 0)), (1, .int q), (2, .int (nI i))] → W p l e (rmD 2) s m args below meth c H locs 0 0 Q (F0 m 2 ls []) := by
    intro n
    induction n with
    | zero =>
      intro i H locs ls hi hn hx w hl
      exact absurd hn (by omega)
    | succ n ih =>
      intro i H locs ls hi hn hx w hl
      refine lv_iload_n F.1 F.2.1 dX1_nextUsed_2 rfl (lv_at hl 2 rfl) ?_
      refine lv_bipush (v := (nI 12)) F.1 F.2.1 dX1_nextUsed_3 (by decide) ?_
      refine b_ge (tgt := 29) F dX1_nextUsed_5 (by decide) (by omega) (by omega) (fun c1 => ?_) (fun c1 => ?_)
      · skip
        have hi12 : i = 12 := by omega
        refine lv_bipush (v := (-2)) F.1 F.2.1 dX1_nextUsed_29 (by decide) ?_
        exact ret _ _ _ _ _ _ (⟨by rw [hx, hi12]; rfl, rfl⟩) w dX1_nextUsed_31
      · skip
        refine lv_iload_n F.1 F.2.1 dX1_nextUsed_8 rfl (lv_at hl 2 rfl) ?_
        refine lv_iload_n F.1 F.2.1 dX1_nextUsed_9 rfl (lv_at hl 1 rfl) ?_
        refine lv_icmp_le (tgt := 23) F.1 F.2.1 dX1_nextUsed_10 (by decide) (fun c2 => ?_) (fun c2 => ?_)
        · skip
          refine lv_iinc (v := (nI (i + 1))) (lv' := [(2, .int (nI (i + 1))), (0, .ref (G.2.1 0)), (1, .int q)]) F.1 F.2.1 dX1_nextUsed_23 hl (k := 2) rfl (ninc i) (by decide) rfl (fun ls hl => ?_)
          refine lv_goto (tgt := 2) F.1 F.2.1 dX1_nextUsed_26 (by decide) ?_
          exact ih (i + 1) _ _ _ (by omega) (by omega) (by rw [hx, nxT_f1 (by omega) (Int32.not_lt.mpr c2)]) w (lv_sub hl [1, 2, 0] rfl)
        · skip
          refine lv_aload_n F.1 F.2.1 dX1_nextUsed_13 rfl (lv_at hl 0 rfl) ?_
          refine lv_iload_n F.1 F.2.1 dX1_nextUsed_14 rfl (lv_at hl 2 rfl) ?_
          refine g_calli F w (met_has l G S hF (nI i)) rfl rfl rfl (cw_has F ⟨Nat.le_of_ble_eq_true rfl, Nat.le_of_ble_eq_true rfl⟩) rfl hl.1 rfl (Nat.le_of_ble_eq_true rfl) dX1_nextUsed_15 ⟨Nat.zero_le _, Nat.zero_le _⟩ (fun r S1 H locs hp w => ?_)
          obtain ⟨rfl, rfl⟩ := hp
          rw [hasT_n (by omega)]
          refine z_eq (tgt := 23) F dX1_nextUsed_18 (by decide) (fun c3 => ?_) (fun c3 => ?_)
          · skip
            refine lv_iinc (v := (nI (i + 1))) (lv' := [(2, .int (nI (i + 1))), (0, .ref (G.2.1 0)), (1, .int q)]) F.1 F.2.1 dX1_nextUsed_23 hl (k := 2) rfl (ninc i) (by decide) rfl (fun ls hl => ?_)
            refine lv_goto (tgt := 2) F.1 F.2.1 dX1_nextUsed_26 (by decide) ?_
            exact ih (i + 1) _ _ _ (by omega) (by omega) (by rw [hx, nxT_f2 (by omega) c3]) w (lv_sub hl [1, 2, 0] rfl)
          · skip
            refine lv_iload_n F.1 F.2.1 dX1_nextUsed_21 rfl (lv_at hl 2 rfl) ?_
            exact ret _ _ _ _ _ _ (⟨by rw [hx, nxT_t (by omega) (Int32.not_le.mp c2) c3], rfl⟩) w dX1_nextUsed_22
  exact loop 13 0 _ _ _ (by omega) (by omega) rfl w (lv_sub hl [1, 2, 0] rfl)
set_option maxHeartbeats 4000000 in
set_option maxRecDepth 100000 in
theorem met_total (l : Launch) (G : FG) (S : FS) {T : TB} (hF : Fl S T) : MetGl l yX1_total cX1_total 4 (some .long) 3 (.ref (G.2.1 0) :: []) G.1 (tF G) (wF G) S (fun r u => r = sumT T 12 ∧ S = u) := by
  refine MetGl.ofL RX1 (by decide) rfl (Nat.le_of_ble_eq_true rfl) ?_
  intro p e s m args below meth c A Q H ls F w hl ret
  have hl : lv_has ls 4 [(0, .ref (G.2.1 0))] := hl
  refine lv_lconst (v := 0) F.1 F.2.1 dX1_total_0 (by decide) ?_
  refine lv_lstore_n (lv' := [(1, .long 0), (0, .ref (G.2.1 0))]) F.1 F.2.1 dX1_total_1 rfl hl (by decide) rfl (fun ls hl => ?_)
  refine lv_iconst (v := (nI 0)) F.1 F.2.1 dX1_total_2 (by decide) ?_
  refine lv_istore_n (lv' := [(3, .int (nI 0)), (1, .long 0), (0, .ref (G.2.1 0))]) F.1 F.2.1 dX1_total_3 rfl hl (by decide) rfl (fun ls hl => ?_)
  have loop : ∀ (n i : Nat) (H : Heap) (locs : List Loc) (ls : Array Slot), i ≤ 12 → 12 + 1 ≤ i + n → WdF G S A s H locs → lv_has ls 4 [(0, .ref (G.2.1 0)), (1, .long (sumT T i)), (3, .int (nI i))] → W p l e (rmD 3) s m args below meth c H locs 0 0 Q (F0 m 4 ls []) := by
    intro n
    induction n with
    | zero =>
      intro i H locs ls hi hn w hl
      exact absurd hn (by omega)
    | succ n ih =>
      intro i H locs ls hi hn w hl
      refine lv_iload_n F.1 F.2.1 dX1_total_4 rfl (lv_at hl 2 rfl) ?_
      refine lv_bipush (v := (nI 12)) F.1 F.2.1 dX1_total_5 (by decide) ?_
      refine b_ge (tgt := 25) F dX1_total_7 (by decide) (by omega) (by omega) (fun c1 => ?_) (fun c1 => ?_)
      · skip
        have hi12 : i = 12 := by omega
        refine lv_lload_n F.1 F.2.1 dX1_total_25 rfl (lv_at hl 1 rfl) ?_
        exact ret _ _ _ _ _ _ (⟨by rw [hi12], rfl⟩) w dX1_total_26
      · skip
        refine lv_lload_n F.1 F.2.1 dX1_total_10 rfl (lv_at hl 1 rfl) ?_
        refine lv_aload_n F.1 F.2.1 dX1_total_11 rfl (lv_at hl 0 rfl) ?_
        refine lv_iload_n F.1 F.2.1 dX1_total_12 rfl (lv_at hl 2 rfl) ?_
        refine g_calli F w (met_read l G S hF (nI i)) rfl rfl rfl (cw_read F ⟨Nat.le_of_ble_eq_true rfl, Nat.le_of_ble_eq_true rfl⟩) rfl hl.1 rfl (Nat.le_of_ble_eq_true rfl) dX1_total_13 ⟨Nat.zero_le _, Nat.zero_le _⟩ (fun r S1 H locs hp w => ?_)
        obtain ⟨rfl, rfl⟩ := hp
        refine lv_i2l (v := (rdT T (nI i)).toInt64) F.1 F.2.1 dX1_total_16 rfl ?_
        refine lv_ladd F.1 F.2.1 dX1_total_17 ?_
        refine lv_lstore_n (lv' := [(1, .long ((sumT T i) + (rdT T (nI i)).toInt64)), (0, .ref (G.2.1 0)), (3, .int (nI i))]) F.1 F.2.1 dX1_total_18 rfl hl (by decide) rfl (fun ls hl => ?_)
        refine lv_iinc (v := (nI (i + 1))) (lv' := [(3, .int (nI (i + 1))), (1, .long ((sumT T i) + (rdT T (nI i)).toInt64)), (0, .ref (G.2.1 0))]) F.1 F.2.1 dX1_total_19 hl (k := 2) rfl (ninc i) (by decide) rfl (fun ls hl => ?_)
        refine lv_goto (tgt := 4) F.1 F.2.1 dX1_total_22 (by decide) ?_
        exact ih (i + 1) _ _ _ (by omega) (by omega) w (lv_sub hl [2, 1, 0] rfl)
  exact loop 13 0 _ _ _ (by omega) (by omega) w (lv_sub hl [2, 1, 0] rfl)
end
section
set_option maxHeartbeats 4000000 in
set_option maxRecDepth 100000 in
theorem met_isErased (l : Launch) (G : FG) (S : FS) (hst : ∀ a, a < 32 → fSt S a < 3) (b : Nat) (hb : b < 8) : MetGi l yX1_isErased cX1_isErased 3 (some .boolean) 0 (.ref (G.2.1 0) :: [.int (nI b)]) G.1 (tF G) (wF G) S (fun r u => r = bI (erB S b) ∧ S = u) := by
  refine MetGi.ofZ RX1 (by decide) rfl (Nat.le_of_ble_eq_true rfl) ?_
  intro p e s m args below meth c A Q H ls F w hl ret
  have hl : lv_has ls 3 [(0, .ref (G.2.1 0)), (1, .int (nI b))] := hl
  refine lv_iconst (v := (nI 4)) F.1 F.2.1 dX1_isErased_0 (by decide) ?_
  refine lv_iload_n F.1 F.2.1 dX1_isErased_1 rfl (lv_at hl 1 rfl) ?_
  refine lv_imul F.1 F.2.1 dX1_isErased_2 ?_
  refine tp_i (pk_mul 4 b) ?_
  refine lv_istore_n (lv' := [(2, .int (nI (4 * b))), (0, .ref (G.2.1 0)), (1, .int (nI b))]) F.1 F.2.1 dX1_isErased_3 rfl hl (by decide) rfl (fun ls hl => ?_)
  have loop : ∀ (n i : Nat) (H : Heap) (locs : List Loc) (ls : Array Slot), i ≤ 4 → 4 + 1 ≤ i + n → (∀ j, j < i → fSt S (4 * b + j) = 0) → WdF G S A s H locs → lv_has ls 3 [(0, .ref (G.2.1 0)), (1, .int (nI b)), (2, .int (nI (4 * b + i)))] → W p l e (rmD 0) s m args below meth c H locs 0 0 Q (F0 m 4 ls []) := by
    intro n
    induction n with
    | zero =>
      intro i H locs ls hi hn hz w hl
      exact absurd hn (by omega)
    | succ n ih =>
      intro i H locs ls hi hn hz w hl
      refine lv_iload_n F.1 F.2.1 dX1_isErased_4 rfl (lv_at hl 2 rfl) ?_
      refine lv_iconst (v := (nI 4)) F.1 F.2.1 dX1_isErased_5 (by decide) ?_
      refine lv_iload_n F.1 F.2.1 dX1_isErased_6 rfl (lv_at hl 1 rfl) ?_
      refine lv_imul F.1 F.2.1 dX1_isErased_7 ?_
      refine tp_i (pk_mul 4 b) ?_
      refine lv_iconst (v := (nI 4)) F.1 F.2.1 dX1_isErased_8 (by decide) ?_
      refine lv_iadd F.1 F.2.1 dX1_isErased_9 ?_
      refine tp_i (nI_add (4 * b) 4) ?_
      refine b_ge (tgt := 30) F dX1_isErased_10 (by decide) (by omega) (by omega) (fun c1 => ?_) (fun c1 => ?_)
      · skip
        have hi4 : i = 4 := by omega
        refine lv_iconst (v := (bI true)) F.1 F.2.1 dX1_isErased_30 (by decide) ?_
        exact ret true _ _ _ _ _ (⟨by rw [erB_i (fun j hj => hz j (by omega))], rfl⟩) w dX1_isErased_31
      · skip
        have hq := hst (4 * b + i) (by omega)
        refine lv_aload_n F.1 F.2.1 dX1_isErased_13 rfl (lv_at hl 0 rfl) ?_
        refine f_gSt F w dX1_isErased_14 ?_
        refine lv_iload_n F.1 F.2.1 dX1_isErased_17 rfl (lv_at hl 2 rfl) ?_
        refine f_lSt F w (by omega) dX1_isErased_18 ?_
        refine n_eq (tgt := 24) F dX1_isErased_19 (by decide) (by omega) (fun c2 => ?_) (fun c2 => ?_)
        · skip
          refine lv_iinc (v := (nI (4 * b + i + 1))) (lv' := [(2, .int (nI (4 * b + i + 1))), (0, .ref (G.2.1 0)), (1, .int (nI b))]) F.1 F.2.1 dX1_isErased_24 hl (k := 2) rfl (ninc (4 * b + i)) (by decide) rfl (fun ls hl => ?_)
          refine lv_goto (tgt := 4) F.1 F.2.1 dX1_isErased_27 (by decide) ?_
          exact ih (i + 1) _ _ _ (by omega) (by omega) (fun j hj => by
              by_cases e : j = i
              · rw [e]; exact c2
              · exact hz j (by omega)) w (lv_sub hl [1, 2, 0] rfl)
        · skip
          refine lv_iconst (v := (bI false)) F.1 F.2.1 dX1_isErased_22 (by decide) ?_
          exact ret false _ _ _ _ _ (⟨by rw [erB_f (i := i) (by omega) c2], rfl⟩) w dX1_isErased_23
  exact loop 5 0 _ _ _ (by omega) (by omega) (fun j hj => absurd hj (Nat.not_lt_zero _)) w (lv_sub hl [1, 2, 0] rfl)
set_option maxHeartbeats 4000000 in
set_option maxRecDepth 100000 in
theorem met_nextInBlock (l : Launch) (G : FG) (S : FS) (hst : ∀ a, a < 32 → fSt S a < 3) (hob : ∀ b, fOb S = some b → b < 8) : MetGi l yX1_nextInBlock cX1_nextInBlock 2 (some .int) 0 (.ref (G.2.1 0) :: []) G.1 (tF G) (wF G) S (fun r u => NxP S r ∧ S = u) := by
  refine MetGi.ofI RX1 (by decide) rfl (Nat.le_of_ble_eq_true rfl) ?_
  intro p e s m args below meth c A Q H ls F w hl ret
  have hl : lv_has ls 2 [(0, .ref (G.2.1 0))] := hl
  refine lv_aload_n F.1 F.2.1 dX1_nextInBlock_0 rfl (lv_at hl 0 rfl) ?_
  refine f_gOb F w dX1_nextInBlock_1 ?_
  refine o_ge (tgt := 9) F dX1_nextInBlock_4 (by decide) (fun k hk => by have := hob k hk; omega) (fun k c1 => ?_) (fun c1 => ?_)
  · skip
    have hk := hob k c1
    refine lv_iconst (v := (nI 4)) F.1 F.2.1 dX1_nextInBlock_9 (by decide) ?_
    refine lv_aload_n F.1 F.2.1 dX1_nextInBlock_10 rfl (lv_at hl 0 rfl) ?_
    refine f_gOb F w dX1_nextInBlock_11 ?_
    refine tp_i (y := nI k) (by rw [c1]; rfl) ?_
    refine lv_imul F.1 F.2.1 dX1_nextInBlock_14 ?_
    refine tp_i (pk_mul 4 k) ?_
    refine lv_istore_n (lv' := [(1, .int (nI (4 * k))), (0, .ref (G.2.1 0))]) F.1 F.2.1 dX1_nextInBlock_15 rfl hl (by decide) rfl (fun ls hl => ?_)
    have loop : ∀ (n i : Nat) (H : Heap) (locs : List Loc) (ls : Array Slot), i ≤ 4 → 4 + 1 ≤ i + n → (∀ j, j < i → fSt S (4 * k + j) ≠ 0) → WdF G S A s H locs → lv_has ls 2 [(0, .ref (G.2.1 0)), (1, .int (nI (4 * k + i)))] → W p l e (rmD 0) s m args below meth c H locs 0 0 Q (F0 m 16 ls []) := by
      intro n
      induction n with
      | zero =>
        intro i H locs ls hi hn hz w hl
        exact absurd hn (by omega)
      | succ n ih =>
        intro i H locs ls hi hn hz w hl
        refine lv_iload_n F.1 F.2.1 dX1_nextInBlock_16 rfl (lv_at hl 1 rfl) ?_
        refine lv_iconst (v := (nI 4)) F.1 F.2.1 dX1_nextInBlock_17 (by decide) ?_
        refine lv_aload_n F.1 F.2.1 dX1_nextInBlock_18 rfl (lv_at hl 0 rfl) ?_
        refine f_gOb F w dX1_nextInBlock_19 ?_
        refine tp_i (y := nI k) (by rw [c1]; rfl) ?_
        refine lv_imul F.1 F.2.1 dX1_nextInBlock_22 ?_
        refine tp_i (pk_mul 4 k) ?_
        refine lv_iconst (v := (nI 4)) F.1 F.2.1 dX1_nextInBlock_23 (by decide) ?_
        refine lv_iadd F.1 F.2.1 dX1_nextInBlock_24 ?_
        refine tp_i (nI_add (4 * k) 4) ?_
        refine b_ge (tgt := 45) F dX1_nextInBlock_25 (by decide) (by omega) (by omega) (fun c2 => ?_) (fun c2 => ?_)
        · skip
          have hi4 : i = 4 := by omega
          refine lv_iconst (v := (oI none)) F.1 F.2.1 dX1_nextInBlock_45 (by decide) ?_
          exact ret _ _ _ _ _ _ (⟨Or.inl ⟨rfl, fun b hb j hj => by rw [c1] at hb; cases hb; exact hz j (by omega)⟩, rfl⟩) w dX1_nextInBlock_46
        · skip
          have hq := hst (4 * k + i) (by omega)
          refine lv_aload_n F.1 F.2.1 dX1_nextInBlock_28 rfl (lv_at hl 0 rfl) ?_
          refine f_gSt F w dX1_nextInBlock_29 ?_
          refine lv_iload_n F.1 F.2.1 dX1_nextInBlock_32 rfl (lv_at hl 1 rfl) ?_
          refine f_lSt F w (by omega) dX1_nextInBlock_33 ?_
          refine n_ne (tgt := 39) F dX1_nextInBlock_34 (by decide) (by omega) (fun c3 => ?_) (fun c3 => ?_)
          · skip
            refine lv_iinc (v := (nI (4 * k + i + 1))) (lv' := [(1, .int (nI (4 * k + i + 1))), (0, .ref (G.2.1 0))]) F.1 F.2.1 dX1_nextInBlock_39 hl (k := 1) rfl (ninc (4 * k + i)) (by decide) rfl (fun ls hl => ?_)
            refine lv_goto (tgt := 16) F.1 F.2.1 dX1_nextInBlock_42 (by decide) ?_
            exact ih (i + 1) _ _ _ (by omega) (by omega) (fun j hj => by
                by_cases e : j = i
                · rw [e]; exact c3
                · exact hz j (by omega)) w (lv_sub hl [1, 0] rfl)
          · skip
            refine lv_iload_n F.1 F.2.1 dX1_nextInBlock_37 rfl (lv_at hl 1 rfl) ?_
            exact ret _ _ _ _ _ _ (⟨Or.inr ⟨k, i, c1, hk, by omega, c3, hz, rfl⟩, rfl⟩) w dX1_nextInBlock_38
    exact loop 5 0 _ _ _ (by omega) (by omega) (fun j hj => absurd hj (Nat.not_lt_zero _)) w (lv_sub hl [1, 0] rfl)
  · skip
    refine lv_iconst (v := (oI none)) F.1 F.2.1 dX1_nextInBlock_7 (by decide) ?_
    exact ret _ _ _ _ _ _ (⟨Or.inl ⟨rfl, fun b hb => by rw [c1] at hb; cases hb⟩, rfl⟩) w dX1_nextInBlock_8
set_option maxHeartbeats 4000000 in
set_option maxRecDepth 100000 in
theorem met_freeBlocks (l : Launch) (G : FG) (S : FS) (hst : ∀ a, a < 32 → fSt S a < 3) : MetGi l yX1_freeBlocks cX1_freeBlocks 3 (some .int) 1 (.ref (G.2.1 0) :: []) G.1 (tF G) (wF G) S (fun r u => r = nI (cntE S 8) ∧ S = u) := by
  refine MetGi.ofI RX1 (by decide) rfl (Nat.le_of_ble_eq_true rfl) ?_
  intro p e s m args below meth c A Q H ls F w hl ret
  have hl : lv_has ls 3 [(0, .ref (G.2.1 0))] := hl
  refine lv_iconst (v := (nI 0)) F.1 F.2.1 dX1_freeBlocks_0 (by decide) ?_
  refine lv_istore_n (lv' := [(1, .int (nI 0)), (0, .ref (G.2.1 0))]) F.1 F.2.1 dX1_freeBlocks_1 rfl hl (by decide) rfl (fun ls hl => ?_)
  refine lv_iconst (v := (nI 0)) F.1 F.2.1 dX1_freeBlocks_2 (by decide) ?_
  refine lv_istore_n (lv' := [(2, .int (nI 0)), (1, .int (nI 0)), (0, .ref (G.2.1 0))]) F.1 F.2.1 dX1_freeBlocks_3 rfl hl (by decide) rfl (fun ls hl => ?_)
  have loop : ∀ (n i : Nat) (H : Heap) (locs : List Loc) (ls : Array Slot), i ≤ 8 → 8 + 1 ≤ i + n → WdF G S A s H locs → lv_has ls 3 [(0, .ref (G.2.1 0)), (1, .int (nI (cntE S i))), (2, .int (nI i))] → W p l e (rmD 1) s m args below meth c H locs 0 0 Q (F0 m 4 ls []) := by
    intro n
    induction n with
    | zero =>
      intro i H locs ls hi hn w hl
      exact absurd hn (by omega)
    | succ n ih =>
      intro i H locs ls hi hn w hl
      refine lv_iload_n F.1 F.2.1 dX1_freeBlocks_4 rfl (lv_at hl 2 rfl) ?_
      refine lv_bipush (v := (nI 8)) F.1 F.2.1 dX1_freeBlocks_5 (by decide) ?_
      refine b_ge (tgt := 27) F dX1_freeBlocks_7 (by decide) (by omega) (by omega) (fun c1 => ?_) (fun c1 => ?_)
      · skip
        have hi8 : i = 8 := by omega
        refine lv_iload_n F.1 F.2.1 dX1_freeBlocks_27 rfl (lv_at hl 1 rfl) ?_
        exact ret _ _ _ _ _ _ (⟨by rw [hi8], rfl⟩) w dX1_freeBlocks_28
      · skip
        refine lv_aload_n F.1 F.2.1 dX1_freeBlocks_10 rfl (lv_at hl 0 rfl) ?_
        refine lv_iload_n F.1 F.2.1 dX1_freeBlocks_11 rfl (lv_at hl 2 rfl) ?_
        refine g_calli F w (met_isErased l G S hst i (by omega)) rfl rfl rfl (cw_isErased F ⟨Nat.le_of_ble_eq_true rfl, Nat.le_of_ble_eq_true rfl⟩) rfl hl.1 rfl (Nat.le_of_ble_eq_true rfl) dX1_freeBlocks_12 ⟨Nat.zero_le _, Nat.zero_le _⟩ (fun r S1 H locs hp w => ?_)
        obtain ⟨rfl, rfl⟩ := hp
        refine z_eq (tgt := 21) F dX1_freeBlocks_15 (by decide) (fun c2 => ?_) (fun c2 => ?_)
        · skip
          refine lv_iinc (v := (nI (i + 1))) (lv' := [(2, .int (nI (i + 1))), (0, .ref (G.2.1 0)), (1, .int (nI (cntE S i)))]) F.1 F.2.1 dX1_freeBlocks_21 hl (k := 2) rfl (ninc i) (by decide) rfl (fun ls hl => ?_)
          refine lv_goto (tgt := 4) F.1 F.2.1 dX1_freeBlocks_24 (by decide) ?_
          exact ih (i + 1) _ _ _ (by omega) (by omega) w (by rw [cntE_f c2]; exact lv_sub hl [1, 2, 0] rfl)
        · skip
          refine lv_iinc (v := (nI (cntE S i + 1))) (lv' := [(1, .int (nI (cntE S i + 1))), (0, .ref (G.2.1 0)), (2, .int (nI i))]) F.1 F.2.1 dX1_freeBlocks_18 hl (k := 1) rfl (ninc (cntE S i)) (by decide) rfl (fun ls hl => ?_)
          refine lv_iinc (v := (nI (i + 1))) (lv' := [(2, .int (nI (i + 1))), (1, .int (nI (cntE S i + 1))), (0, .ref (G.2.1 0))]) F.1 F.2.1 dX1_freeBlocks_21 hl (k := 2) rfl (ninc i) (by decide) rfl (fun ls hl => ?_)
          refine lv_goto (tgt := 4) F.1 F.2.1 dX1_freeBlocks_24 (by decide) ?_
          exact ih (i + 1) _ _ _ (by omega) (by omega) w (by rw [cntE_t c2]; exact lv_sub hl [2, 1, 0] rfl)
  exact loop 9 0 _ _ _ (by omega) (by omega) w (lv_sub hl [2, 1, 0] rfl)
set_option maxHeartbeats 4000000 in
set_option maxRecDepth 100000 in
theorem met_leastWornFreeBlock (l : Launch) (G : FG) (S : FS) (hst : ∀ a, a < 32 → fSt S a < 3) : MetGi l yX1_leastWornFreeBlock cX1_leastWornFreeBlock 3 (some .int) 1 (.ref (G.2.1 0) :: []) G.1 (tF G) (wF G) S (fun r u => ∃ o, r = oI o ∧ LwI S 8 o ∧ S = u) := by
  refine MetGi.ofI RX1 (by decide) rfl (Nat.le_of_ble_eq_true rfl) ?_
  intro p e s m args below meth c A Q H ls F w hl ret
  have hl : lv_has ls 3 [(0, .ref (G.2.1 0))] := hl
  refine lv_iconst (v := (oI none)) F.1 F.2.1 dX1_leastWornFreeBlock_0 (by decide) ?_
  refine lv_istore_n (lv' := [(1, .int (oI none)), (0, .ref (G.2.1 0))]) F.1 F.2.1 dX1_leastWornFreeBlock_1 rfl hl (by decide) rfl (fun ls hl => ?_)
  refine lv_iconst (v := (nI 0)) F.1 F.2.1 dX1_leastWornFreeBlock_2 (by decide) ?_
  refine lv_istore_n (lv' := [(2, .int (nI 0)), (1, .int (oI none)), (0, .ref (G.2.1 0))]) F.1 F.2.1 dX1_leastWornFreeBlock_3 rfl hl (by decide) rfl (fun ls hl => ?_)
  have loop : ∀ (n i : Nat) (o : Option Nat) (H : Heap) (locs : List Loc) (ls : Array Slot), i ≤ 8 → 8 + 1 ≤ i + n → LwI S i o → WdF G S A s H locs → lv_has ls 3 [(0, .ref (G.2.1 0)), (1, .int (oI o)), (2, .int (nI i))] → W p l e (rmD 1) s m args below meth c H locs 0 0 Q (F0 m 4 ls []) := by
    intro n
    induction n with
    | zero =>
      intro i o H locs ls hi hn hI w hl
      exact absurd hn (by omega)
    | succ n ih =>
      intro i o H locs ls hi hn hI w hl
      refine lv_iload_n F.1 F.2.1 dX1_leastWornFreeBlock_4 rfl (lv_at hl 2 rfl) ?_
      refine lv_bipush (v := (nI 8)) F.1 F.2.1 dX1_leastWornFreeBlock_5 (by decide) ?_
      refine b_ge (tgt := 45) F dX1_leastWornFreeBlock_7 (by decide) (by omega) (by omega) (fun c1 => ?_) (fun c1 => ?_)
      · skip
        have hi8 : i = 8 := by omega
        subst hi8
        refine lv_iload_n F.1 F.2.1 dX1_leastWornFreeBlock_45 rfl (lv_at hl 1 rfl) ?_
        exact ret _ _ _ _ _ _ (⟨o, rfl, hI, rfl⟩) w dX1_leastWornFreeBlock_46
      · skip
        refine lv_aload_n F.1 F.2.1 dX1_leastWornFreeBlock_10 rfl (lv_at hl 0 rfl) ?_
        refine lv_iload_n F.1 F.2.1 dX1_leastWornFreeBlock_11 rfl (lv_at hl 2 rfl) ?_
        refine g_calli F w (met_isErased l G S hst i (by omega)) rfl rfl rfl (cw_isErased F ⟨Nat.le_of_ble_eq_true rfl, Nat.le_of_ble_eq_true rfl⟩) rfl hl.1 rfl (Nat.le_of_ble_eq_true rfl) dX1_leastWornFreeBlock_12 ⟨Nat.zero_le _, Nat.zero_le _⟩ (fun r S1 H locs hp w => ?_)
        obtain ⟨rfl, rfl⟩ := hp
        refine z_eq (tgt := 39) F dX1_leastWornFreeBlock_15 (by decide) (fun c2 => ?_) (fun c2 => ?_)
        · skip
          refine lv_iinc (v := (nI (i + 1))) (lv' := [(2, .int (nI (i + 1))), (0, .ref (G.2.1 0)), (1, .int (oI o))]) F.1 F.2.1 dX1_leastWornFreeBlock_39 hl (k := 2) rfl (ninc i) (by decide) rfl (fun ls hl => ?_)
          refine lv_goto (tgt := 4) F.1 F.2.1 dX1_leastWornFreeBlock_42 (by decide) ?_
          exact ih (i + 1) o _ _ _ (by omega) (by omega) (LwI_n hI (Or.inl c2)) w (lv_sub hl [1, 2, 0] rfl)
        · skip
          refine lv_iload_n F.1 F.2.1 dX1_leastWornFreeBlock_18 rfl (lv_at hl 1 rfl) ?_
          refine o_lt (tgt := 37) F dX1_leastWornFreeBlock_19 (by decide) (hI.lt) (fun c3 => ?_) (fun k c3 => ?_)
          · skip
            refine lv_iload_n F.1 F.2.1 dX1_leastWornFreeBlock_37 rfl (lv_at hl 2 rfl) ?_
            refine lv_istore_n (lv' := [(1, .int (nI i)), (0, .ref (G.2.1 0)), (2, .int (nI i))]) F.1 F.2.1 dX1_leastWornFreeBlock_38 rfl hl (by decide) rfl (fun ls hl => ?_)
            refine lv_iinc (v := (nI (i + 1))) (lv' := [(2, .int (nI (i + 1))), (1, .int (nI i)), (0, .ref (G.2.1 0))]) F.1 F.2.1 dX1_leastWornFreeBlock_39 hl (k := 2) rfl (ninc i) (by decide) rfl (fun ls hl => ?_)
            refine lv_goto (tgt := 4) F.1 F.2.1 dX1_leastWornFreeBlock_42 (by decide) ?_
            exact ih (i + 1) (some i) _ _ _ (by omega) (by omega) (LwI_w (by omega) c2) w (lv_sub hl [2, 1, 0] rfl)
          · skip
            have hk := (hI.2 k c3).1
            refine lv_aload_n F.1 F.2.1 dX1_leastWornFreeBlock_22 rfl (lv_at hl 0 rfl) ?_
            refine f_gEr F w dX1_leastWornFreeBlock_23 ?_
            refine lv_iload_n F.1 F.2.1 dX1_leastWornFreeBlock_26 rfl (lv_at hl 2 rfl) ?_
            refine f_lEr F w (by omega) dX1_leastWornFreeBlock_27 ?_
            refine lv_aload_n F.1 F.2.1 dX1_leastWornFreeBlock_28 rfl (lv_at hl 0 rfl) ?_
            refine f_gEr F w dX1_leastWornFreeBlock_29 ?_
            refine lv_iload_n F.1 F.2.1 dX1_leastWornFreeBlock_32 rfl (lv_at hl 1 rfl) ?_
            refine tp_i (y := nI k) (by rw [c3]; rfl) ?_
            refine f_lEr F w (by omega) dX1_leastWornFreeBlock_33 ?_
            refine lv_icmp_ge (tgt := 39) F.1 F.2.1 dX1_leastWornFreeBlock_34 (by decide) (fun c4 => ?_) (fun c4 => ?_)
            · skip
              refine lv_iinc (v := (nI (i + 1))) (lv' := [(2, .int (nI (i + 1))), (0, .ref (G.2.1 0)), (1, .int (oI o))]) F.1 F.2.1 dX1_leastWornFreeBlock_39 hl (k := 2) rfl (ninc i) (by decide) rfl (fun ls hl => ?_)
              refine lv_goto (tgt := 4) F.1 F.2.1 dX1_leastWornFreeBlock_42 (by decide) ?_
              exact ih (i + 1) o _ _ _ (by omega) (by omega) (LwI_n hI (Or.inr (by rw [c3]; exact fun q => by cases q))) w (lv_sub hl [1, 2, 0] rfl)
            · skip
              refine lv_iload_n F.1 F.2.1 dX1_leastWornFreeBlock_37 rfl (lv_at hl 2 rfl) ?_
              refine lv_istore_n (lv' := [(1, .int (nI i)), (0, .ref (G.2.1 0)), (2, .int (nI i))]) F.1 F.2.1 dX1_leastWornFreeBlock_38 rfl hl (by decide) rfl (fun ls hl => ?_)
              refine lv_iinc (v := (nI (i + 1))) (lv' := [(2, .int (nI (i + 1))), (1, .int (nI i)), (0, .ref (G.2.1 0))]) F.1 F.2.1 dX1_leastWornFreeBlock_39 hl (k := 2) rfl (ninc i) (by decide) rfl (fun ls hl => ?_)
              refine lv_goto (tgt := 4) F.1 F.2.1 dX1_leastWornFreeBlock_42 (by decide) ?_
              exact ih (i + 1) (some i) _ _ _ (by omega) (by omega) (LwI_w (by omega) c2) w (lv_sub hl [2, 1, 0] rfl)
  exact loop 9 0 none _ _ _ (by omega) (by omega) ⟨fun _ b hb => absurd hb (Nat.not_lt_zero _), fun b hb => by cases hb⟩ w (lv_sub hl [2, 1, 0] rfl)
set_option maxHeartbeats 4000000 in
set_option maxRecDepth 100000 in
theorem met_isValid (l : Launch) (G : FG) (S : FS) {T : TB} (hF : Fl S T) (a : Nat) (ha : a < 32) : MetGi l yX1_isValid cX1_isValid 2 (some .boolean) 0 (.ref (G.2.1 0) :: [.int (nI a)]) G.1 (tF G) (wF G) S (fun r u => r = bI (vlB S a) ∧ S = u) := by
  refine MetGi.ofZ RX1 (by decide) rfl (Nat.le_of_ble_eq_true rfl) ?_
  intro p e s m args below meth c A Q H ls F w hl ret
  have hl : lv_has ls 2 [(0, .ref (G.2.1 0)), (1, .int (nI a))] := hl
  have hq := hF.1 a ha
  have hlo := hF.2.1 a ha
  refine lv_aload_n F.1 F.2.1 dX1_isValid_0 rfl (lv_at hl 0 rfl) ?_
  refine f_gSt F w dX1_isValid_1 ?_
  refine lv_iload_n F.1 F.2.1 dX1_isValid_4 rfl (lv_at hl 1 rfl) ?_
  refine f_lSt F w (by omega) dX1_isValid_5 ?_
  refine lv_iconst (v := (nI 1)) F.1 F.2.1 dX1_isValid_6 (by decide) ?_
  refine b_ne (tgt := 29) F dX1_isValid_7 (by decide) (by omega) (by omega) (fun c1 => ?_) (fun c1 => ?_)
  · skip
    refine lv_iconst (v := (bI false)) F.1 F.2.1 dX1_isValid_29 (by decide) ?_
    exact ret false _ _ _ _ _ (⟨by rw [vlB_f (fun q => c1 q.1)], rfl⟩) w dX1_isValid_30
  · skip
    refine lv_aload_n F.1 F.2.1 dX1_isValid_10 rfl (lv_at hl 0 rfl) ?_
    refine f_gPl F w dX1_isValid_11 ?_
    refine lv_aload_n F.1 F.2.1 dX1_isValid_14 rfl (lv_at hl 0 rfl) ?_
    refine f_gLo F w dX1_isValid_15 ?_
    refine lv_iload_n F.1 F.2.1 dX1_isValid_18 rfl (lv_at hl 1 rfl) ?_
    refine f_lLo F w (by omega) dX1_isValid_19 ?_
    refine f_lPl F w (by omega) dX1_isValid_20 ?_
    refine lv_iload_n F.1 F.2.1 dX1_isValid_21 rfl (lv_at hl 1 rfl) ?_
    refine o_ne (tgt := 29) F dX1_isValid_22 (by decide) (fun k hk => hF.pl hlo hk) (by omega) (fun c2 => ?_) (fun c2 => ?_)
    · skip
      refine lv_iconst (v := (bI false)) F.1 F.2.1 dX1_isValid_29 (by decide) ?_
      exact ret false _ _ _ _ _ (⟨by rw [vlB_f (fun q => c2 q.2)], rfl⟩) w dX1_isValid_30
    · skip
      refine lv_iconst (v := (bI true)) F.1 F.2.1 dX1_isValid_25 (by decide) ?_
      refine lv_goto (tgt := 30) F.1 F.2.1 dX1_isValid_26 (by decide) ?_
      exact ret true _ _ _ _ _ (⟨by rw [vlB_i c1 c2], rfl⟩) w dX1_isValid_30
set_option maxHeartbeats 4000000 in
set_option maxRecDepth 100000 in
theorem met_validIn (l : Launch) (G : FG) (S : FS) {T : TB} (hF : Fl S T) (b : Nat) (hb : b < 8) : MetGi l yX1_validIn cX1_validIn 4 (some .int) 1 (.ref (G.2.1 0) :: [.int (nI b)]) G.1 (tF G) (wF G) S (fun r u => r = nI (vc S b 4) ∧ S = u) := by
  refine MetGi.ofI RX1 (by decide) rfl (Nat.le_of_ble_eq_true rfl) ?_
  intro p e s m args below meth c A Q H ls F w hl ret
  have hl : lv_has ls 4 [(0, .ref (G.2.1 0)), (1, .int (nI b))] := hl
  refine lv_iconst (v := (nI 0)) F.1 F.2.1 dX1_validIn_0 (by decide) ?_
  refine lv_istore_n (lv' := [(2, .int (nI 0)), (0, .ref (G.2.1 0)), (1, .int (nI b))]) F.1 F.2.1 dX1_validIn_1 rfl hl (by decide) rfl (fun ls hl => ?_)
  refine lv_iconst (v := (nI 4)) F.1 F.2.1 dX1_validIn_2 (by decide) ?_
  refine lv_iload_n F.1 F.2.1 dX1_validIn_3 rfl (lv_at hl 2 rfl) ?_
  refine lv_imul F.1 F.2.1 dX1_validIn_4 ?_
  refine tp_i (pk_mul 4 b) ?_
  refine lv_istore_n (lv' := [(3, .int (nI (4 * b))), (2, .int (nI 0)), (0, .ref (G.2.1 0)), (1, .int (nI b))]) F.1 F.2.1 dX1_validIn_5 rfl hl (by decide) rfl (fun ls hl => ?_)
  have loop : ∀ (n i : Nat) (H : Heap) (locs : List Loc) (ls : Array Slot), i ≤ 4 → 4 + 1 ≤ i + n → WdF G S A s H locs → lv_has ls 4 [(0, .ref (G.2.1 0)), (1, .int (nI b)), (2, .int (nI (vc S b i))), (3, .int (nI (4 * b + i)))] → W p l e (rmD 1) s m args below meth c H locs 0 0 Q (F0 m 6 ls []) := by
    intro n
    induction n with
    | zero =>
      intro i H locs ls hi hn w hl
      exact absurd hn (by omega)
    | succ n ih =>
      intro i H locs ls hi hn w hl
      refine lv_iload_n F.1 F.2.1 dX1_validIn_6 rfl (lv_at hl 3 rfl) ?_
      refine lv_iconst (v := (nI 4)) F.1 F.2.1 dX1_validIn_7 (by decide) ?_
      refine lv_iload_n F.1 F.2.1 dX1_validIn_8 rfl (lv_at hl 1 rfl) ?_
      refine lv_imul F.1 F.2.1 dX1_validIn_9 ?_
      refine tp_i (pk_mul 4 b) ?_
      refine lv_iconst (v := (nI 4)) F.1 F.2.1 dX1_validIn_10 (by decide) ?_
      refine lv_iadd F.1 F.2.1 dX1_validIn_11 ?_
      refine tp_i (nI_add (4 * b) 4) ?_
      refine b_ge (tgt := 32) F dX1_validIn_12 (by decide) (by omega) (by omega) (fun c1 => ?_) (fun c1 => ?_)
      · skip
        have hi4 : i = 4 := by omega
        refine lv_iload_n F.1 F.2.1 dX1_validIn_32 rfl (lv_at hl 2 rfl) ?_
        exact ret _ _ _ _ _ _ (⟨by rw [hi4], rfl⟩) w dX1_validIn_33
      · skip
        refine lv_aload_n F.1 F.2.1 dX1_validIn_15 rfl (lv_at hl 0 rfl) ?_
        refine lv_iload_n F.1 F.2.1 dX1_validIn_16 rfl (lv_at hl 3 rfl) ?_
        refine g_calli F w (met_isValid l G S hF (4 * b + i) (by omega)) rfl rfl rfl (cw_isValid F ⟨Nat.le_of_ble_eq_true rfl, Nat.le_of_ble_eq_true rfl⟩) rfl hl.1 rfl (Nat.le_of_ble_eq_true rfl) dX1_validIn_17 ⟨Nat.zero_le _, Nat.zero_le _⟩ (fun r S1 H locs hp w => ?_)
        obtain ⟨rfl, rfl⟩ := hp
        refine z_eq (tgt := 26) F dX1_validIn_20 (by decide) (fun c2 => ?_) (fun c2 => ?_)
        · skip
          refine lv_iinc (v := (nI (4 * b + i + 1))) (lv' := [(3, .int (nI (4 * b + i + 1))), (0, .ref (G.2.1 0)), (1, .int (nI b)), (2, .int (nI (vc S b i)))]) F.1 F.2.1 dX1_validIn_26 hl (k := 3) rfl (ninc (4 * b + i)) (by decide) rfl (fun ls hl => ?_)
          refine lv_goto (tgt := 6) F.1 F.2.1 dX1_validIn_29 (by decide) ?_
          exact ih (i + 1) _ _ _ (by omega) (by omega) w (by rw [vc_f c2]; exact lv_sub hl [1, 2, 3, 0] rfl)
        · skip
          refine lv_iinc (v := (nI (vc S b i + 1))) (lv' := [(2, .int (nI (vc S b i + 1))), (0, .ref (G.2.1 0)), (1, .int (nI b)), (3, .int (nI (4 * b + i)))]) F.1 F.2.1 dX1_validIn_23 hl (k := 2) rfl (ninc (vc S b i)) (by decide) rfl (fun ls hl => ?_)
          refine lv_iinc (v := (nI (4 * b + i + 1))) (lv' := [(3, .int (nI (4 * b + i + 1))), (2, .int (nI (vc S b i + 1))), (0, .ref (G.2.1 0)), (1, .int (nI b))]) F.1 F.2.1 dX1_validIn_26 hl (k := 3) rfl (ninc (4 * b + i)) (by decide) rfl (fun ls hl => ?_)
          refine lv_goto (tgt := 6) F.1 F.2.1 dX1_validIn_29 (by decide) ?_
          exact ih (i + 1) _ _ _ (by omega) (by omega) w (by rw [vc_t c2]; exact lv_sub hl [2, 3, 1, 0] rfl)
  exact loop 5 0 _ _ _ (by omega) (by omega) w (lv_sub hl [2, 3, 1, 0] rfl)
set_option maxHeartbeats 4000000 in
set_option maxRecDepth 100000 in
theorem met_leastValidBlock (l : Launch) (G : FG) (S : FS) {T : TB} (hF : Fl S T) : MetGi l yX1_leastValidBlock cX1_leastValidBlock 5 (some .int) 2 (.ref (G.2.1 0) :: []) G.1 (tF G) (wF G) S (fun r u => ∃ o f, r = oI o ∧ LvI S 8 o f ∧ S = u) := by
  refine MetGi.ofI RX1 (by decide) rfl (Nat.le_of_ble_eq_true rfl) ?_
  intro p e s m args below meth c A Q H ls F w hl ret
  have hl : lv_has ls 5 [(0, .ref (G.2.1 0))] := hl
  refine lv_iconst (v := (oI none)) F.1 F.2.1 dX1_leastValidBlock_0 (by decide) ?_
  refine lv_istore_n (lv' := [(1, .int (oI none)), (0, .ref (G.2.1 0))]) F.1 F.2.1 dX1_leastValidBlock_1 rfl hl (by decide) rfl (fun ls hl => ?_)
  refine lv_iconst (v := (nI 5)) F.1 F.2.1 dX1_leastValidBlock_2 (by decide) ?_
  refine lv_istore_n (lv' := [(2, .int (nI 5)), (1, .int (oI none)), (0, .ref (G.2.1 0))]) F.1 F.2.1 dX1_leastValidBlock_3 rfl hl (by decide) rfl (fun ls hl => ?_)
  refine lv_iconst (v := (nI 0)) F.1 F.2.1 dX1_leastValidBlock_4 (by decide) ?_
  refine lv_istore_n (lv' := [(3, .int (nI 0)), (2, .int (nI 5)), (1, .int (oI none)), (0, .ref (G.2.1 0))]) F.1 F.2.1 dX1_leastValidBlock_5 rfl hl (by decide) rfl (fun ls hl => ?_)
  have loop : ∀ (n i : Nat) (o : Option Nat) (f : Nat) (H : Heap) (locs : List Loc) (ls : Array Slot), i ≤ 8 → 8 + 1 ≤ i + n → LvI S i o f → WdF G S A s H locs → lv_has ls 5 [(0, .ref (G.2.1 0)), (1, .int (oI o)), (2, .int (nI f)), (3, .int (nI i))] → W p l e (rmD 2) s m args below meth c H locs 0 0 Q (F0 m 6 ls []) := by
    intro n
    induction n with
    | zero =>
      intro i o f H locs ls hi hn hI w hl
      exact absurd hn (by omega)
    | succ n ih =>
      intro i o f H locs ls hi hn hI w hl
      have hf5 := hI.le
      have hv4 := vc_le S i 4
      refine lv_iload_n F.1 F.2.1 dX1_leastValidBlock_6 rfl (lv_at hl 3 rfl) ?_
      refine lv_bipush (v := (nI 8)) F.1 F.2.1 dX1_leastValidBlock_7 (by decide) ?_
      refine b_ge (tgt := 71) F dX1_leastValidBlock_9 (by decide) (by omega) (by omega) (fun c1 => ?_) (fun c1 => ?_)
      · skip
        have hi8 : i = 8 := by omega
        subst hi8
        refine lv_iload_n F.1 F.2.1 dX1_leastValidBlock_71 rfl (lv_at hl 1 rfl) ?_
        exact ret _ _ _ _ _ _ (⟨o, f, rfl, hI, rfl⟩) w dX1_leastValidBlock_72
      · skip
        refine lv_aload_n F.1 F.2.1 dX1_leastValidBlock_12 rfl (lv_at hl 0 rfl) ?_
        refine lv_iload_n F.1 F.2.1 dX1_leastValidBlock_13 rfl (lv_at hl 3 rfl) ?_
        refine g_calli F w (met_isErased l G S hF.1 i (by omega)) rfl rfl rfl (cw_isErased F ⟨Nat.le_of_ble_eq_true rfl, Nat.le_of_ble_eq_true rfl⟩) rfl hl.1 rfl (Nat.le_of_ble_eq_true rfl) dX1_leastValidBlock_14 ⟨Nat.zero_le _, Nat.zero_le _⟩ (fun r S1 H locs hp w => ?_)
        obtain ⟨rfl, rfl⟩ := hp
        refine z_eq (tgt := 23) F dX1_leastValidBlock_17 (by decide) (fun c2 => ?_) (fun c2 => ?_)
        · skip
          refine lv_aload_n F.1 F.2.1 dX1_leastValidBlock_23 rfl (lv_at hl 0 rfl) ?_
          refine lv_iload_n F.1 F.2.1 dX1_leastValidBlock_24 rfl (lv_at hl 3 rfl) ?_
          refine g_calli F w (met_validIn l G S hF i (by omega)) rfl rfl rfl (cw_validIn F ⟨Nat.le_of_ble_eq_true rfl, Nat.le_of_ble_eq_true rfl⟩) rfl hl.1 rfl (Nat.le_of_ble_eq_true rfl) dX1_leastValidBlock_25 ⟨Nat.zero_le _, Nat.zero_le _⟩ (fun r S1 H locs hp w => ?_)
          obtain ⟨rfl, rfl⟩ := hp
          refine lv_istore (lv' := [(4, .int (nI (vc S i 4))), (0, .ref (G.2.1 0)), (1, .int (oI o)), (2, .int (nI f)), (3, .int (nI i))]) F.1 F.2.1 dX1_leastValidBlock_28 hl (by decide) rfl (fun ls hl => ?_)
          refine lv_iload F.1 F.2.1 dX1_leastValidBlock_30 (lv_at hl 0 rfl) ?_
          refine lv_iload_n F.1 F.2.1 dX1_leastValidBlock_32 rfl (lv_at hl 3 rfl) ?_
          refine b_gt (tgt := 65) F dX1_leastValidBlock_33 (by decide) (by omega) (by omega) (fun c3 => ?_) (fun c3 => ?_)
          · skip
            refine lv_iinc (v := (nI (i + 1))) (lv' := [(3, .int (nI (i + 1))), (4, .int (nI (vc S i 4))), (0, .ref (G.2.1 0)), (1, .int (oI o)), (2, .int (nI f))]) F.1 F.2.1 dX1_leastValidBlock_65 hl (k := 4) rfl (ninc i) (by decide) rfl (fun ls hl => ?_)
            refine lv_goto (tgt := 6) F.1 F.2.1 dX1_leastValidBlock_68 (by decide) ?_
            exact ih (i + 1) o f _ _ _ (by omega) (by omega) (LvI_k hI (by omega)) w (lv_sub hl [2, 3, 4, 0] rfl)
          · skip
            refine lv_iload F.1 F.2.1 dX1_leastValidBlock_36 (lv_at hl 0 rfl) ?_
            refine lv_iload_n F.1 F.2.1 dX1_leastValidBlock_38 rfl (lv_at hl 3 rfl) ?_
            refine b_ne (tgt := 60) F dX1_leastValidBlock_39 (by decide) (by omega) (by omega) (fun c4 => ?_) (fun c4 => ?_)
            · skip
              refine lv_iload F.1 F.2.1 dX1_leastValidBlock_60 (lv_at hl 0 rfl) ?_
              refine lv_istore_n (lv' := [(2, .int (nI (vc S i 4))), (4, .int (nI (vc S i 4))), (0, .ref (G.2.1 0)), (1, .int (oI o)), (3, .int (nI i))]) F.1 F.2.1 dX1_leastValidBlock_62 rfl hl (by decide) rfl (fun ls hl => ?_)
              refine lv_iload_n F.1 F.2.1 dX1_leastValidBlock_63 rfl (lv_at hl 4 rfl) ?_
              refine lv_istore_n (lv' := [(1, .int (nI i)), (2, .int (nI (vc S i 4))), (4, .int (nI (vc S i 4))), (0, .ref (G.2.1 0)), (3, .int (nI i))]) F.1 F.2.1 dX1_leastValidBlock_64 rfl hl (by decide) rfl (fun ls hl => ?_)
              refine lv_iinc (v := (nI (i + 1))) (lv' := [(3, .int (nI (i + 1))), (1, .int (nI i)), (2, .int (nI (vc S i 4))), (4, .int (nI (vc S i 4))), (0, .ref (G.2.1 0))]) F.1 F.2.1 dX1_leastValidBlock_65 hl (k := 4) rfl (ninc i) (by decide) rfl (fun ls hl => ?_)
              refine lv_goto (tgt := 6) F.1 F.2.1 dX1_leastValidBlock_68 (by decide) ?_
              exact ih (i + 1) (some i) (vc S i 4) _ _ _ (by omega) (by omega) (LvI_w hI (by omega) c2 (by omega)) w (lv_sub hl [4, 1, 2, 0] rfl)
            · skip
              obtain ⟨v, hov, hv8⟩ := LvI_some hI c4.symm
              refine lv_aload_n F.1 F.2.1 dX1_leastValidBlock_42 rfl (lv_at hl 1 rfl) ?_
              refine f_gEr F w dX1_leastValidBlock_43 ?_
              refine lv_iload_n F.1 F.2.1 dX1_leastValidBlock_46 rfl (lv_at hl 4 rfl) ?_
              refine f_lEr F w (by omega) dX1_leastValidBlock_47 ?_
              refine lv_aload_n F.1 F.2.1 dX1_leastValidBlock_48 rfl (lv_at hl 1 rfl) ?_
              refine f_gEr F w dX1_leastValidBlock_49 ?_
              refine lv_iload_n F.1 F.2.1 dX1_leastValidBlock_52 rfl (lv_at hl 2 rfl) ?_
              refine tp_i (y := nI v) (by rw [hov]; rfl) ?_
              refine f_lEr F w (by omega) dX1_leastValidBlock_53 ?_
              refine lv_icmp_lt (tgt := 60) F.1 F.2.1 dX1_leastValidBlock_54 (by decide) (fun c5 => ?_) (fun c5 => ?_)
              · skip
                refine lv_iload F.1 F.2.1 dX1_leastValidBlock_60 (lv_at hl 0 rfl) ?_
                refine lv_istore_n (lv' := [(2, .int (nI (vc S i 4))), (4, .int (nI (vc S i 4))), (0, .ref (G.2.1 0)), (1, .int (oI o)), (3, .int (nI i))]) F.1 F.2.1 dX1_leastValidBlock_62 rfl hl (by decide) rfl (fun ls hl => ?_)
                refine lv_iload_n F.1 F.2.1 dX1_leastValidBlock_63 rfl (lv_at hl 4 rfl) ?_
                refine lv_istore_n (lv' := [(1, .int (nI i)), (2, .int (nI (vc S i 4))), (4, .int (nI (vc S i 4))), (0, .ref (G.2.1 0)), (3, .int (nI i))]) F.1 F.2.1 dX1_leastValidBlock_64 rfl hl (by decide) rfl (fun ls hl => ?_)
                refine lv_iinc (v := (nI (i + 1))) (lv' := [(3, .int (nI (i + 1))), (1, .int (nI i)), (2, .int (nI (vc S i 4))), (4, .int (nI (vc S i 4))), (0, .ref (G.2.1 0))]) F.1 F.2.1 dX1_leastValidBlock_65 hl (k := 4) rfl (ninc i) (by decide) rfl (fun ls hl => ?_)
                refine lv_goto (tgt := 6) F.1 F.2.1 dX1_leastValidBlock_68 (by decide) ?_
                exact ih (i + 1) (some i) (vc S i 4) _ _ _ (by omega) (by omega) (LvI_w hI (by omega) c2 (by omega)) w (lv_sub hl [4, 1, 2, 0] rfl)
              · skip
                refine lv_goto (tgt := 65) F.1 F.2.1 dX1_leastValidBlock_57 (by decide) ?_
                refine lv_iinc (v := (nI (i + 1))) (lv' := [(3, .int (nI (i + 1))), (4, .int (nI (vc S i 4))), (0, .ref (G.2.1 0)), (1, .int (oI o)), (2, .int (nI f))]) F.1 F.2.1 dX1_leastValidBlock_65 hl (k := 4) rfl (ninc i) (by decide) rfl (fun ls hl => ?_)
                refine lv_goto (tgt := 6) F.1 F.2.1 dX1_leastValidBlock_68 (by decide) ?_
                exact ih (i + 1) o f _ _ _ (by omega) (by omega) (LvI_k hI (by omega)) w (lv_sub hl [2, 3, 4, 0] rfl)
        · skip
          refine lv_goto (tgt := 65) F.1 F.2.1 dX1_leastValidBlock_20 (by decide) ?_
          refine lv_iinc (v := (nI (i + 1))) (lv' := [(3, .int (nI (i + 1))), (0, .ref (G.2.1 0)), (1, .int (oI o)), (2, .int (nI f))]) F.1 F.2.1 dX1_leastValidBlock_65 hl (k := 3) rfl (ninc i) (by decide) rfl (fun ls hl => ?_)
          refine lv_goto (tgt := 6) F.1 F.2.1 dX1_leastValidBlock_68 (by decide) ?_
          exact ih (i + 1) o f _ _ _ (by omega) (by omega) (LvI_e hI c2) w (lv_sub hl [1, 2, 3, 0] rfl)
  exact loop 9 0 none 5 _ _ _ (by omega) (by omega) (Or.inl ⟨rfl, rfl, fun b hb => absurd hb (Nat.not_lt_zero _)⟩) w (lv_sub hl [3, 2, 1, 0] rfl)
end
section
set_option maxHeartbeats 4000000 in
set_option maxRecDepth 100000 in
theorem met_fillPage (l : Launch) (G : FG) (S : FS) (a q : Nat) (v : Int32) (z : Bool) (ha : a < 32) (hq : q < 12) : MetGv l yX1_fillPage cX1_fillPage 5 none 0 (.ref (G.2.1 0) :: [.int (nI a), .int (nI q), .int v, .int (bI z)]) G.1 (tF G) (wF G) S (fun u => fillS S a q v z = u) := by
  refine MetGv.ofV RX1 (by decide) rfl (Nat.le_of_ble_eq_true rfl) ?_
  intro p e s m args below meth c A Q H ls F w hl ret
  have hl : lv_has ls 5 [(0, .ref (G.2.1 0)), (1, .int (nI a)), (2, .int (nI q)), (3, .int v), (4, .int (bI z))] := hl
  refine lv_aload_n F.1 F.2.1 dX1_fillPage_0 rfl (lv_at hl 0 rfl) ?_
  refine f_gSt F w dX1_fillPage_1 ?_
  refine lv_iload_n F.1 F.2.1 dX1_fillPage_4 rfl (lv_at hl 1 rfl) ?_
  refine lv_iconst (v := (nI 1)) F.1 F.2.1 dX1_fillPage_5 (by decide) ?_
  refine f_sSt F w 1 (by omega) (by omega) dX1_fillPage_6 (fun H locs w => ?_)
  have w : WdF G (fu (fSt S) a 1, fDa S, fLo S, fEm S, fRu S, fEr S, fSp S, fPl S, fOb S, fNn S) A s H locs := w
  refine lv_aload_n F.1 F.2.1 dX1_fillPage_7 rfl (lv_at hl 0 rfl) ?_
  refine f_gDa F w dX1_fillPage_8 ?_
  refine lv_iload_n F.1 F.2.1 dX1_fillPage_11 rfl (lv_at hl 1 rfl) ?_
  refine lv_iload_n F.1 F.2.1 dX1_fillPage_12 rfl (lv_at hl 3 rfl) ?_
  refine f_sDa F w v (by omega) dX1_fillPage_13 (fun H locs w => ?_)
  have w : WdF G (fu (fSt S) a 1, fu (fDa S) a v, fLo S, fEm S, fRu S, fEr S, fSp S, fPl S, fOb S, fNn S) A s H locs := w
  refine lv_aload_n F.1 F.2.1 dX1_fillPage_14 rfl (lv_at hl 0 rfl) ?_
  refine f_gLo F w dX1_fillPage_15 ?_
  refine lv_iload_n F.1 F.2.1 dX1_fillPage_18 rfl (lv_at hl 1 rfl) ?_
  refine lv_iload_n F.1 F.2.1 dX1_fillPage_19 rfl (lv_at hl 2 rfl) ?_
  refine lv_i2b (v := nI q) F.1 F.2.1 dX1_fillPage_20 (nb_i _ (by omega)) ?_
  refine f_sLo F w q (by omega) (by omega) dX1_fillPage_21 (fun H locs w => ?_)
  have w : WdF G (fu (fSt S) a 1, fu (fDa S) a v, fu (fLo S) a q, fEm S, fRu S, fEr S, fSp S, fPl S, fOb S, fNn S) A s H locs := w
  refine lv_aload_n F.1 F.2.1 dX1_fillPage_22 rfl (lv_at hl 0 rfl) ?_
  refine f_gEm F w dX1_fillPage_23 ?_
  refine lv_iload_n F.1 F.2.1 dX1_fillPage_26 rfl (lv_at hl 1 rfl) ?_
  refine lv_iload F.1 F.2.1 dX1_fillPage_27 (lv_at hl 4 rfl) ?_
  refine f_sEm F w z (by omega) dX1_fillPage_29 (fun H locs w => ?_)
  have w : WdF G (fu (fSt S) a 1, fu (fDa S) a v, fu (fLo S) a q, fu (fEm S) a z, fRu S, fEr S, fSp S, fPl S, fOb S, fNn S) A s H locs := w
  refine lv_aload_n F.1 F.2.1 dX1_fillPage_30 rfl (lv_at hl 0 rfl) ?_
  refine f_gRu F w dX1_fillPage_31 ?_
  refine lv_iload_n F.1 F.2.1 dX1_fillPage_34 rfl (lv_at hl 1 rfl) ?_
  refine lv_aload_n F.1 F.2.1 dX1_fillPage_35 rfl (lv_at hl 0 rfl) ?_
  refine f_gNn F w dX1_fillPage_36 ?_
  refine f_sRu F w (fNn S) (by omega) dX1_fillPage_39 (fun H locs w => ?_)
  have w : WdF G (fu (fSt S) a 1, fu (fDa S) a v, fu (fLo S) a q, fu (fEm S) a z, fu (fRu S) a (fNn S), fEr S, fSp S, fPl S, fOb S, fNn S) A s H locs := w
  refine lv_aload_n F.1 F.2.1 dX1_fillPage_40 rfl (lv_at hl 0 rfl) ?_
  refine lv_dup F.1 F.2.1 dX1_fillPage_41 rfl ?_
  refine f_gNn F w dX1_fillPage_42 ?_
  refine lv_iconst (v := (nI 1)) F.1 F.2.1 dX1_fillPage_45 (by decide) ?_
  refine lv_iadd F.1 F.2.1 dX1_fillPage_46 ?_
  refine tp_i (nI_add (fNn S) 1) ?_
  refine f_pNn F w ((fNn S) + 1) dX1_fillPage_47 (fun H locs w => ?_)
  have w : WdF G (fu (fSt S) a 1, fu (fDa S) a v, fu (fLo S) a q, fu (fEm S) a z, fu (fRu S) a (fNn S), fEr S, fSp S, fPl S, fOb S, (fNn S) + 1) A s H locs := w
  refine lv_aload_n F.1 F.2.1 dX1_fillPage_50 rfl (lv_at hl 0 rfl) ?_
  refine f_gPl F w dX1_fillPage_51 ?_
  refine lv_iload_n F.1 F.2.1 dX1_fillPage_54 rfl (lv_at hl 2 rfl) ?_
  refine lv_iload_n F.1 F.2.1 dX1_fillPage_55 rfl (lv_at hl 1 rfl) ?_
  refine lv_i2b (v := nI a) F.1 F.2.1 dX1_fillPage_56 (nb_i _ (by omega)) ?_
  refine f_sPl F w (some a) (by omega) (fun j hj => by cases hj; omega) dX1_fillPage_57 (fun H locs w => ?_)
  have w : WdF G (fu (fSt S) a 1, fu (fDa S) a v, fu (fLo S) a q, fu (fEm S) a z, fu (fRu S) a (fNn S), fEr S, fSp S, fu (fPl S) q (some a), fOb S, (fNn S) + 1) A s H locs := w
  exact ret  _ _ _ _ _ (rfl) w dX1_fillPage_58
set_option maxHeartbeats 4000000 in
set_option maxRecDepth 100000 in
theorem met_empty (l : Launch) (G : FG) (S : FS) {T : TB} (hF : Fl S T) (b k : Nat) (hb : b < 8) (hk : k < 8) (hbk : b ≠ k) (hob : fOb S = some k) (he : erB S k = true) (hv3 : vc S b 4 ≤ 3) : MetGv l yX1_empty cX1_empty 4 none 1 (.ref (G.2.1 0) :: [.int (nI b)]) G.1 (tF G) (wF G) S (fun u => EmP S T b k u) := by
  refine MetGv.ofV RX1 (by decide) rfl (Nat.le_of_ble_eq_true rfl) ?_
  intro p e s m args below meth c A Q H ls F w hl ret
  have hl : lv_has ls 4 [(0, .ref (G.2.1 0)), (1, .int (nI b))] := hl
  refine lv_iconst (v := (nI 4)) F.1 F.2.1 dX1_empty_0 (by decide) ?_
  refine lv_iload_n F.1 F.2.1 dX1_empty_1 rfl (lv_at hl 1 rfl) ?_
  refine lv_imul F.1 F.2.1 dX1_empty_2 ?_
  refine tp_i (pk_mul 4 b) ?_
  refine lv_istore_n (lv' := [(2, .int (nI (4 * b))), (0, .ref (G.2.1 0)), (1, .int (nI b))]) F.1 F.2.1 dX1_empty_3 rfl hl (by decide) rfl (fun ls hl => ?_)
  have loop2 : ∀ (S1 : FS), EmI S T b k 4 S1 → ∀ (n i : Nat) (S' : FS) (H : Heap) (locs : List Loc) (ls : Array Slot), i ≤ 4 → 4 + 1 ≤ i + n → ErI S1 T b i S' → WdF G S' A s H locs → lv_has ls 4 [(0, .ref (G.2.1 0)), (1, .int (nI b)), (2, .int (nI (4 * b + i)))] → W p l e (rmD 1) s m args below meth c H locs 0 0 Q (F0 m 62 ls []) := by
    intro S1 hE n
    induction n with
    | zero =>
      intro i S' H locs ls hi hn hR w hl
      exact absurd hn (by omega)
    | succ n ih =>
      intro i S' H locs ls hi hn hR w hl
      refine lv_iload_n F.1 F.2.1 dX1_empty_62 rfl (lv_at hl 2 rfl) ?_
      refine lv_iconst (v := (nI 4)) F.1 F.2.1 dX1_empty_63 (by decide) ?_
      refine lv_iload_n F.1 F.2.1 dX1_empty_64 rfl (lv_at hl 1 rfl) ?_
      refine lv_imul F.1 F.2.1 dX1_empty_65 ?_
      refine tp_i (pk_mul 4 b) ?_
      refine lv_iconst (v := (nI 4)) F.1 F.2.1 dX1_empty_66 (by decide) ?_
      refine lv_iadd F.1 F.2.1 dX1_empty_67 ?_
      refine tp_i (nI_add (4 * b) 4) ?_
      refine b_ge (tgt := 84) F dX1_empty_68 (by decide) (by omega) (by omega) (fun c1 => ?_) (fun c1 => ?_)
      · skip
        have hi4 : i = 4 := by omega
        subst hi4
        refine lv_aload_n F.1 F.2.1 dX1_empty_84 rfl (lv_at hl 0 rfl) ?_
        refine f_gEr F w dX1_empty_85 ?_
        refine lv_iload_n F.1 F.2.1 dX1_empty_88 rfl (lv_at hl 1 rfl) ?_
        refine lv_dup2_11 F.1 F.2.1 dX1_empty_89 rfl rfl ?_
        refine f_lEr F w (by omega) dX1_empty_90 ?_
        refine lv_iconst (v := (nI 1)) F.1 F.2.1 dX1_empty_91 (by decide) ?_
        refine lv_iadd F.1 F.2.1 dX1_empty_92 ?_
        refine tp_i (y := (fEr S' b + nI 1)) (rfl) ?_
        refine f_sEr F w (fEr S' b + nI 1) (by omega) dX1_empty_93 (fun H locs w => ?_)
        have w : WdF G (fSt S', fDa S', fLo S', fEm S', fRu S', fu (fEr S') b (fEr S' b + nI 1), fSp S', fPl S', fOb S', fNn S') A s H locs := w
        exact ret  _ _ _ _ _ (EmP_i hE hR hk hbk hv3) w dX1_empty_94
      · skip
        refine lv_aload_n F.1 F.2.1 dX1_empty_71 rfl (lv_at hl 0 rfl) ?_
        refine f_gSt F w dX1_empty_72 ?_
        refine lv_iload_n F.1 F.2.1 dX1_empty_75 rfl (lv_at hl 2 rfl) ?_
        refine lv_iconst (v := (nI 0)) F.1 F.2.1 dX1_empty_76 (by decide) ?_
        refine f_sSt F w 0 (by omega) (by omega) dX1_empty_77 (fun H locs w => ?_)
        have w : WdF G (fu (fSt S') (4 * b + i) 0, fDa S', fLo S', fEm S', fRu S', fEr S', fSp S', fPl S', fOb S', fNn S') A s H locs := w
        have w : WdF G (uSt S' (fu (fSt S') (4 * b + i) 0)) A s H locs := w
        refine lv_iinc (v := (nI (4 * b + i + 1))) (lv' := [(2, .int (nI (4 * b + i + 1))), (0, .ref (G.2.1 0)), (1, .int (nI b))]) F.1 F.2.1 dX1_empty_78 hl (k := 2) rfl (ninc (4 * b + i)) (by decide) rfl (fun ls hl => ?_)
        refine lv_goto (tgt := 62) F.1 F.2.1 dX1_empty_81 (by decide) ?_
        exact ih (i + 1) _ _ _ _ (by omega) (by omega) (ErI_s hR (by omega) (EmI_no hE)) w (lv_sub hl [1, 2, 0] rfl)
  have loop1 : ∀ (n i : Nat) (S' : FS) (H : Heap) (locs : List Loc) (ls : Array Slot), i ≤ 4 → 4 + 1 ≤ i + n → EmI S T b k i S' → WdF G S' A s H locs → lv_has ls 4 [(0, .ref (G.2.1 0)), (1, .int (nI b)), (2, .int (nI (4 * b + i)))] → W p l e (rmD 1) s m args below meth c H locs 0 0 Q (F0 m 4 ls []) := by
    intro n
    induction n with
    | zero =>
      intro i S' H locs ls hi hn hI w hl
      exact absurd hn (by omega)
    | succ n ih =>
      intro i S' H locs ls hi hn hI w hl
      refine lv_iload_n F.1 F.2.1 dX1_empty_4 rfl (lv_at hl 2 rfl) ?_
      refine lv_iconst (v := (nI 4)) F.1 F.2.1 dX1_empty_5 (by decide) ?_
      refine lv_iload_n F.1 F.2.1 dX1_empty_6 rfl (lv_at hl 1 rfl) ?_
      refine lv_imul F.1 F.2.1 dX1_empty_7 ?_
      refine tp_i (pk_mul 4 b) ?_
      refine lv_iconst (v := (nI 4)) F.1 F.2.1 dX1_empty_8 (by decide) ?_
      refine lv_iadd F.1 F.2.1 dX1_empty_9 ?_
      refine tp_i (nI_add (4 * b) 4) ?_
      refine b_ge (tgt := 58) F dX1_empty_10 (by decide) (by omega) (by omega) (fun c1 => ?_) (fun c1 => ?_)
      · skip
        have hi4 : i = 4 := by omega
        subst hi4
        refine lv_iconst (v := (nI 4)) F.1 F.2.1 dX1_empty_58 (by decide) ?_
        refine lv_iload_n F.1 F.2.1 dX1_empty_59 rfl (lv_at hl 1 rfl) ?_
        refine lv_imul F.1 F.2.1 dX1_empty_60 ?_
        refine tp_i (pk_mul 4 b) ?_
        refine lv_istore_n (lv' := [(2, .int (nI (4 * b))), (0, .ref (G.2.1 0)), (1, .int (nI b))]) F.1 F.2.1 dX1_empty_61 rfl hl (by decide) rfl (fun ls hl => ?_)
        exact loop2 S' hI 5 0 S' _ _ _ (by omega) (by omega) (ErI_0 hI.1) w (lv_sub hl [1, 2, 0] rfl)
      · skip
        refine lv_aload_n F.1 F.2.1 dX1_empty_13 rfl (lv_at hl 0 rfl) ?_
        refine lv_iload_n F.1 F.2.1 dX1_empty_14 rfl (lv_at hl 2 rfl) ?_
        refine g_calli F w (met_isValid l G S' hI.1 (4 * b + i) (by omega)) rfl rfl rfl (cw_isValid F ⟨Nat.le_of_ble_eq_true rfl, Nat.le_of_ble_eq_true rfl⟩) rfl hl.1 rfl (Nat.le_of_ble_eq_true rfl) dX1_empty_15 ⟨Nat.zero_le _, Nat.zero_le _⟩ (fun r S1 H locs hp w => ?_)
        obtain ⟨rfl, rfl⟩ := hp
        refine z_ne (tgt := 24) F dX1_empty_18 (by decide) (fun c2 => ?_) (fun c2 => ?_)
        · skip
          have hF' := hI.1
          have hob' : fOb S' = some k := hI.2.1
          obtain ⟨hc4, hI2⟩ := EmI_v hI (by omega) hb hk hbk hv3 c2
          have hlo := hF'.2.1 (4 * b + i) (by omega)
          refine lv_aload_n F.1 F.2.1 dX1_empty_24 rfl (lv_at hl 0 rfl) ?_
          refine g_calli F w (met_nextInBlock l G S' hF'.1 (fun b hb => by rw [hob'] at hb; cases hb; exact hk)) rfl rfl rfl (cw_nextInBlock F ⟨Nat.le_of_ble_eq_true rfl, Nat.le_of_ble_eq_true rfl⟩) rfl hl.1 rfl (Nat.le_of_ble_eq_true rfl) dX1_empty_25 ⟨Nat.zero_le _, Nat.zero_le _⟩ (fun r S1 H locs hp w => ?_)
          obtain ⟨hp, rfl⟩ := hp
          have hr : r = nI (4 * k + vc S b i) := by
            rcases hp with ⟨-, h1⟩ | ⟨b1, i1, h1, h2, h3, h4, h5, h6⟩
            · exact absurd (hI.2.2.2.2.2.1 _ (Nat.le_refl _) hc4) (h1 k hob' _ hc4)
            · rw [hob'] at h1
              cases h1
              have e1 : i1 = vc S b i := by
                rcases Nat.lt_trichotomy i1 (vc S b i) with q | q | q
                · have := hI.2.2.2.2.1 i1 q
                  omega
                · exact q
                · exact absurd (hI.2.2.2.2.2.1 _ (Nat.le_refl _) hc4) (h5 _ q)
              rw [h6, e1]
              rfl
          subst hr
          refine lv_istore_n (lv' := [(3, .int (nI (4 * k + vc S b i))), (0, .ref (G.2.1 0)), (1, .int (nI b)), (2, .int (nI (4 * b + i)))]) F.1 F.2.1 dX1_empty_28 rfl hl (by decide) rfl (fun ls hl => ?_)
          refine lv_aload_n F.1 F.2.1 dX1_empty_29 rfl (lv_at hl 1 rfl) ?_
          refine lv_iload_n F.1 F.2.1 dX1_empty_30 rfl (lv_at hl 0 rfl) ?_
          refine lv_aload_n F.1 F.2.1 dX1_empty_31 rfl (lv_at hl 1 rfl) ?_
          refine f_gLo F w dX1_empty_32 ?_
          refine lv_iload_n F.1 F.2.1 dX1_empty_35 rfl (lv_at hl 3 rfl) ?_
          refine f_lLo F w (by omega) dX1_empty_36 ?_
          refine lv_aload_n F.1 F.2.1 dX1_empty_37 rfl (lv_at hl 1 rfl) ?_
          refine f_gDa F w dX1_empty_38 ?_
          refine lv_iload_n F.1 F.2.1 dX1_empty_41 rfl (lv_at hl 3 rfl) ?_
          refine f_lDa F w (by omega) dX1_empty_42 ?_
          refine lv_aload_n F.1 F.2.1 dX1_empty_43 rfl (lv_at hl 1 rfl) ?_
          refine f_gEm F w dX1_empty_44 ?_
          refine lv_iload_n F.1 F.2.1 dX1_empty_47 rfl (lv_at hl 3 rfl) ?_
          refine f_lEm F w (by omega) dX1_empty_48 ?_
          refine g_callv F w (met_fillPage l G S' (4 * k + vc S b i) (fLo S' (4 * b + i)) (fDa S' (4 * b + i)) (fEm S' (4 * b + i)) (by omega) hlo) rfl rfl rfl (cw_fillPage F ⟨Nat.le_of_ble_eq_true rfl, Nat.le_of_ble_eq_true rfl⟩) rfl hl.1 rfl (Nat.le_of_ble_eq_true rfl) dX1_empty_49 ⟨Nat.zero_le _, Nat.zero_le _⟩ (fun S1 H locs hp w => ?_)
          subst hp
          refine lv_iinc (v := (nI (4 * b + i + 1))) (lv' := [(2, .int (nI (4 * b + i + 1))), (3, .int (nI (4 * k + vc S b i))), (0, .ref (G.2.1 0)), (1, .int (nI b))]) F.1 F.2.1 dX1_empty_52 hl (k := 3) rfl (ninc (4 * b + i)) (by decide) rfl (fun ls hl => ?_)
          refine lv_goto (tgt := 4) F.1 F.2.1 dX1_empty_55 (by decide) ?_
          exact ih (i + 1) _ _ _ _ (by omega) (by omega) hI2 w (lv_sub hl [2, 3, 0] rfl)
        · skip
          refine lv_goto (tgt := 52) F.1 F.2.1 dX1_empty_21 (by decide) ?_
          refine lv_iinc (v := (nI (4 * b + i + 1))) (lv' := [(2, .int (nI (4 * b + i + 1))), (0, .ref (G.2.1 0)), (1, .int (nI b))]) F.1 F.2.1 dX1_empty_52 hl (k := 2) rfl (ninc (4 * b + i)) (by decide) rfl (fun ls hl => ?_)
          refine lv_goto (tgt := 4) F.1 F.2.1 dX1_empty_55 (by decide) ?_
          exact ih (i + 1) _ _ _ _ (by omega) (by omega) (EmI_n hI (by omega) c2) w (lv_sub hl [1, 2, 0] rfl)
  exact loop1 5 0 S _ _ _ (by omega) (by omega) (EmI_0 hF hob he) w (lv_sub hl [1, 2, 0] rfl)
end
section
set_option maxHeartbeats 4000000 in
set_option maxRecDepth 100000 in
theorem met_startUp (l : Launch) (G : FG) (S : FS) {T : TB} {N : Nat} (h0 : Fsh S T N) (hN : N < 2 ^ 30) : MetGv l yX1_startUp cX1_startUp 3 none 1 (.ref (G.2.1 0) :: []) G.1 (tF G) (wF G) S (fun u => Inv u T N) := by
  refine MetGv.ofV RX1 (by decide) rfl (Nat.le_of_ble_eq_true rfl) ?_
  intro p e s m args below meth c A Q H ls F w hl ret
  have hl : lv_has ls 3 [(0, .ref (G.2.1 0))] := hl
  obtain ⟨f0, o0, n0, hI⟩ := h0
  have hF := hI.1
  have hn0 : n0 ≤ N := hI.2.2
  have hn1 : 1 ≤ n0 := hF.2.2.2.2.2.1
  refine lv_aload_n F.1 F.2.1 dX1_startUp_0 rfl (lv_at hl 0 rfl) ?_
  refine lv_iconst (v := (nI 1)) F.1 F.2.1 dX1_startUp_1 (by decide) ?_
  refine f_pNn F w 1 dX1_startUp_2 (fun H locs w => ?_)
  have w : WdF G (fSt S, fDa S, fLo S, fEm S, fRu S, fEr S, fSp S, fPl S, fOb S, 1) A s H locs := w
  refine lv_aload_n F.1 F.2.1 dX1_startUp_5 rfl (lv_at hl 0 rfl) ?_
  refine lv_iconst (v := (oI none)) F.1 F.2.1 dX1_startUp_6 (by decide) ?_
  refine f_pOb F w none dX1_startUp_7 (fun H locs w => ?_)
  have w : WdF G (fSt S, fDa S, fLo S, fEm S, fRu S, fEr S, fSp S, fPl S, none, 1) A s H locs := w
  refine lv_iconst (v := (nI 0)) F.1 F.2.1 dX1_startUp_10 (by decide) ?_
  refine lv_istore_n (lv' := [(1, .int (nI 0)), (0, .ref (G.2.1 0))]) F.1 F.2.1 dX1_startUp_11 rfl hl (by decide) rfl (fun ls hl => ?_)
  have loop3 : ∀ (n i : Nat) (f : Nat → Option Nat) (ob : Option Nat) (nn : Nat) (H : Heap) (locs : List Loc) (ls : Array Slot), i ≤ 8 → 8 + 1 ≤ i + n → SuF S 32 f → SuN S 32 n0 nn → ObI S i ob → WdF G (sS S f ob nn) A s H locs → lv_has ls 3 [(0, .ref (G.2.1 0)), (1, .int (nI i))] → W p l e (rmD 1) s m args below meth c H locs 0 0 Q (F0 m 129 ls []) := by
    intro n
    induction n with
    | zero =>
      intro i f ob nn H locs ls hi hn hf hnn ho w hl
      exact absurd hn (by omega)
    | succ n ih =>
      intro i f ob nn H locs ls hi hn hf hnn ho w hl
      refine lv_iload_n F.1 F.2.1 dX1_startUp_129 rfl (lv_at hl 1 rfl) ?_
      refine lv_bipush (v := (nI 8)) F.1 F.2.1 dX1_startUp_130 (by decide) ?_
      refine b_ge (tgt := 167) F dX1_startUp_132 (by decide) (by omega) (by omega) (fun c1 => ?_) (fun c1 => ?_)
      · skip
        have hi8 : i = 8 := by omega
        subst hi8
        exact ret  _ _ _ _ _ (Su_end hI hf hnn ho) w dX1_startUp_167
      · skip
        refine lv_aload_n F.1 F.2.1 dX1_startUp_135 rfl (lv_at hl 0 rfl) ?_
        refine lv_iload_n F.1 F.2.1 dX1_startUp_136 rfl (lv_at hl 1 rfl) ?_
        refine g_calli F w (met_isErased l G (sS S f ob nn) hF.1 i (by omega)) rfl rfl rfl (cw_isErased F ⟨Nat.le_of_ble_eq_true rfl, Nat.le_of_ble_eq_true rfl⟩) rfl hl.1 rfl (Nat.le_of_ble_eq_true rfl) dX1_startUp_137 ⟨Nat.zero_le _, Nat.zero_le _⟩ (fun r S1 H locs hp w => ?_)
        obtain ⟨rfl, rfl⟩ := hp
        refine z_ne (tgt := 161) F dX1_startUp_140 (by decide) (fun c2 => ?_) (fun c2 => ?_)
        · skip
          refine lv_iinc (v := (nI (i + 1))) (lv' := [(1, .int (nI (i + 1))), (0, .ref (G.2.1 0))]) F.1 F.2.1 dX1_startUp_161 hl (k := 1) rfl (ninc i) (by decide) rfl (fun ls hl => ?_)
          refine lv_goto (tgt := 129) F.1 F.2.1 dX1_startUp_164 (by decide) ?_
          exact ih (i + 1) f ob nn _ _ _ (by omega) (by omega) hf hnn (ObI_n ho (fun q => by rw [show erB S i = true from c2] at q; cases q)) w (lv_sub hl [1, 0] rfl)
        · skip
          have hq : fSt (sS S f ob nn) (4 * i + 3) < 3 := hF.1 (4 * i + 3) (by omega)
          refine lv_aload_n F.1 F.2.1 dX1_startUp_143 rfl (lv_at hl 0 rfl) ?_
          refine f_gSt F w dX1_startUp_144 ?_
          refine lv_iconst (v := (nI 4)) F.1 F.2.1 dX1_startUp_147 (by decide) ?_
          refine lv_iload_n F.1 F.2.1 dX1_startUp_148 rfl (lv_at hl 1 rfl) ?_
          refine lv_imul F.1 F.2.1 dX1_startUp_149 ?_
          refine tp_i (pk_mul 4 i) ?_
          refine lv_iconst (v := (nI 3)) F.1 F.2.1 dX1_startUp_150 (by decide) ?_
          refine lv_iadd F.1 F.2.1 dX1_startUp_151 ?_
          refine tp_i (nI_add (4 * i) 3) ?_
          refine f_lSt F w (by omega) dX1_startUp_152 ?_
          refine n_ne (tgt := 161) F dX1_startUp_153 (by decide) (by omega) (fun c3 => ?_) (fun c3 => ?_)
          · skip
            refine lv_iinc (v := (nI (i + 1))) (lv' := [(1, .int (nI (i + 1))), (0, .ref (G.2.1 0))]) F.1 F.2.1 dX1_startUp_161 hl (k := 1) rfl (ninc i) (by decide) rfl (fun ls hl => ?_)
            refine lv_goto (tgt := 129) F.1 F.2.1 dX1_startUp_164 (by decide) ?_
            exact ih (i + 1) f ob nn _ _ _ (by omega) (by omega) hf hnn (ObI_n ho (fun _ => c3)) w (lv_sub hl [1, 0] rfl)
          · skip
            refine lv_aload_n F.1 F.2.1 dX1_startUp_156 rfl (lv_at hl 0 rfl) ?_
            refine lv_iload_n F.1 F.2.1 dX1_startUp_157 rfl (lv_at hl 1 rfl) ?_
            refine f_pOb F w (some i) dX1_startUp_158 (fun H locs w => ?_)
            have w : WdF G (fSt (sS S f ob nn), fDa (sS S f ob nn), fLo (sS S f ob nn), fEm (sS S f ob nn), fRu (sS S f ob nn), fEr (sS S f ob nn), fSp (sS S f ob nn), fPl (sS S f ob nn), some i, fNn (sS S f ob nn)) A s H locs := w
            have w : WdF G (sS S f (some i) nn) A s H locs := w
            refine lv_iinc (v := (nI (i + 1))) (lv' := [(1, .int (nI (i + 1))), (0, .ref (G.2.1 0))]) F.1 F.2.1 dX1_startUp_161 hl (k := 1) rfl (ninc i) (by decide) rfl (fun ls hl => ?_)
            refine lv_goto (tgt := 129) F.1 F.2.1 dX1_startUp_164 (by decide) ?_
            exact ih (i + 1) f (some i) nn _ _ _ (by omega) (by omega) hf hnn (ObI_w ho (by omega) c2 c3) w (lv_sub hl [1, 0] rfl)
  have loop2 : ∀ (n i : Nat) (f : Nat → Option Nat) (nn : Nat) (H : Heap) (locs : List Loc) (ls : Array Slot), i ≤ 32 → 32 + 1 ≤ i + n → SuF S i f → SuN S i n0 nn → WdF G (sS S f none nn) A s H locs → lv_has ls 3 [(0, .ref (G.2.1 0)), (1, .int (nI i))] → W p l e (rmD 1) s m args below meth c H locs 0 0 Q (F0 m 33 ls []) := by
    intro n
    induction n with
    | zero =>
      intro i f nn H locs ls hi hn hf hnn w hl
      exact absurd hn (by omega)
    | succ n ih =>
      intro i f nn H locs ls hi hn hf hnn w hl
      have hnN := hnn.2.2
      refine lv_iload_n F.1 F.2.1 dX1_startUp_33 rfl (lv_at hl 1 rfl) ?_
      refine lv_bipush (v := (nI 32)) F.1 F.2.1 dX1_startUp_34 (by decide) ?_
      refine b_ge (tgt := 127) F dX1_startUp_36 (by decide) (by omega) (by omega) (fun c1 => ?_) (fun c1 => ?_)
      · skip
        have hi32 : i = 32 := by omega
        subst hi32
        refine lv_iconst (v := (nI 0)) F.1 F.2.1 dX1_startUp_127 (by decide) ?_
        refine lv_istore_n (lv' := [(1, .int (nI 0)), (0, .ref (G.2.1 0))]) F.1 F.2.1 dX1_startUp_128 rfl hl (by decide) rfl (fun ls hl => ?_)
        exact loop3 9 0 f none nn _ _ _ (by omega) (by omega) hf hnn ObI_0 w (lv_sub hl [1, 0] rfl)
      · skip
        have hq : fSt (sS S f none nn) i < 3 := hF.1 i (by omega)
        refine lv_aload_n F.1 F.2.1 dX1_startUp_39 rfl (lv_at hl 0 rfl) ?_
        refine f_gSt F w dX1_startUp_40 ?_
        refine lv_iload_n F.1 F.2.1 dX1_startUp_43 rfl (lv_at hl 1 rfl) ?_
        refine f_lSt F w (by omega) dX1_startUp_44 ?_
        refine lv_iconst (v := (nI 1)) F.1 F.2.1 dX1_startUp_45 (by decide) ?_
        refine b_eq (tgt := 52) F dX1_startUp_46 (by decide) (by omega) (by omega) (fun c2 => ?_) (fun c2 => ?_)
        · skip
          have c2 : fSt S i = 1 := c2
          have hlo : fLo (sS S f none nn) i < 12 := hF.2.1 i (by omega)
          have hru : fRu S i < n0 := hF.2.2.2.2.1 i (by omega) c2
          refine lv_aload_n F.1 F.2.1 dX1_startUp_52 rfl (lv_at hl 0 rfl) ?_
          refine f_gLo F w dX1_startUp_53 ?_
          refine lv_iload_n F.1 F.2.1 dX1_startUp_56 rfl (lv_at hl 1 rfl) ?_
          refine f_lLo F w (by omega) dX1_startUp_57 ?_
          refine lv_istore_n (lv' := [(2, .int (nI (fLo (sS S f none nn) i))), (0, .ref (G.2.1 0)), (1, .int (nI i))]) F.1 F.2.1 dX1_startUp_58 rfl hl (by decide) rfl (fun ls hl => ?_)
          have half : ∀ (f' : Nat → Option Nat) (H : Heap) (locs : List Loc), SuF S (i + 1) f' → WdF G (sS S f' none nn) A s H locs → W p l e (rmD 1) s m args below meth c H locs 0 0 Q (F0 m 96 ls []) := by
            intro f' H locs hf' w
            have hrb : fRu (sS S f' none nn) i < 2 ^ 31 := by show fRu S i < 2 ^ 31; omega
            have hnb : fNn (sS S f' none nn) < 2 ^ 31 := by show nn < 2 ^ 31; omega
            refine lv_aload_n F.1 F.2.1 dX1_startUp_96 rfl (lv_at hl 1 rfl) ?_
            refine f_gRu F w dX1_startUp_97 ?_
            refine lv_iload_n F.1 F.2.1 dX1_startUp_100 rfl (lv_at hl 2 rfl) ?_
            refine f_lRu F w (by omega) dX1_startUp_101 ?_
            refine lv_aload_n F.1 F.2.1 dX1_startUp_102 rfl (lv_at hl 1 rfl) ?_
            refine f_gNn F w dX1_startUp_103 ?_
            refine b_lt (tgt := 121) F dX1_startUp_106 (by decide) (by omega) (by omega) (fun c5 => ?_) (fun c5 => ?_)
            · skip
              refine lv_iinc (v := (nI (i + 1))) (lv' := [(1, .int (nI (i + 1))), (2, .int (nI (fLo (sS S f none nn) i))), (0, .ref (G.2.1 0))]) F.1 F.2.1 dX1_startUp_121 hl (k := 2) rfl (ninc i) (by decide) rfl (fun ls hl => ?_)
              refine lv_goto (tgt := 33) F.1 F.2.1 dX1_startUp_124 (by decide) ?_
              exact ih (i + 1) f' nn _ _ _ (by omega) (by omega) hf' (SuN_k hnn c5) w (lv_sub hl [2, 0] rfl)
            · skip
              refine lv_aload_n F.1 F.2.1 dX1_startUp_109 rfl (lv_at hl 1 rfl) ?_
              refine lv_aload_n F.1 F.2.1 dX1_startUp_110 rfl (lv_at hl 1 rfl) ?_
              refine f_gRu F w dX1_startUp_111 ?_
              refine lv_iload_n F.1 F.2.1 dX1_startUp_114 rfl (lv_at hl 2 rfl) ?_
              refine f_lRu F w (by omega) dX1_startUp_115 ?_
              refine lv_iconst (v := (nI 1)) F.1 F.2.1 dX1_startUp_116 (by decide) ?_
              refine lv_iadd F.1 F.2.1 dX1_startUp_117 ?_
              refine tp_i (nI_add (fRu (sS S f' none nn) i) 1) ?_
              refine f_pNn F w ((fRu (sS S f' none nn) i) + 1) dX1_startUp_118 (fun H locs w => ?_)
              have w : WdF G (fSt (sS S f' none nn), fDa (sS S f' none nn), fLo (sS S f' none nn), fEm (sS S f' none nn), fRu (sS S f' none nn), fEr (sS S f' none nn), fSp (sS S f' none nn), fPl (sS S f' none nn), fOb (sS S f' none nn), (fRu (sS S f' none nn) i) + 1) A s H locs := w
              have w : WdF G (sS S f' none (fRu S i + 1)) A s H locs := w
              refine lv_iinc (v := (nI (i + 1))) (lv' := [(1, .int (nI (i + 1))), (2, .int (nI (fLo (sS S f none nn) i))), (0, .ref (G.2.1 0))]) F.1 F.2.1 dX1_startUp_121 hl (k := 2) rfl (ninc i) (by decide) rfl (fun ls hl => ?_)
              refine lv_goto (tgt := 33) F.1 F.2.1 dX1_startUp_124 (by decide) ?_
              exact ih (i + 1) f' (fRu S i + 1) _ _ _ (by omega) (by omega) hf' (SuN_w hnn c5 hru) w (lv_sub hl [2, 0] rfl)
          refine lv_aload_n F.1 F.2.1 dX1_startUp_59 rfl (lv_at hl 1 rfl) ?_
          refine f_gPl F w dX1_startUp_60 ?_
          refine lv_iload_n F.1 F.2.1 dX1_startUp_63 rfl (lv_at hl 0 rfl) ?_
          refine f_lPl F w (by omega) dX1_startUp_64 ?_
          refine o_lt (tgt := 88) F dX1_startUp_65 (by decide) (fun k hk => by have := (hf.1 _ k hlo hk).1; omega) (fun c3 => ?_) (fun k c3 => ?_)
          · skip
            refine lv_aload_n F.1 F.2.1 dX1_startUp_88 rfl (lv_at hl 1 rfl) ?_
            refine f_gPl F w dX1_startUp_89 ?_
            refine lv_iload_n F.1 F.2.1 dX1_startUp_92 rfl (lv_at hl 0 rfl) ?_
            refine lv_iload_n F.1 F.2.1 dX1_startUp_93 rfl (lv_at hl 2 rfl) ?_
            refine lv_i2b (v := nI i) F.1 F.2.1 dX1_startUp_94 (nb_i _ (by omega)) ?_
            refine f_sPl F w (some i) (by omega) (fun j hj => by cases hj; omega) dX1_startUp_95 (fun H locs w => ?_)
            have w : WdF G (fSt (sS S f none nn), fDa (sS S f none nn), fLo (sS S f none nn), fEm (sS S f none nn), fRu (sS S f none nn), fEr (sS S f none nn), fSp (sS S f none nn), fu (fPl (sS S f none nn)) (fLo (sS S f none nn) i) (some i), fOb (sS S f none nn), fNn (sS S f none nn)) A s H locs := w
            have w : WdF G (sS S (fu f (fLo S i) (some i)) none nn) A s H locs := w
            exact half (fu f (fLo S i) (some i)) _ _ (SuF_w hf c2 (fun k hk => by rw [show f (fLo S i) = none from c3] at hk; cases hk)) w
          · skip
            have c3 : f (fLo S i) = some k := c3
            obtain ⟨k1, k2, k3⟩ := hf.1 _ k hlo c3
            have hrk : fRu S k < n0 := hF.2.2.2.2.1 k (by omega) k2
            have hrb : fRu (sS S f none nn) i < 2 ^ 31 := by show fRu S i < 2 ^ 31; omega
            have hrc : fRu (sS S f none nn) k < 2 ^ 31 := by show fRu S k < 2 ^ 31; omega
            refine lv_aload_n F.1 F.2.1 dX1_startUp_68 rfl (lv_at hl 1 rfl) ?_
            refine f_gRu F w dX1_startUp_69 ?_
            refine lv_iload_n F.1 F.2.1 dX1_startUp_72 rfl (lv_at hl 2 rfl) ?_
            refine f_lRu F w (by omega) dX1_startUp_73 ?_
            refine lv_aload_n F.1 F.2.1 dX1_startUp_74 rfl (lv_at hl 1 rfl) ?_
            refine f_gRu F w dX1_startUp_75 ?_
            refine lv_aload_n F.1 F.2.1 dX1_startUp_78 rfl (lv_at hl 1 rfl) ?_
            refine f_gPl F w dX1_startUp_79 ?_
            refine lv_iload_n F.1 F.2.1 dX1_startUp_82 rfl (lv_at hl 0 rfl) ?_
            refine f_lPl F w (by omega) dX1_startUp_83 ?_
            refine tp_i (y := nI k) (by rw [show fPl (sS S f none nn) (fLo (sS S f none nn) i) = some k from c3]; rfl) ?_
            refine f_lRu F w (by omega) dX1_startUp_84 ?_
            refine b_le (tgt := 96) F dX1_startUp_85 (by decide) (by omega) (by omega) (fun c4 => ?_) (fun c4 => ?_)
            · skip
              exact half f _ _ (SuF_k hf c3 c4) w
            · skip
              refine lv_aload_n F.1 F.2.1 dX1_startUp_88 rfl (lv_at hl 1 rfl) ?_
              refine f_gPl F w dX1_startUp_89 ?_
              refine lv_iload_n F.1 F.2.1 dX1_startUp_92 rfl (lv_at hl 0 rfl) ?_
              refine lv_iload_n F.1 F.2.1 dX1_startUp_93 rfl (lv_at hl 2 rfl) ?_
              refine lv_i2b (v := nI i) F.1 F.2.1 dX1_startUp_94 (nb_i _ (by omega)) ?_
              refine f_sPl F w (some i) (by omega) (fun j hj => by cases hj; omega) dX1_startUp_95 (fun H locs w => ?_)
              have w : WdF G (fSt (sS S f none nn), fDa (sS S f none nn), fLo (sS S f none nn), fEm (sS S f none nn), fRu (sS S f none nn), fEr (sS S f none nn), fSp (sS S f none nn), fu (fPl (sS S f none nn)) (fLo (sS S f none nn) i) (some i), fOb (sS S f none nn), fNn (sS S f none nn)) A s H locs := w
              have w : WdF G (sS S (fu f (fLo S i) (some i)) none nn) A s H locs := w
              exact half (fu f (fLo S i) (some i)) _ _ (SuF_w hf c2 (fun k' hk => by rw [c3] at hk; cases hk; exact c4)) w
        · skip
          refine lv_goto (tgt := 121) F.1 F.2.1 dX1_startUp_49 (by decide) ?_
          refine lv_iinc (v := (nI (i + 1))) (lv' := [(1, .int (nI (i + 1))), (0, .ref (G.2.1 0))]) F.1 F.2.1 dX1_startUp_121 hl (k := 1) rfl (ninc i) (by decide) rfl (fun ls hl => ?_)
          refine lv_goto (tgt := 33) F.1 F.2.1 dX1_startUp_124 (by decide) ?_
          exact ih (i + 1) f nn _ _ _ (by omega) (by omega) (SuF_n hf c2) (SuN_n hnn c2) w (lv_sub hl [1, 0] rfl)
  have loop1 : ∀ (n i : Nat) (f : Nat → Option Nat) (H : Heap) (locs : List Loc) (ls : Array Slot), i ≤ 12 → 12 + 1 ≤ i + n → (∀ q, q < i → f q = none) → WdF G (sS S f none 1) A s H locs → lv_has ls 3 [(0, .ref (G.2.1 0)), (1, .int (nI i))] → W p l e (rmD 1) s m args below meth c H locs 0 0 Q (F0 m 12 ls []) := by
    intro n
    induction n with
    | zero =>
      intro i f H locs ls hi hn hf w hl
      exact absurd hn (by omega)
    | succ n ih =>
      intro i f H locs ls hi hn hf w hl
      refine lv_iload_n F.1 F.2.1 dX1_startUp_12 rfl (lv_at hl 1 rfl) ?_
      refine lv_bipush (v := (nI 12)) F.1 F.2.1 dX1_startUp_13 (by decide) ?_
      refine b_ge (tgt := 31) F dX1_startUp_15 (by decide) (by omega) (by omega) (fun c1 => ?_) (fun c1 => ?_)
      · skip
        have hi12 : i = 12 := by omega
        subst hi12
        refine lv_iconst (v := (nI 0)) F.1 F.2.1 dX1_startUp_31 (by decide) ?_
        refine lv_istore_n (lv' := [(1, .int (nI 0)), (0, .ref (G.2.1 0))]) F.1 F.2.1 dX1_startUp_32 rfl hl (by decide) rfl (fun ls hl => ?_)
        exact loop2 33 0 f 1 _ _ _ (by omega) (by omega) (SuF_0 hf) ⟨Nat.le_refl _, fun a ha => absurd ha (Nat.not_lt_zero _), hn1⟩ w (lv_sub hl [1, 0] rfl)
      · skip
        refine lv_aload_n F.1 F.2.1 dX1_startUp_18 rfl (lv_at hl 0 rfl) ?_
        refine f_gPl F w dX1_startUp_19 ?_
        refine lv_iload_n F.1 F.2.1 dX1_startUp_22 rfl (lv_at hl 1 rfl) ?_
        refine lv_iconst (v := (oI none)) F.1 F.2.1 dX1_startUp_23 (by decide) ?_
        refine f_sPl F w none (by omega) (fun j hj => by cases hj) dX1_startUp_24 (fun H locs w => ?_)
        have w : WdF G (fSt (sS S f none 1), fDa (sS S f none 1), fLo (sS S f none 1), fEm (sS S f none 1), fRu (sS S f none 1), fEr (sS S f none 1), fSp (sS S f none 1), fu (fPl (sS S f none 1)) i none, fOb (sS S f none 1), fNn (sS S f none 1)) A s H locs := w
        have w : WdF G (sS S (fu f i none) none 1) A s H locs := w
        refine lv_iinc (v := (nI (i + 1))) (lv' := [(1, .int (nI (i + 1))), (0, .ref (G.2.1 0))]) F.1 F.2.1 dX1_startUp_25 hl (k := 1) rfl (ninc i) (by decide) rfl (fun ls hl => ?_)
        refine lv_goto (tgt := 12) F.1 F.2.1 dX1_startUp_28 (by decide) ?_
        exact ih (i + 1) (fu f i none) _ _ _ (by omega) (by omega) (fun q hq => by
            by_cases e : q = i
            · rw [e, fu_s]
            · rw [fu_n e]; exact hf q (by omega)) w (lv_sub hl [1, 0] rfl)
  have w : WdF G (sS S (fPl S) none 1) A s H locs := w
  exact loop1 13 0 (fPl S) _ _ _ (by omega) (by omega) (fun q hq => absurd hq (Nat.not_lt_zero _)) w (lv_sub hl [1, 0] rfl)
end
section
set_option maxHeartbeats 4000000 in
set_option maxRecDepth 100000 in
theorem met_freshPage (l : Launch) (G : FG) (S : FS) {T : TB} {N : Nat} (hI : Inv S T N) (hN : N < 2 ^ 30) : MetGi l yX1_freshPage cX1_freshPage 4 (some .int) 3 (.ref (G.2.1 0) :: []) G.1 (tF G) (wF G) S (fun r u => FrP T (N + 4) r u) := by
  refine MetGi.ofI RX1 (by decide) rfl (Nat.le_of_ble_eq_true rfl) ?_
  intro p e s m args below meth c A Q H ls F w hl ret
  have hl : lv_has ls 4 [(0, .ref (G.2.1 0))] := hl
  have hF := hI.1
  obtain ⟨g1, g2, g3, g4, g5, g6⟩ := hI.2.1
  refine lv_aload_n F.1 F.2.1 dX1_freshPage_0 rfl (lv_at hl 0 rfl) ?_
  refine g_calli F w (met_nextInBlock l G S hF.1 g3) rfl rfl rfl (cw_nextInBlock F ⟨Nat.le_of_ble_eq_true rfl, Nat.le_of_ble_eq_true rfl⟩) rfl hl.1 rfl (Nat.le_of_ble_eq_true rfl) dX1_freshPage_1 ⟨Nat.zero_le _, Nat.zero_le _⟩ (fun r S1 H locs hp w => ?_)
  obtain ⟨hp, rfl⟩ := hp
  rcases hp with ⟨rfl, hfull⟩ | ⟨b, i, h1, h2, h3, h4, h5, rfl⟩
  · skip
    refine lv_istore_n (lv' := [(1, .int (oI none)), (0, .ref (G.2.1 0))]) F.1 F.2.1 dX1_freshPage_4 rfl hl (by decide) rfl (fun ls hl => ?_)
    refine lv_iload_n F.1 F.2.1 dX1_freshPage_5 rfl (lv_at hl 0 rfl) ?_
    refine o_lt (tgt := 11) F dX1_freshPage_6 (by decide) (fun k hk => by cases hk) (fun c1 => ?_) (fun k c1 => ?_)
    · skip
      refine lv_aload_n F.1 F.2.1 dX1_freshPage_11 rfl (lv_at hl 1 rfl) ?_
      refine g_calli F w (met_freeBlocks l G S hF.1) rfl rfl rfl (cw_freeBlocks F ⟨Nat.le_of_ble_eq_true rfl, Nat.le_of_ble_eq_true rfl⟩) rfl hl.1 rfl (Nat.le_of_ble_eq_true rfl) dX1_freshPage_12 ⟨Nat.zero_le _, Nat.zero_le _⟩ (fun r S1 H locs hp w => ?_)
      obtain ⟨rfl, rfl⟩ := hp
      have hc8 := cntE_le S 8
      refine lv_aload_n F.1 F.2.1 dX1_freshPage_15 rfl (lv_at hl 1 rfl) ?_
      refine f_gSp F w dX1_freshPage_16 ?_
      refine b_le (tgt := 26) F dX1_freshPage_19 (by decide) (by omega) (by omega) (fun c2 => ?_) (fun c2 => ?_)
      · skip
        refine lv_iconst (v := (bI false)) F.1 F.2.1 dX1_freshPage_26 (by decide) ?_
        refine lv_istore_n (lv' := [(2, .int (bI false)), (1, .int (oI none)), (0, .ref (G.2.1 0))]) F.1 F.2.1 dX1_freshPage_27 rfl hl (by decide) rfl (fun ls hl => ?_)
        refine lv_iload_n F.1 F.2.1 dX1_freshPage_28 rfl (lv_at hl 0 rfl) ?_
        refine z_eq (tgt := 36) F dX1_freshPage_29 (by decide) (fun c3 => ?_) (fun c3 => ?_)
        · skip
          refine lv_aload_n F.1 F.2.1 dX1_freshPage_36 rfl (lv_at hl 2 rfl) ?_
          refine g_calli F w (met_leastValidBlock l G S hF) rfl rfl rfl (cw_leastValidBlock F ⟨Nat.le_of_ble_eq_true rfl, Nat.le_of_ble_eq_true rfl⟩) rfl hl.1 rfl (Nat.le_of_ble_eq_true rfl) dX1_freshPage_37 ⟨Nat.zero_le _, Nat.zero_le _⟩ (fun r S1 H locs hp w => ?_)
          obtain ⟨ov, fv, rfl, hLv, rfl⟩ := hp
          obtain ⟨v, rfl, hv8, hve, hv3⟩ := LvI_end hLv hF.2.1 (by omega)
          refine tp_i (x := oI (some v)) (y := nI v) rfl ?_
          refine lv_istore_n (lv' := [(3, .int (nI v)), (2, .int (bI false)), (1, .int (oI none)), (0, .ref (G.2.1 0))]) F.1 F.2.1 dX1_freshPage_40 rfl hl (by decide) rfl (fun ls hl => ?_)
          refine lv_aload_n F.1 F.2.1 dX1_freshPage_41 rfl (lv_at hl 3 rfl) ?_
          refine lv_aload_n F.1 F.2.1 dX1_freshPage_42 rfl (lv_at hl 3 rfl) ?_
          refine g_calli F w (met_leastWornFreeBlock l G S hF.1) rfl rfl rfl (cw_leastWornFreeBlock F ⟨Nat.le_of_ble_eq_true rfl, Nat.le_of_ble_eq_true rfl⟩) rfl hl.1 rfl (Nat.le_of_ble_eq_true rfl) dX1_freshPage_43 ⟨Nat.zero_le _, Nat.zero_le _⟩ (fun r S1 H locs hp w => ?_)
          obtain ⟨ow, rfl, hLw, rfl⟩ := hp
          obtain ⟨b0, hb0, hb1, -⟩ := g4
          obtain ⟨k, rfl⟩ : ∃ k, ow = some k := by
            cases ow with
            | none => exact absurd (hLw.1 rfl b0 hb0) (by rw [hb1]; decide)
            | some k => exact ⟨k, rfl⟩
          obtain ⟨hk8, hke⟩ := hLw.2 k rfl
          have hvk : v ≠ k := fun q => by rw [q, hke] at hve; cases hve
          refine f_pOb F w (some k) dX1_freshPage_46 (fun H locs w => ?_)
          have w : WdF G (fSt S, fDa S, fLo S, fEm S, fRu S, fEr S, fSp S, fPl S, some k, fNn S) A s H locs := w
          have w : WdF G (uOb S (some k)) A s H locs := w
          refine lv_iload_n F.1 F.2.1 dX1_freshPage_49 rfl (lv_at hl 1 rfl) ?_
          refine z_ne (tgt := 58) F dX1_freshPage_50 (by decide) (fun c4 => ?_) (fun c4 => ?_)
          · skip
            cases c4
          · skip
            refine lv_aload_n F.1 F.2.1 dX1_freshPage_53 rfl (lv_at hl 3 rfl) ?_
            refine lv_iload_n F.1 F.2.1 dX1_freshPage_54 rfl (lv_at hl 0 rfl) ?_
            refine g_callv F w (met_empty l G (uOb S (some k)) hF v k hv8 hk8 hvk rfl hke hv3) rfl rfl rfl (cw_empty F ⟨Nat.le_of_ble_eq_true rfl, Nat.le_of_ble_eq_true rfl⟩) rfl hl.1 rfl (Nat.le_of_ble_eq_true rfl) dX1_freshPage_55 ⟨Nat.zero_le _, Nat.zero_le _⟩ (fun S1 H locs hp w => ?_)
            have hI2 := fr_C hI hfull hv8 hk8 hvk hp
            obtain ⟨kk, e1, e2, e3, e4, e5, e6, e7, e8, e9⟩ := hp
            refine lv_aload_n F.1 F.2.1 dX1_freshPage_58 rfl (lv_at hl 3 rfl) ?_
            refine g_calli F w (met_nextInBlock l G S1 e2.1 hI2.2.1.2.2.1) rfl rfl rfl (cw_nextInBlock F ⟨Nat.le_of_ble_eq_true rfl, Nat.le_of_ble_eq_true rfl⟩) rfl hl.1 rfl (Nat.le_of_ble_eq_true rfl) dX1_freshPage_59 ⟨Nat.zero_le _, Nat.zero_le _⟩ (fun r S2 H locs hp w => ?_)
            obtain ⟨hp, rfl⟩ := hp
            exact ret _ _ _ _ _ _ (FrP_i hI2 hp e3 (z := 3) (by omega) (e8 3 e1 (by omega))) w dX1_freshPage_62
        · skip
          cases c3
      · skip
        refine lv_iconst (v := (bI true)) F.1 F.2.1 dX1_freshPage_22 (by decide) ?_
        refine lv_goto (tgt := 27) F.1 F.2.1 dX1_freshPage_23 (by decide) ?_
        refine lv_istore_n (lv' := [(2, .int (bI true)), (1, .int (oI none)), (0, .ref (G.2.1 0))]) F.1 F.2.1 dX1_freshPage_27 rfl hl (by decide) rfl (fun ls hl => ?_)
        refine lv_iload_n F.1 F.2.1 dX1_freshPage_28 rfl (lv_at hl 0 rfl) ?_
        refine z_eq (tgt := 36) F dX1_freshPage_29 (by decide) (fun c3 => ?_) (fun c3 => ?_)
        · skip
          cases c3
        · skip
          refine lv_iconst (v := (oI none)) F.1 F.2.1 dX1_freshPage_32 (by decide) ?_
          refine lv_goto (tgt := 40) F.1 F.2.1 dX1_freshPage_33 (by decide) ?_
          refine lv_istore_n (lv' := [(3, .int (oI none)), (2, .int (bI true)), (1, .int (oI none)), (0, .ref (G.2.1 0))]) F.1 F.2.1 dX1_freshPage_40 rfl hl (by decide) rfl (fun ls hl => ?_)
          refine lv_aload_n F.1 F.2.1 dX1_freshPage_41 rfl (lv_at hl 3 rfl) ?_
          refine lv_aload_n F.1 F.2.1 dX1_freshPage_42 rfl (lv_at hl 3 rfl) ?_
          refine g_calli F w (met_leastWornFreeBlock l G S hF.1) rfl rfl rfl (cw_leastWornFreeBlock F ⟨Nat.le_of_ble_eq_true rfl, Nat.le_of_ble_eq_true rfl⟩) rfl hl.1 rfl (Nat.le_of_ble_eq_true rfl) dX1_freshPage_43 ⟨Nat.zero_le _, Nat.zero_le _⟩ (fun r S1 H locs hp w => ?_)
          obtain ⟨ow, rfl, hLw, rfl⟩ := hp
          obtain ⟨b0, hb0, hb1, -⟩ := g4
          obtain ⟨k, rfl⟩ : ∃ k, ow = some k := by
            cases ow with
            | none => exact absurd (hLw.1 rfl b0 hb0) (by rw [hb1]; decide)
            | some k => exact ⟨k, rfl⟩
          obtain ⟨hk8, hke⟩ := hLw.2 k rfl
          refine f_pOb F w (some k) dX1_freshPage_46 (fun H locs w => ?_)
          have w : WdF G (fSt S, fDa S, fLo S, fEm S, fRu S, fEr S, fSp S, fPl S, some k, fNn S) A s H locs := w
          have w : WdF G (uOb S (some k)) A s H locs := w
          refine lv_iload_n F.1 F.2.1 dX1_freshPage_49 rfl (lv_at hl 1 rfl) ?_
          refine z_ne (tgt := 58) F dX1_freshPage_50 (by decide) (fun c4 => ?_) (fun c4 => ?_)
          · skip
            have hI2 := fr_B hI hfull c2 hk8
            refine lv_aload_n F.1 F.2.1 dX1_freshPage_58 rfl (lv_at hl 3 rfl) ?_
            refine g_calli F w (met_nextInBlock l G (uOb S (some k)) hF.1 hI2.2.1.2.2.1) rfl rfl rfl (cw_nextInBlock F ⟨Nat.le_of_ble_eq_true rfl, Nat.le_of_ble_eq_true rfl⟩) rfl hl.1 rfl (Nat.le_of_ble_eq_true rfl) dX1_freshPage_59 ⟨Nat.zero_le _, Nat.zero_le _⟩ (fun r S1 H locs hp w => ?_)
            obtain ⟨hp, rfl⟩ := hp
            exact ret _ _ _ _ _ _ (FrP_i (hI2.mono (by omega)) hp rfl (z := 0) (by omega) (erB_t hke 0 (by omega))) w dX1_freshPage_62
          · skip
            cases c4
    · skip
      cases c1
  · skip
    refine lv_istore_n (lv' := [(1, .int (oI (some (4 * b + i)))), (0, .ref (G.2.1 0))]) F.1 F.2.1 dX1_freshPage_4 rfl hl (by decide) rfl (fun ls hl => ?_)
    refine lv_iload_n F.1 F.2.1 dX1_freshPage_5 rfl (lv_at hl 0 rfl) ?_
    refine o_lt (tgt := 11) F dX1_freshPage_6 (by decide) (fun k hk => by cases hk; omega) (fun c1 => ?_) (fun k c1 => ?_)
    · skip
      cases c1
    · skip
      refine lv_iload_n F.1 F.2.1 dX1_freshPage_9 rfl (lv_at hl 0 rfl) ?_
      exact ret _ _ _ _ _ _ (⟨b, i, h2, h3, rfl, hI.mono (by omega), h1, h4, h5⟩) w dX1_freshPage_10
set_option maxHeartbeats 4000000 in
set_option maxRecDepth 100000 in
theorem met_program (l : Launch) (G : FG) (S : FS) {T : TB} {N : Nat} (hI : Inv S T N) (hN : N < 2 ^ 30) (q : Nat) (hq : q < 12) (v : Int32) (z : Bool) : MetGv l yX1_program cX1_program 5 none 4 (.ref (G.2.1 0) :: [.int (nI q), .int v, .int (bI z)]) G.1 (tF G) (wF G) S (fun u => Inv u (fu T q (if z = true then none else some v)) (N + 5)) := by
  refine MetGv.ofV RX1 (by decide) rfl (Nat.le_of_ble_eq_true rfl) ?_
  intro p e s m args below meth c A Q H ls F w hl ret
  have hl : lv_has ls 5 [(0, .ref (G.2.1 0)), (1, .int (nI q)), (2, .int v), (3, .int (bI z))] := hl
  refine lv_aload_n F.1 F.2.1 dX1_program_0 rfl (lv_at hl 0 rfl) ?_
  refine g_calli F w (met_freshPage l G S hI hN) rfl rfl rfl (cw_freshPage F ⟨Nat.le_of_ble_eq_true rfl, Nat.le_of_ble_eq_true rfl⟩) rfl hl.1 rfl (Nat.le_of_ble_eq_true rfl) dX1_program_1 ⟨Nat.zero_le _, Nat.zero_le _⟩ (fun r S1 H locs hp w => ?_)
  obtain ⟨k, i, hk, hi, rfl, hI1, h1, h2, h3⟩ := hp
  refine lv_istore (lv' := [(4, .int (nI (4 * k + i))), (0, .ref (G.2.1 0)), (1, .int (nI q)), (2, .int v), (3, .int (bI z))]) F.1 F.2.1 dX1_program_4 hl (by decide) rfl (fun ls hl => ?_)
  refine lv_aload_n F.1 F.2.1 dX1_program_6 rfl (lv_at hl 1 rfl) ?_
  refine lv_iload F.1 F.2.1 dX1_program_7 (lv_at hl 0 rfl) ?_
  refine lv_iload_n F.1 F.2.1 dX1_program_9 rfl (lv_at hl 2 rfl) ?_
  refine lv_iload_n F.1 F.2.1 dX1_program_10 rfl (lv_at hl 3 rfl) ?_
  refine lv_iload_n F.1 F.2.1 dX1_program_11 rfl (lv_at hl 4 rfl) ?_
  refine g_callv F w (met_fillPage l G S1 (4 * k + i) q v z (by omega) hq) rfl rfl rfl (cw_fillPage F ⟨Nat.le_of_ble_eq_true rfl, Nat.le_of_ble_eq_true rfl⟩) rfl hl.1 rfl (Nat.le_of_ble_eq_true rfl) dX1_program_12 ⟨Nat.zero_le _, Nat.zero_le _⟩ (fun S2 H locs hp w => ?_)
  subst hp
  exact ret  _ _ _ _ _ (FrP_fill hI1 hk hi h1 h2 h3 hq) w dX1_program_15
end
section
set_option maxHeartbeats 4000000 in
set_option maxRecDepth 100000 in
theorem met_write (l : Launch) (G : FG) (S : FS) {T : TB} {N : Nat} (hI : Inv S T N) (hN : N < 2 ^ 30) (q v : Int32) : MetGi l yX1_write cX1_write 4 (some .int) 5 (.ref (G.2.1 0) :: [.int q, .int v]) G.1 (tF G) (wF G) S (fun r u => r = wrA T q ∧ Inv u (wrT T q (some v)) (N + 5)) := by
  refine MetGi.ofI RX1 (by decide) rfl (Nat.le_of_ble_eq_true rfl) ?_
  intro p e s m args below meth c A Q H ls F w hl ret
  have hl : lv_has ls 4 [(0, .ref (G.2.1 0)), (1, .int q), (2, .int v)] := hl
  refine lv_aload_n F.1 F.2.1 dX1_write_0 rfl (lv_at hl 0 rfl) ?_
  refine lv_iload_n F.1 F.2.1 dX1_write_1 rfl (lv_at hl 1 rfl) ?_
  refine g_calli F w (met_isPage l G S q) rfl rfl rfl (cw_isPage F ⟨Nat.le_of_ble_eq_true rfl, Nat.le_of_ble_eq_true rfl⟩) rfl hl.1 rfl (Nat.le_of_ble_eq_true rfl) dX1_write_2 ⟨Nat.zero_le _, Nat.zero_le _⟩ (fun r S1 H locs hp w => ?_)
  obtain ⟨rfl, rfl⟩ := hp
  refine z_ne (tgt := 10) F dX1_write_5 (by decide) (fun c1 => ?_) (fun c1 => ?_)
  · skip
    obtain ⟨j, hj, rfl⟩ := isPg_t c1
    refine lv_aload_n F.1 F.2.1 dX1_write_10 rfl (lv_at hl 0 rfl) ?_
    refine lv_iload_n F.1 F.2.1 dX1_write_11 rfl (lv_at hl 1 rfl) ?_
    refine g_calli F w (met_has l G S hI.1 (nI j)) rfl rfl rfl (cw_has F ⟨Nat.le_of_ble_eq_true rfl, Nat.le_of_ble_eq_true rfl⟩) rfl hl.1 rfl (Nat.le_of_ble_eq_true rfl) dX1_write_12 ⟨Nat.zero_le _, Nat.zero_le _⟩ (fun r S1 H locs hp w => ?_)
    obtain ⟨rfl, rfl⟩ := hp
    rw [hasT_n hj]
    have rest : ∀ (H : Heap) (locs : List Loc) (ls : Array Slot), WdF G S A s H locs → lv_has ls 4 [(0, .ref (G.2.1 0)), (1, .int (nI j)), (2, .int v)] → W p l e (rmD 5) s m args below meth c H locs 0 0 Q (F0 m 23 ls [.int (bI (T j).isSome)]) := by
      intro H locs ls w hl
      refine lv_istore_n (lv' := [(3, .int (bI ((T j).isSome))), (0, .ref (G.2.1 0)), (1, .int (nI j)), (2, .int v)]) F.1 F.2.1 dX1_write_23 rfl hl (by decide) rfl (fun ls hl => ?_)
      refine lv_aload_n F.1 F.2.1 dX1_write_24 rfl (lv_at hl 1 rfl) ?_
      refine lv_iload_n F.1 F.2.1 dX1_write_25 rfl (lv_at hl 2 rfl) ?_
      refine lv_iload_n F.1 F.2.1 dX1_write_26 rfl (lv_at hl 3 rfl) ?_
      refine lv_iconst (v := (bI false)) F.1 F.2.1 dX1_write_27 (by decide) ?_
      refine g_callv F w (met_program l G S hI hN j hj v false) rfl rfl rfl (cw_program F ⟨Nat.le_of_ble_eq_true rfl, Nat.le_of_ble_eq_true rfl⟩) rfl hl.1 rfl (Nat.le_of_ble_eq_true rfl) dX1_write_28 ⟨Nat.zero_le _, Nat.zero_le _⟩ (fun S1 H locs hp w => ?_)
      refine lv_iload_n F.1 F.2.1 dX1_write_31 rfl (lv_at hl 0 rfl) ?_
      exact ret _ _ _ _ _ _ (⟨(wrA_n hj).symm, by rw [wrT_n hj]; exact hp⟩) w dX1_write_32
    refine z_eq (tgt := 22) F dX1_write_15 (by decide) (fun c2 => ?_) (fun c2 => ?_)
    · skip
      refine lv_iconst (v := (bI false)) F.1 F.2.1 dX1_write_22 (by decide) ?_
      rw [← c2]
      exact rest _ _ _ w hl
    · skip
      refine lv_iconst (v := (bI true)) F.1 F.2.1 dX1_write_18 (by decide) ?_
      refine lv_goto (tgt := 23) F.1 F.2.1 dX1_write_19 (by decide) ?_
      rw [← c2]
      exact rest _ _ _ w hl
  · skip
    refine lv_iconst (v := (-1)) F.1 F.2.1 dX1_write_8 (by decide) ?_
    exact ret _ _ _ _ _ _ (⟨(wrA_f c1).symm, by rw [wrT_f c1]; exact hI.mono (by omega)⟩) w dX1_write_9
set_option maxHeartbeats 4000000 in
set_option maxRecDepth 100000 in
theorem met_trim (l : Launch) (G : FG) (S : FS) {T : TB} {N : Nat} (hI : Inv S T N) (hN : N < 2 ^ 30) (q : Int32) : MetGi l yX1_trim cX1_trim 2 (some .int) 5 (.ref (G.2.1 0) :: [.int q]) G.1 (tF G) (wF G) S (fun r u => r = wrA T q ∧ Inv u (wrT T q none) (N + 5)) := by
  refine MetGi.ofI RX1 (by decide) rfl (Nat.le_of_ble_eq_true rfl) ?_
  intro p e s m args below meth c A Q H ls F w hl ret
  have hl : lv_has ls 2 [(0, .ref (G.2.1 0)), (1, .int q)] := hl
  refine lv_aload_n F.1 F.2.1 dX1_trim_0 rfl (lv_at hl 0 rfl) ?_
  refine lv_iload_n F.1 F.2.1 dX1_trim_1 rfl (lv_at hl 1 rfl) ?_
  refine g_calli F w (met_isPage l G S q) rfl rfl rfl (cw_isPage F ⟨Nat.le_of_ble_eq_true rfl, Nat.le_of_ble_eq_true rfl⟩) rfl hl.1 rfl (Nat.le_of_ble_eq_true rfl) dX1_trim_2 ⟨Nat.zero_le _, Nat.zero_le _⟩ (fun r S1 H locs hp w => ?_)
  obtain ⟨rfl, rfl⟩ := hp
  refine z_ne (tgt := 10) F dX1_trim_5 (by decide) (fun c1 => ?_) (fun c1 => ?_)
  · skip
    obtain ⟨j, hj, rfl⟩ := isPg_t c1
    refine lv_aload_n F.1 F.2.1 dX1_trim_10 rfl (lv_at hl 0 rfl) ?_
    refine lv_iload_n F.1 F.2.1 dX1_trim_11 rfl (lv_at hl 1 rfl) ?_
    refine g_calli F w (met_has l G S hI.1 (nI j)) rfl rfl rfl (cw_has F ⟨Nat.le_of_ble_eq_true rfl, Nat.le_of_ble_eq_true rfl⟩) rfl hl.1 rfl (Nat.le_of_ble_eq_true rfl) dX1_trim_12 ⟨Nat.zero_le _, Nat.zero_le _⟩ (fun r S1 H locs hp w => ?_)
    obtain ⟨rfl, rfl⟩ := hp
    rw [hasT_n hj]
    refine z_ne (tgt := 20) F dX1_trim_15 (by decide) (fun c2 => ?_) (fun c2 => ?_)
    · skip
      refine lv_aload_n F.1 F.2.1 dX1_trim_20 rfl (lv_at hl 0 rfl) ?_
      refine lv_iload_n F.1 F.2.1 dX1_trim_21 rfl (lv_at hl 1 rfl) ?_
      refine lv_iconst (v := 0) F.1 F.2.1 dX1_trim_22 (by decide) ?_
      refine lv_iconst (v := (bI true)) F.1 F.2.1 dX1_trim_23 (by decide) ?_
      refine g_callv F w (met_program l G S hI hN j hj 0 true) rfl rfl rfl (cw_program F ⟨Nat.le_of_ble_eq_true rfl, Nat.le_of_ble_eq_true rfl⟩) rfl hl.1 rfl (Nat.le_of_ble_eq_true rfl) dX1_trim_24 ⟨Nat.zero_le _, Nat.zero_le _⟩ (fun S1 H locs hp w => ?_)
      refine lv_iconst (v := 1) F.1 F.2.1 dX1_trim_27 (by decide) ?_
      exact ret _ _ _ _ _ _ (⟨by rw [wrA_n hj, bI_t c2], by rw [wrT_n hj]; exact hp⟩) w dX1_trim_28
    · skip
      refine lv_iconst (v := 0) F.1 F.2.1 dX1_trim_18 (by decide) ?_
      exact ret _ _ _ _ _ _ (⟨by rw [wrA_n hj, bI_f c2], by rw [wrT_n hj, show (none : Option Int32) = T j from by cases hT : T j with | none => rfl | some x => (rw [hT] at c2; cases c2), fu_id]; exact hI.mono (by omega)⟩) w dX1_trim_19
  · skip
    refine lv_iconst (v := (-1)) F.1 F.2.1 dX1_trim_8 (by decide) ?_
    exact ret _ _ _ _ _ _ (⟨(wrA_f c1).symm, by rw [wrT_f c1]; exact hI.mono (by omega)⟩) w dX1_trim_9
set_option maxHeartbeats 4000000 in
set_option maxRecDepth 100000 in
theorem met_replace (l : Launch) (G : FG) (S : FS) {T : TB} {N : Nat} (hI : Inv S T N) (hN : N < 2 ^ 30) (j : Nat) (hj : j < 12) (v : Int32) (z : Bool) : MetGv l yX1_replace cX1_replace 4 none 6 (.ref (G.2.1 0) :: [.int (nI j), .int v, .int (bI z)]) G.1 (tF G) (wF G) S (fun u => Inv u (fu T j (if z = true then some v else none)) (N + 5)) := by
  refine MetGv.ofV RX1 (by decide) rfl (Nat.le_of_ble_eq_true rfl) ?_
  intro p e s m args below meth c A Q H ls F w hl ret
  have hl : lv_has ls 4 [(0, .ref (G.2.1 0)), (1, .int (nI j)), (2, .int v), (3, .int (bI z))] := hl
  refine lv_iload_n F.1 F.2.1 dX1_replace_0 rfl (lv_at hl 3 rfl) ?_
  refine z_eq (tgt := 14) F dX1_replace_1 (by decide) (fun c1 => ?_) (fun c1 => ?_)
  · skip
    refine lv_aload_n F.1 F.2.1 dX1_replace_14 rfl (lv_at hl 0 rfl) ?_
    refine lv_iload_n F.1 F.2.1 dX1_replace_15 rfl (lv_at hl 1 rfl) ?_
    refine g_calli F w (met_trim l G S hI hN (nI j)) rfl rfl rfl (cw_trim F ⟨Nat.le_of_ble_eq_true rfl, Nat.le_of_ble_eq_true rfl⟩) rfl hl.1 rfl (Nat.le_of_ble_eq_true rfl) dX1_replace_16 ⟨Nat.zero_le _, Nat.zero_le _⟩ (fun r S1 H locs hp w => ?_)
    refine lv_pop F.1 F.2.1 dX1_replace_19 rfl ?_
    exact ret  _ _ _ _ _ (by rw [c1]; have h2 := hp.2; rw [wrT_n hj] at h2; exact h2) w dX1_replace_20
  · skip
    refine lv_aload_n F.1 F.2.1 dX1_replace_4 rfl (lv_at hl 0 rfl) ?_
    refine lv_iload_n F.1 F.2.1 dX1_replace_5 rfl (lv_at hl 1 rfl) ?_
    refine lv_iload_n F.1 F.2.1 dX1_replace_6 rfl (lv_at hl 2 rfl) ?_
    refine lv_iconst (v := (bI false)) F.1 F.2.1 dX1_replace_7 (by decide) ?_
    refine g_callv F w (met_program l G S hI hN j hj v false) rfl rfl rfl (cw_program F ⟨Nat.le_of_ble_eq_true rfl, Nat.le_of_ble_eq_true rfl⟩) rfl hl.1 rfl (Nat.le_of_ble_eq_true rfl) dX1_replace_8 ⟨Nat.zero_le _, Nat.zero_le _⟩ (fun S1 H locs hp w => ?_)
    refine lv_goto (tgt := 20) F.1 F.2.1 dX1_replace_11 (by decide) ?_
    exact ret  _ _ _ _ _ (by rw [c1]; exact hp) w dX1_replace_20
set_option maxHeartbeats 4000000 in
set_option maxRecDepth 100000 in
theorem met_torn (l : Launch) (G : FG) (S : FS) {T : TB} {N : Nat} (hI : Inv S T N) (hN : N + 5 < 2 ^ 30) (q v : Int32) : MetGi l yX1_torn cX1_torn 4 (some .int) 4 (.ref (G.2.1 0) :: [.int q, .int v]) G.1 (tF G) (wF G) S (fun r u => r = (if isPg q = true then q else -1) ∧ Inv u T (N + 5)) := by
  refine MetGi.ofI RX1 (by decide) rfl (Nat.le_of_ble_eq_true rfl) ?_
  intro p e s m args below meth c A Q H ls F w hl ret
  have hl : lv_has ls 4 [(0, .ref (G.2.1 0)), (1, .int q), (2, .int v)] := hl
  refine lv_aload_n F.1 F.2.1 dX1_torn_0 rfl (lv_at hl 0 rfl) ?_
  refine lv_iload_n F.1 F.2.1 dX1_torn_1 rfl (lv_at hl 1 rfl) ?_
  refine g_calli F w (met_isPage l G S q) rfl rfl rfl (cw_isPage F ⟨Nat.le_of_ble_eq_true rfl, Nat.le_of_ble_eq_true rfl⟩) rfl hl.1 rfl (Nat.le_of_ble_eq_true rfl) dX1_torn_2 ⟨Nat.zero_le _, Nat.zero_le _⟩ (fun r S1 H locs hp w => ?_)
  obtain ⟨rfl, rfl⟩ := hp
  refine z_ne (tgt := 10) F dX1_torn_5 (by decide) (fun c1 => ?_) (fun c1 => ?_)
  · skip
    have c1' := c1
    obtain ⟨j, hj, rfl⟩ := isPg_t c1'
    refine lv_aload_n F.1 F.2.1 dX1_torn_10 rfl (lv_at hl 0 rfl) ?_
    refine g_calli F w (met_freshPage l G S hI (by omega)) rfl rfl rfl (cw_freshPage F ⟨Nat.le_of_ble_eq_true rfl, Nat.le_of_ble_eq_true rfl⟩) rfl hl.1 rfl (Nat.le_of_ble_eq_true rfl) dX1_torn_11 ⟨Nat.zero_le _, Nat.zero_le _⟩ (fun r S1 H locs hp w => ?_)
    obtain ⟨k, i, hk, hi, rfl, hI1, h1, h2, h3⟩ := hp
    refine lv_istore_n (lv' := [(3, .int (nI (4 * k + i))), (0, .ref (G.2.1 0)), (1, .int (nI j)), (2, .int v)]) F.1 F.2.1 dX1_torn_14 rfl hl (by decide) rfl (fun ls hl => ?_)
    refine lv_aload_n F.1 F.2.1 dX1_torn_15 rfl (lv_at hl 1 rfl) ?_
    refine f_gSt F w dX1_torn_16 ?_
    refine lv_iload_n F.1 F.2.1 dX1_torn_19 rfl (lv_at hl 0 rfl) ?_
    refine lv_iconst (v := (nI 2)) F.1 F.2.1 dX1_torn_20 (by decide) ?_
    refine f_sSt F w 2 (by omega) (by omega) dX1_torn_21 (fun H locs w => ?_)
    have w : WdF G (fu (fSt S1) (4 * k + i) 2, fDa S1, fLo S1, fEm S1, fRu S1, fEr S1, fSp S1, fPl S1, fOb S1, fNn S1) A s H locs := w
    refine lv_aload_n F.1 F.2.1 dX1_torn_22 rfl (lv_at hl 1 rfl) ?_
    refine f_gDa F w dX1_torn_23 ?_
    refine lv_iload_n F.1 F.2.1 dX1_torn_26 rfl (lv_at hl 0 rfl) ?_
    refine lv_iload_n F.1 F.2.1 dX1_torn_27 rfl (lv_at hl 3 rfl) ?_
    refine f_sDa F w v (by omega) dX1_torn_28 (fun H locs w => ?_)
    have w : WdF G (fu (fSt S1) (4 * k + i) 2, fu (fDa S1) (4 * k + i) v, fLo S1, fEm S1, fRu S1, fEr S1, fSp S1, fPl S1, fOb S1, fNn S1) A s H locs := w
    refine lv_aload_n F.1 F.2.1 dX1_torn_29 rfl (lv_at hl 1 rfl) ?_
    refine f_gLo F w dX1_torn_30 ?_
    refine lv_iload_n F.1 F.2.1 dX1_torn_33 rfl (lv_at hl 0 rfl) ?_
    refine lv_iload_n F.1 F.2.1 dX1_torn_34 rfl (lv_at hl 2 rfl) ?_
    refine lv_i2b (v := nI j) F.1 F.2.1 dX1_torn_35 (nb_i _ (by omega)) ?_
    refine f_sLo F w j (by omega) (by omega) dX1_torn_36 (fun H locs w => ?_)
    have w : WdF G (fu (fSt S1) (4 * k + i) 2, fu (fDa S1) (4 * k + i) v, fu (fLo S1) (4 * k + i) j, fEm S1, fRu S1, fEr S1, fSp S1, fPl S1, fOb S1, fNn S1) A s H locs := w
    refine lv_aload_n F.1 F.2.1 dX1_torn_37 rfl (lv_at hl 1 rfl) ?_
    refine f_gRu F w dX1_torn_38 ?_
    refine lv_iload_n F.1 F.2.1 dX1_torn_41 rfl (lv_at hl 0 rfl) ?_
    refine lv_aload_n F.1 F.2.1 dX1_torn_42 rfl (lv_at hl 1 rfl) ?_
    refine f_gNn F w dX1_torn_43 ?_
    refine f_sRu F w (fNn S1) (by omega) dX1_torn_46 (fun H locs w => ?_)
    have w : WdF G (fu (fSt S1) (4 * k + i) 2, fu (fDa S1) (4 * k + i) v, fu (fLo S1) (4 * k + i) j, fEm S1, fu (fRu S1) (4 * k + i) (fNn S1), fEr S1, fSp S1, fPl S1, fOb S1, fNn S1) A s H locs := w
    refine lv_aload_n F.1 F.2.1 dX1_torn_47 rfl (lv_at hl 1 rfl) ?_
    have w : WdF G (tornS S1 (4 * k + i) j v) A s H locs := w
    have hI2 := FrP_torn (v := v) hI1 hk hi h1 h2 h3 hj
    refine g_callv F w (met_startUp l G (tornS S1 (4 * k + i) j v) hI2.fsh (by omega)) rfl rfl rfl (cw_startUp F ⟨Nat.le_of_ble_eq_true rfl, Nat.le_of_ble_eq_true rfl⟩) rfl hl.1 rfl (Nat.le_of_ble_eq_true rfl) dX1_torn_48 ⟨Nat.zero_le _, Nat.zero_le _⟩ (fun S2 H locs hp w => ?_)
    refine lv_iload_n F.1 F.2.1 dX1_torn_51 rfl (lv_at hl 2 rfl) ?_
    exact ret _ _ _ _ _ _ (⟨by rw [if_pos c1], hp.mono (by omega)⟩) w dX1_torn_52
  · skip
    refine lv_iconst (v := (-1)) F.1 F.2.1 dX1_torn_8 (by decide) ?_
    exact ret _ _ _ _ _ _ (⟨by rw [if_neg (by rw [c1]; decide)], hI.mono (by omega)⟩) w dX1_torn_9
set_option maxHeartbeats 4000000 in
set_option maxRecDepth 100000 in
theorem met_powerCut (l : Launch) (G : FG) (S : FS) {T : TB} {N : Nat} (hI : Inv S T N) (hN : N < 2 ^ 30) : MetGi l yX1_powerCut cX1_powerCut 1 (some .int) 3 (.ref (G.2.1 0) :: []) G.1 (tF G) (wF G) S (fun r u => r = nI (cntT T 12) ∧ Inv u T N) := by
  refine MetGi.ofI RX1 (by decide) rfl (Nat.le_of_ble_eq_true rfl) ?_
  intro p e s m args below meth c A Q H ls F w hl ret
  have hl : lv_has ls 1 [(0, .ref (G.2.1 0))] := hl
  refine lv_aload_n F.1 F.2.1 dX1_powerCut_0 rfl (lv_at hl 0 rfl) ?_
  refine g_callv F w (met_startUp l G S hI.fsh hN) rfl rfl rfl (cw_startUp F ⟨Nat.le_of_ble_eq_true rfl, Nat.le_of_ble_eq_true rfl⟩) rfl hl.1 rfl (Nat.le_of_ble_eq_true rfl) dX1_powerCut_1 ⟨Nat.zero_le _, Nat.zero_le _⟩ (fun S1 H locs hp w => ?_)
  refine lv_aload_n F.1 F.2.1 dX1_powerCut_4 rfl (lv_at hl 0 rfl) ?_
  refine g_calli F w (met_used l G S1 hp.1) rfl rfl rfl (cw_used F ⟨Nat.le_of_ble_eq_true rfl, Nat.le_of_ble_eq_true rfl⟩) rfl hl.1 rfl (Nat.le_of_ble_eq_true rfl) dX1_powerCut_5 ⟨Nat.zero_le _, Nat.zero_le _⟩ (fun r S2 H locs hp2 w => ?_)
  obtain ⟨rfl, rfl⟩ := hp2
  exact ret _ _ _ _ _ _ (⟨rfl, hp⟩) w dX1_powerCut_8
end
section
theorem ogd {x : Option Int32} : (if x.isSome = true then some (x.getD 0) else none) = x := by cases x <;> rfl
set_option maxHeartbeats 4000000 in
set_option maxRecDepth 100000 in
theorem met_exchange (l : Launch) (G : FG) (S : FS) {T : TB} {N : Nat} (hI : Inv S T N) (hN : N + 10 < 2 ^ 30) (q q2 : Int32) : MetGi l yX1_exchange cX1_exchange 7 (some .int) 7 (.ref (G.2.1 0) :: [.int q, .int q2]) G.1 (tF G) (wF G) S (fun r u => r = exA T q q2 ∧ Inv u (exT T q q2) (N + 10)) := by
  refine MetGi.ofI RX1 (by decide) rfl (Nat.le_of_ble_eq_true rfl) ?_
  intro p e s m args below meth c A Q H ls F w hl ret
  have hl : lv_has ls 7 [(0, .ref (G.2.1 0)), (1, .int q), (2, .int q2)] := hl
  refine lv_aload_n F.1 F.2.1 dX1_exchange_0 rfl (lv_at hl 0 rfl) ?_
  refine lv_iload_n F.1 F.2.1 dX1_exchange_1 rfl (lv_at hl 1 rfl) ?_
  refine g_calli F w (met_isPage l G S q) rfl rfl rfl (cw_isPage F ⟨Nat.le_of_ble_eq_true rfl, Nat.le_of_ble_eq_true rfl⟩) rfl hl.1 rfl (Nat.le_of_ble_eq_true rfl) dX1_exchange_2 ⟨Nat.zero_le _, Nat.zero_le _⟩ (fun r S1 H locs hp w => ?_)
  obtain ⟨rfl, rfl⟩ := hp
  refine z_eq (tgt := 16) F dX1_exchange_5 (by decide) (fun c1 => ?_) (fun c1 => ?_)
  · skip
    refine lv_iconst (v := (-1)) F.1 F.2.1 dX1_exchange_16 (by decide) ?_
    exact ret _ _ _ _ _ _ (⟨(exA_f (by rw [c1]; rfl)).symm, by rw [exT_f (by rw [c1]; rfl)]; exact hI.mono (by omega)⟩) w dX1_exchange_17
  · skip
    refine lv_aload_n F.1 F.2.1 dX1_exchange_8 rfl (lv_at hl 0 rfl) ?_
    refine lv_iload_n F.1 F.2.1 dX1_exchange_9 rfl (lv_at hl 2 rfl) ?_
    refine g_calli F w (met_isPage l G S q2) rfl rfl rfl (cw_isPage F ⟨Nat.le_of_ble_eq_true rfl, Nat.le_of_ble_eq_true rfl⟩) rfl hl.1 rfl (Nat.le_of_ble_eq_true rfl) dX1_exchange_10 ⟨Nat.zero_le _, Nat.zero_le _⟩ (fun r S1 H locs hp w => ?_)
    obtain ⟨rfl, rfl⟩ := hp
    refine z_ne (tgt := 18) F dX1_exchange_13 (by decide) (fun c2 => ?_) (fun c2 => ?_)
    · skip
      obtain ⟨j, hj, rfl⟩ := isPg_t c1
      obtain ⟨j2, hj2, rfl⟩ := isPg_t c2
      refine lv_aload_n F.1 F.2.1 dX1_exchange_18 rfl (lv_at hl 0 rfl) ?_
      refine lv_iload_n F.1 F.2.1 dX1_exchange_19 rfl (lv_at hl 1 rfl) ?_
      refine g_calli F w (met_has l G S hI.1 (nI j)) rfl rfl rfl (cw_has F ⟨Nat.le_of_ble_eq_true rfl, Nat.le_of_ble_eq_true rfl⟩) rfl hl.1 rfl (Nat.le_of_ble_eq_true rfl) dX1_exchange_20 ⟨Nat.zero_le _, Nat.zero_le _⟩ (fun r S1 H locs hp w => ?_)
      obtain ⟨rfl, rfl⟩ := hp
      rw [hasT_n hj]
      refine lv_istore_n (lv' := [(3, .int (bI ((T j).isSome))), (0, .ref (G.2.1 0)), (1, .int (nI j)), (2, .int (nI j2))]) F.1 F.2.1 dX1_exchange_23 rfl hl (by decide) rfl (fun ls hl => ?_)
      refine lv_aload_n F.1 F.2.1 dX1_exchange_24 rfl (lv_at hl 1 rfl) ?_
      refine lv_iload_n F.1 F.2.1 dX1_exchange_25 rfl (lv_at hl 3 rfl) ?_
      refine g_calli F w (met_has l G S hI.1 (nI j2)) rfl rfl rfl (cw_has F ⟨Nat.le_of_ble_eq_true rfl, Nat.le_of_ble_eq_true rfl⟩) rfl hl.1 rfl (Nat.le_of_ble_eq_true rfl) dX1_exchange_26 ⟨Nat.zero_le _, Nat.zero_le _⟩ (fun r S1 H locs hp w => ?_)
      obtain ⟨rfl, rfl⟩ := hp
      rw [hasT_n hj2]
      refine lv_istore (lv' := [(4, .int (bI ((T j2).isSome))), (3, .int (bI ((T j).isSome))), (0, .ref (G.2.1 0)), (1, .int (nI j)), (2, .int (nI j2))]) F.1 F.2.1 dX1_exchange_29 hl (by decide) rfl (fun ls hl => ?_)
      refine lv_aload_n F.1 F.2.1 dX1_exchange_31 rfl (lv_at hl 2 rfl) ?_
      refine lv_iload_n F.1 F.2.1 dX1_exchange_32 rfl (lv_at hl 3 rfl) ?_
      refine g_calli F w (met_read l G S hI.1 (nI j)) rfl rfl rfl (cw_read F ⟨Nat.le_of_ble_eq_true rfl, Nat.le_of_ble_eq_true rfl⟩) rfl hl.1 rfl (Nat.le_of_ble_eq_true rfl) dX1_exchange_33 ⟨Nat.zero_le _, Nat.zero_le _⟩ (fun r S1 H locs hp w => ?_)
      obtain ⟨rfl, rfl⟩ := hp
      rw [rdT_n hj]
      refine lv_istore (lv' := [(5, .int ((T j).getD 0)), (4, .int (bI ((T j2).isSome))), (3, .int (bI ((T j).isSome))), (0, .ref (G.2.1 0)), (1, .int (nI j)), (2, .int (nI j2))]) F.1 F.2.1 dX1_exchange_36 hl (by decide) rfl (fun ls hl => ?_)
      refine lv_aload_n F.1 F.2.1 dX1_exchange_38 rfl (lv_at hl 3 rfl) ?_
      refine lv_iload_n F.1 F.2.1 dX1_exchange_39 rfl (lv_at hl 5 rfl) ?_
      refine g_calli F w (met_read l G S hI.1 (nI j2)) rfl rfl rfl (cw_read F ⟨Nat.le_of_ble_eq_true rfl, Nat.le_of_ble_eq_true rfl⟩) rfl hl.1 rfl (Nat.le_of_ble_eq_true rfl) dX1_exchange_40 ⟨Nat.zero_le _, Nat.zero_le _⟩ (fun r S1 H locs hp w => ?_)
      obtain ⟨rfl, rfl⟩ := hp
      rw [rdT_n hj2]
      refine lv_istore (lv' := [(6, .int ((T j2).getD 0)), (5, .int ((T j).getD 0)), (4, .int (bI ((T j2).isSome))), (3, .int (bI ((T j).isSome))), (0, .ref (G.2.1 0)), (1, .int (nI j)), (2, .int (nI j2))]) F.1 F.2.1 dX1_exchange_43 hl (by decide) rfl (fun ls hl => ?_)
      refine lv_aload_n F.1 F.2.1 dX1_exchange_45 rfl (lv_at hl 4 rfl) ?_
      refine lv_iload_n F.1 F.2.1 dX1_exchange_46 rfl (lv_at hl 5 rfl) ?_
      refine lv_iload F.1 F.2.1 dX1_exchange_47 (lv_at hl 0 rfl) ?_
      refine lv_iload F.1 F.2.1 dX1_exchange_49 (lv_at hl 2 rfl) ?_
      refine g_callv F w (met_replace l G S hI (by omega) j hj ((T j2).getD 0) (T j2).isSome) rfl rfl rfl (cw_replace F ⟨Nat.le_of_ble_eq_true rfl, Nat.le_of_ble_eq_true rfl⟩) rfl hl.1 rfl (Nat.le_of_ble_eq_true rfl) dX1_exchange_51 ⟨Nat.zero_le _, Nat.zero_le _⟩ (fun S1 H locs hp w => ?_)
      rw [ogd] at hp
      refine lv_aload_n F.1 F.2.1 dX1_exchange_54 rfl (lv_at hl 4 rfl) ?_
      refine lv_iload_n F.1 F.2.1 dX1_exchange_55 rfl (lv_at hl 6 rfl) ?_
      refine lv_iload F.1 F.2.1 dX1_exchange_56 (lv_at hl 1 rfl) ?_
      refine lv_iload_n F.1 F.2.1 dX1_exchange_58 rfl (lv_at hl 3 rfl) ?_
      refine g_callv F w (met_replace l G S1 hp (by omega) j2 hj2 ((T j).getD 0) (T j).isSome) rfl rfl rfl (cw_replace F ⟨Nat.le_of_ble_eq_true rfl, Nat.le_of_ble_eq_true rfl⟩) rfl hl.1 rfl (Nat.le_of_ble_eq_true rfl) dX1_exchange_59 ⟨Nat.zero_le _, Nat.zero_le _⟩ (fun S2 H locs hp2 w => ?_)
      rw [ogd] at hp2
      refine lv_iload_n F.1 F.2.1 dX1_exchange_62 rfl (lv_at hl 3 rfl) ?_
      refine z_eq (tgt := 70) F dX1_exchange_63 (by decide) (fun c3 => ?_) (fun c3 => ?_)
      · skip
        refine lv_iconst (v := 0) F.1 F.2.1 dX1_exchange_70 (by decide) ?_
        refine lv_iload F.1 F.2.1 dX1_exchange_71 (lv_at hl 2 rfl) ?_
        refine z_eq (tgt := 80) F dX1_exchange_73 (by decide) (fun c4 => ?_) (fun c4 => ?_)
        · skip
          refine lv_iconst (v := 0) F.1 F.2.1 dX1_exchange_80 (by decide) ?_
          refine lv_iadd F.1 F.2.1 dX1_exchange_81 ?_
          exact ret _ _ _ _ _ _ (⟨by rw [exA_n hj hj2, bI_f c3, bI_f c4], by rw [exT_n hj hj2]; exact hp2⟩) w dX1_exchange_82
        · skip
          refine lv_iconst (v := 1) F.1 F.2.1 dX1_exchange_76 (by decide) ?_
          refine lv_goto (tgt := 81) F.1 F.2.1 dX1_exchange_77 (by decide) ?_
          refine lv_iadd F.1 F.2.1 dX1_exchange_81 ?_
          exact ret _ _ _ _ _ _ (⟨by rw [exA_n hj hj2, bI_f c3, bI_t c4], by rw [exT_n hj hj2]; exact hp2⟩) w dX1_exchange_82
      · skip
        refine lv_iconst (v := 1) F.1 F.2.1 dX1_exchange_66 (by decide) ?_
        refine lv_goto (tgt := 71) F.1 F.2.1 dX1_exchange_67 (by decide) ?_
        refine lv_iload F.1 F.2.1 dX1_exchange_71 (lv_at hl 2 rfl) ?_
        refine z_eq (tgt := 80) F dX1_exchange_73 (by decide) (fun c4 => ?_) (fun c4 => ?_)
        · skip
          refine lv_iconst (v := 0) F.1 F.2.1 dX1_exchange_80 (by decide) ?_
          refine lv_iadd F.1 F.2.1 dX1_exchange_81 ?_
          exact ret _ _ _ _ _ _ (⟨by rw [exA_n hj hj2, bI_t c3, bI_f c4], by rw [exT_n hj hj2]; exact hp2⟩) w dX1_exchange_82
        · skip
          refine lv_iconst (v := 1) F.1 F.2.1 dX1_exchange_76 (by decide) ?_
          refine lv_goto (tgt := 81) F.1 F.2.1 dX1_exchange_77 (by decide) ?_
          refine lv_iadd F.1 F.2.1 dX1_exchange_81 ?_
          exact ret _ _ _ _ _ _ (⟨by rw [exA_n hj hj2, bI_t c3, bI_t c4], by rw [exT_n hj hj2]; exact hp2⟩) w dX1_exchange_82
    · skip
      refine lv_iconst (v := (-1)) F.1 F.2.1 dX1_exchange_16 (by decide) ?_
      exact ret _ _ _ _ _ _ (⟨(exA_f (by rw [c1, c2]; rfl)).symm, by rw [exT_f (by rw [c1, c2]; rfl)]; exact hI.mono (by omega)⟩) w dX1_exchange_17
set_option maxHeartbeats 4000000 in
set_option maxRecDepth 100000 in
theorem met_fill (l : Launch) (G : FG) (S : FS) {T : TB} {N : Nat} (hI : Inv S T N) (hN : N + 60 < 2 ^ 30) (q q2 q3 : Int32) : MetGi l yX1_fill cX1_fill 7 (some .int) 7 (.ref (G.2.1 0) :: [.int q, .int q2, .int q3]) G.1 (tF G) (wF G) S (fun r u => r = flA q q2 q3 ∧ Inv u (flT T q q2 q3) (N + 60)) := by
  refine MetGi.ofI RX1 (by decide) rfl (Nat.le_of_ble_eq_true rfl) ?_
  intro p e s m args below meth c A Q H ls F w hl ret
  have hl : lv_has ls 7 [(0, .ref (G.2.1 0)), (1, .int q), (2, .int q2), (3, .int q3)] := hl
  refine lv_aload_n F.1 F.2.1 dX1_fill_0 rfl (lv_at hl 0 rfl) ?_
  refine lv_iload_n F.1 F.2.1 dX1_fill_1 rfl (lv_at hl 1 rfl) ?_
  refine g_calli F w (met_isPage l G S q) rfl rfl rfl (cw_isPage F ⟨Nat.le_of_ble_eq_true rfl, Nat.le_of_ble_eq_true rfl⟩) rfl hl.1 rfl (Nat.le_of_ble_eq_true rfl) dX1_fill_2 ⟨Nat.zero_le _, Nat.zero_le _⟩ (fun r S1 H locs hp w => ?_)
  obtain ⟨rfl, rfl⟩ := hp
  refine z_eq (tgt := 29) F dX1_fill_5 (by decide) (fun c1 => ?_) (fun c1 => ?_)
  · skip
    refine lv_iconst (v := (-1)) F.1 F.2.1 dX1_fill_29 (by decide) ?_
    exact ret _ _ _ _ _ _ (⟨(flA_f (flC_f1 c1)).symm, by rw [flT_f (flC_f1 c1)]; exact hI.mono (by omega)⟩) w dX1_fill_30
  · skip
    refine lv_aload_n F.1 F.2.1 dX1_fill_8 rfl (lv_at hl 0 rfl) ?_
    refine lv_iload_n F.1 F.2.1 dX1_fill_9 rfl (lv_at hl 2 rfl) ?_
    refine g_calli F w (met_isPage l G S q2) rfl rfl rfl (cw_isPage F ⟨Nat.le_of_ble_eq_true rfl, Nat.le_of_ble_eq_true rfl⟩) rfl hl.1 rfl (Nat.le_of_ble_eq_true rfl) dX1_fill_10 ⟨Nat.zero_le _, Nat.zero_le _⟩ (fun r S1 H locs hp w => ?_)
    obtain ⟨rfl, rfl⟩ := hp
    refine z_eq (tgt := 29) F dX1_fill_13 (by decide) (fun c2 => ?_) (fun c2 => ?_)
    · skip
      refine lv_iconst (v := (-1)) F.1 F.2.1 dX1_fill_29 (by decide) ?_
      exact ret _ _ _ _ _ _ (⟨(flA_f (flC_f2 c2)).symm, by rw [flT_f (flC_f2 c2)]; exact hI.mono (by omega)⟩) w dX1_fill_30
    · skip
      refine lv_aload_n F.1 F.2.1 dX1_fill_16 rfl (lv_at hl 0 rfl) ?_
      refine lv_iload_n F.1 F.2.1 dX1_fill_17 rfl (lv_at hl 3 rfl) ?_
      refine g_calli F w (met_isPage l G S q3) rfl rfl rfl (cw_isPage F ⟨Nat.le_of_ble_eq_true rfl, Nat.le_of_ble_eq_true rfl⟩) rfl hl.1 rfl (Nat.le_of_ble_eq_true rfl) dX1_fill_18 ⟨Nat.zero_le _, Nat.zero_le _⟩ (fun r S1 H locs hp w => ?_)
      obtain ⟨rfl, rfl⟩ := hp
      refine z_eq (tgt := 29) F dX1_fill_21 (by decide) (fun c3 => ?_) (fun c3 => ?_)
      · skip
        refine lv_iconst (v := (-1)) F.1 F.2.1 dX1_fill_29 (by decide) ?_
        exact ret _ _ _ _ _ _ (⟨(flA_f (flC_f3 c3)).symm, by rw [flT_f (flC_f3 c3)]; exact hI.mono (by omega)⟩) w dX1_fill_30
      · skip
        obtain ⟨j, hj, rfl⟩ := isPg_t c1
        obtain ⟨j2, hj2, rfl⟩ := isPg_t c2
        obtain ⟨j3, hj3, rfl⟩ := isPg_t c3
        refine lv_iload_n F.1 F.2.1 dX1_fill_24 rfl (lv_at hl 2 rfl) ?_
        refine lv_iload_n F.1 F.2.1 dX1_fill_25 rfl (lv_at hl 3 rfl) ?_
        refine b_le (tgt := 31) F dX1_fill_26 (by decide) (by omega) (by omega) (fun c4 => ?_) (fun c4 => ?_)
        · skip
          refine lv_aload_n F.1 F.2.1 dX1_fill_31 rfl (lv_at hl 0 rfl) ?_
          refine lv_iload_n F.1 F.2.1 dX1_fill_32 rfl (lv_at hl 1 rfl) ?_
          refine g_calli F w (met_has l G S hI.1 (nI j)) rfl rfl rfl (cw_has F ⟨Nat.le_of_ble_eq_true rfl, Nat.le_of_ble_eq_true rfl⟩) rfl hl.1 rfl (Nat.le_of_ble_eq_true rfl) dX1_fill_33 ⟨Nat.zero_le _, Nat.zero_le _⟩ (fun r S1 H locs hp w => ?_)
          obtain ⟨rfl, rfl⟩ := hp
          rw [hasT_n hj]
          refine lv_istore (lv' := [(4, .int (bI ((T j).isSome))), (0, .ref (G.2.1 0)), (1, .int (nI j)), (2, .int (nI j2)), (3, .int (nI j3))]) F.1 F.2.1 dX1_fill_36 hl (by decide) rfl (fun ls hl => ?_)
          refine lv_aload_n F.1 F.2.1 dX1_fill_38 rfl (lv_at hl 1 rfl) ?_
          refine lv_iload_n F.1 F.2.1 dX1_fill_39 rfl (lv_at hl 2 rfl) ?_
          refine g_calli F w (met_read l G S hI.1 (nI j)) rfl rfl rfl (cw_read F ⟨Nat.le_of_ble_eq_true rfl, Nat.le_of_ble_eq_true rfl⟩) rfl hl.1 rfl (Nat.le_of_ble_eq_true rfl) dX1_fill_40 ⟨Nat.zero_le _, Nat.zero_le _⟩ (fun r S1 H locs hp w => ?_)
          obtain ⟨rfl, rfl⟩ := hp
          rw [rdT_n hj]
          refine lv_istore (lv' := [(5, .int ((T j).getD 0)), (4, .int (bI ((T j).isSome))), (0, .ref (G.2.1 0)), (1, .int (nI j)), (2, .int (nI j2)), (3, .int (nI j3))]) F.1 F.2.1 dX1_fill_43 hl (by decide) rfl (fun ls hl => ?_)
          refine lv_iload_n F.1 F.2.1 dX1_fill_45 rfl (lv_at hl 4 rfl) ?_
          refine lv_istore (lv' := [(6, .int (nI j2)), (5, .int ((T j).getD 0)), (4, .int (bI ((T j).isSome))), (0, .ref (G.2.1 0)), (1, .int (nI j)), (2, .int (nI j2)), (3, .int (nI j3))]) F.1 F.2.1 dX1_fill_46 hl (by decide) rfl (fun ls hl => ?_)
          have loop : ∀ (n i : Nat) (S1 : FS) (H : Heap) (locs : List Loc) (ls : Array Slot), j2 + i ≤ j3 + 1 → j3 + 2 ≤ j2 + i + n → Inv S1 (flN T (T j) j2 (j2 + i)) (N + 5 * i) → WdF G S1 A s H locs → lv_has ls 7 [(0, .ref (G.2.1 0)), (1, .int (nI j)), (2, .int (nI j2)), (3, .int (nI j3)), (4, .int (bI ((T j).isSome))), (5, .int ((T j).getD 0)), (6, .int (nI (j2 + i)))] → W p l e (rmD 7) s m args below meth c H locs 0 0 Q (F0 m 48 ls []) := by
            intro n
            induction n with
            | zero =>
              intro i S1 H locs ls hi hn hI1 w hl
              exact absurd hn (by omega)
            | succ n ih =>
              intro i S1 H locs ls hi hn hI1 w hl
              refine lv_iload F.1 F.2.1 dX1_fill_48 (lv_at hl 6 rfl) ?_
              refine lv_iload_n F.1 F.2.1 dX1_fill_50 rfl (lv_at hl 3 rfl) ?_
              refine b_gt (tgt := 70) F dX1_fill_51 (by decide) (by omega) (by omega) (fun c5 => ?_) (fun c5 => ?_)
              · skip
                have hi3 : j2 + i = j3 + 1 := by omega
                rw [hi3] at hI1
                refine lv_iload_n F.1 F.2.1 dX1_fill_70 rfl (lv_at hl 3 rfl) ?_
                refine lv_iload_n F.1 F.2.1 dX1_fill_71 rfl (lv_at hl 2 rfl) ?_
                refine lv_isub F.1 F.2.1 dX1_fill_72 ?_
                refine lv_iconst (v := (nI 1)) F.1 F.2.1 dX1_fill_73 (by decide) ?_
                refine lv_iadd F.1 F.2.1 dX1_fill_74 ?_
                exact ret _ _ _ _ _ _ (⟨(flA_n hj hj2 hj3 c4).symm, by rw [flT_n hj hj2 hj3 c4]; exact hI1.mono (by omega)⟩) w dX1_fill_75
              · skip
                refine lv_aload_n F.1 F.2.1 dX1_fill_54 rfl (lv_at hl 0 rfl) ?_
                refine lv_iload F.1 F.2.1 dX1_fill_55 (lv_at hl 6 rfl) ?_
                refine lv_iload F.1 F.2.1 dX1_fill_57 (lv_at hl 5 rfl) ?_
                refine lv_iload F.1 F.2.1 dX1_fill_59 (lv_at hl 4 rfl) ?_
                refine g_callv F w (met_replace l G S1 hI1 (by omega) (j2 + i) (by omega) ((T j).getD 0) (T j).isSome) rfl rfl rfl (cw_replace F ⟨Nat.le_of_ble_eq_true rfl, Nat.le_of_ble_eq_true rfl⟩) rfl hl.1 rfl (Nat.le_of_ble_eq_true rfl) dX1_fill_61 ⟨Nat.zero_le _, Nat.zero_le _⟩ (fun S2 H locs hp w => ?_)
                rw [ogd, flN_s _ _ (by omega)] at hp
                refine lv_iinc (v := (nI (j2 + i + 1))) (lv' := [(6, .int (nI (j2 + i + 1))), (0, .ref (G.2.1 0)), (1, .int (nI j)), (2, .int (nI j2)), (3, .int (nI j3)), (4, .int (bI ((T j).isSome))), (5, .int ((T j).getD 0))]) F.1 F.2.1 dX1_fill_64 hl (k := 6) rfl (ninc (j2 + i)) (by decide) rfl (fun ls hl => ?_)
                refine lv_goto (tgt := 48) F.1 F.2.1 dX1_fill_67 (by decide) ?_
                exact ih (i + 1) S2 _ _ _ (by omega) (by omega) hp w (lv_sub hl [1, 2, 3, 4, 5, 6, 0] rfl)
          exact loop (j3 + 2 - j2) 0 S _ _ _ (by omega) (by omega) (by rw [Nat.add_zero, flN_0]; exact hI) w (lv_sub hl [3, 4, 5, 6, 2, 1, 0] rfl)
        · skip
          refine lv_iconst (v := (-1)) F.1 F.2.1 dX1_fill_29 (by decide) ?_
          exact ret _ _ _ _ _ _ (⟨(flA_f (flC_f4 hj2 hj3 c4)).symm, by rw [flT_f (flC_f4 hj2 hj3 c4)]; exact hI.mono (by omega)⟩) w dX1_fill_30
end
section
set_option maxHeartbeats 4000000 in
set_option maxRecDepth 100000 in
theorem mem_isPage (l : Launch) (G : FG) (M : MS) (q : Int32) : MetGi l yX2_isPage cX2_isPage 2 (some .boolean) 0 (.ref (G.2.1 0) :: [.int q]) G.1 (tM G) (wM G) M (fun r u => r = bI (isPg q) ∧ M = u) := by
  refine MetGi.ofZ RX2 (by decide) rfl (Nat.le_of_ble_eq_true rfl) ?_
  intro p e s m args below meth c A Q H ls F w hl ret
  have hl : lv_has ls 2 [(0, .ref (G.2.1 0)), (1, .int q)] := hl
  refine lv_iload_n F.1 F.2.1 dX2_isPage_0 rfl (lv_at hl 1 rfl) ?_
  refine lv_if_lt (tgt := 14) F.1 F.2.1 dX2_isPage_1 (by decide) (fun c1 => ?_) (fun c1 => ?_)
  · skip
    refine lv_iconst (v := (bI false)) F.1 F.2.1 dX2_isPage_14 (by decide) ?_
    exact ret false _ _ _ _ _ (⟨by rw [isPg_lt c1], rfl⟩) w dX2_isPage_15
  · skip
    refine lv_iload_n F.1 F.2.1 dX2_isPage_4 rfl (lv_at hl 1 rfl) ?_
    refine lv_bipush (v := 11) F.1 F.2.1 dX2_isPage_5 (by decide) ?_
    refine lv_icmp_gt (tgt := 14) F.1 F.2.1 dX2_isPage_7 (by decide) (fun c2 => ?_) (fun c2 => ?_)
    · skip
      refine lv_iconst (v := (bI false)) F.1 F.2.1 dX2_isPage_14 (by decide) ?_
      exact ret false _ _ _ _ _ (⟨by rw [isPg_gt c2], rfl⟩) w dX2_isPage_15
    · skip
      refine lv_iconst (v := (bI true)) F.1 F.2.1 dX2_isPage_10 (by decide) ?_
      refine lv_goto (tgt := 15) F.1 F.2.1 dX2_isPage_11 (by decide) ?_
      exact ret true _ _ _ _ _ (⟨by rw [isPg_in c1 c2], rfl⟩) w dX2_isPage_15
set_option maxHeartbeats 4000000 in
set_option maxRecDepth 100000 in
theorem mem_has (l : Launch) (G : FG) (M : MS) (q : Int32) : MetGi l yX2_has cX2_has 2 (some .boolean) 1 (.ref (G.2.1 0) :: [.int q]) G.1 (tM G) (wM G) M (fun r u => r = bI (hasT (TM M) q) ∧ M = u) := by
  refine MetGi.ofZ RX2 (by decide) rfl (Nat.le_of_ble_eq_true rfl) ?_
  intro p e s m args below meth c A Q H ls F w hl ret
  have hl : lv_has ls 2 [(0, .ref (G.2.1 0)), (1, .int q)] := hl
  refine lv_aload_n F.1 F.2.1 dX2_has_0 rfl (lv_at hl 0 rfl) ?_
  refine lv_iload_n F.1 F.2.1 dX2_has_1 rfl (lv_at hl 1 rfl) ?_
  refine g_calli F w (mem_isPage l G M q) rfl rfl rfl (cm_isPage F ⟨Nat.le_of_ble_eq_true rfl, Nat.le_of_ble_eq_true rfl⟩) rfl hl.1 rfl (Nat.le_of_ble_eq_true rfl) dX2_has_2 ⟨Nat.zero_le _, Nat.zero_le _⟩ (fun r M1 H locs hp w => ?_)
  obtain ⟨rfl, rfl⟩ := hp
  refine z_eq (tgt := 21) F dX2_has_5 (by decide) (fun c1 => ?_) (fun c1 => ?_)
  · skip
    refine lv_iconst (v := (bI false)) F.1 F.2.1 dX2_has_21 (by decide) ?_
    exact ret false _ _ _ _ _ (⟨by rw [hasT_f c1], rfl⟩) w dX2_has_22
  · skip
    obtain ⟨j, hj, rfl⟩ := isPg_t c1
    refine lv_aload_n F.1 F.2.1 dX2_has_8 rfl (lv_at hl 0 rfl) ?_
    refine m_gTh F w dX2_has_9 ?_
    refine lv_iload_n F.1 F.2.1 dX2_has_12 rfl (lv_at hl 1 rfl) ?_
    refine m_lTh F w (by omega) dX2_has_13 ?_
    refine z_eq (tgt := 21) F dX2_has_14 (by decide) (fun c2 => ?_) (fun c2 => ?_)
    · skip
      refine lv_iconst (v := (bI false)) F.1 F.2.1 dX2_has_21 (by decide) ?_
      exact ret false _ _ _ _ _ (⟨by rw [hasT_n hj, TM_some, c2], rfl⟩) w dX2_has_22
    · skip
      refine lv_iconst (v := (bI true)) F.1 F.2.1 dX2_has_17 (by decide) ?_
      refine lv_goto (tgt := 22) F.1 F.2.1 dX2_has_18 (by decide) ?_
      exact ret true _ _ _ _ _ (⟨by rw [hasT_n hj, TM_some, c2], rfl⟩) w dX2_has_22
set_option maxHeartbeats 4000000 in
set_option maxRecDepth 100000 in
theorem mem_read (l : Launch) (G : FG) (M : MS) (q : Int32) : MetGi l yX2_read cX2_read 2 (some .int) 2 (.ref (G.2.1 0) :: [.int q]) G.1 (tM G) (wM G) M (fun r u => r = rdT (TM M) q ∧ M = u) := by
  refine MetGi.ofI RX2 (by decide) rfl (Nat.le_of_ble_eq_true rfl) ?_
  intro p e s m args below meth c A Q H ls F w hl ret
  have hl : lv_has ls 2 [(0, .ref (G.2.1 0)), (1, .int q)] := hl
  refine lv_aload_n F.1 F.2.1 dX2_read_0 rfl (lv_at hl 0 rfl) ?_
  refine lv_iload_n F.1 F.2.1 dX2_read_1 rfl (lv_at hl 1 rfl) ?_
  refine g_calli F w (mem_has l G M q) rfl rfl rfl (cm_has F ⟨Nat.le_of_ble_eq_true rfl, Nat.le_of_ble_eq_true rfl⟩) rfl hl.1 rfl (Nat.le_of_ble_eq_true rfl) dX2_read_2 ⟨Nat.zero_le _, Nat.zero_le _⟩ (fun r M1 H locs hp w => ?_)
  obtain ⟨rfl, rfl⟩ := hp
  refine z_eq (tgt := 17) F dX2_read_5 (by decide) (fun c1 => ?_) (fun c1 => ?_)
  · skip
    refine lv_iconst (v := 0) F.1 F.2.1 dX2_read_17 (by decide) ?_
    exact ret _ _ _ _ _ _ (⟨(rdT_f c1).symm, rfl⟩) w dX2_read_18
  · skip
    obtain ⟨j, hj, rfl⟩ := isPg_t (hasT_pg c1)
    rw [hasT_n hj, TM_some] at c1
    refine lv_aload_n F.1 F.2.1 dX2_read_8 rfl (lv_at hl 0 rfl) ?_
    refine m_gVa F w dX2_read_9 ?_
    refine lv_iload_n F.1 F.2.1 dX2_read_12 rfl (lv_at hl 1 rfl) ?_
    refine m_lVa F w (by omega) dX2_read_13 ?_
    refine lv_goto (tgt := 18) F.1 F.2.1 dX2_read_14 (by decide) ?_
    exact ret _ _ _ _ _ _ (⟨by rw [rdT_n hj, TM_t c1]; rfl, rfl⟩) w dX2_read_18
set_option maxHeartbeats 4000000 in
set_option maxRecDepth 100000 in
theorem mem_used (l : Launch) (G : FG) (M : MS)  : MetGi l yX2_used cX2_used 3 (some .int) 0 (.ref (G.2.1 0) :: []) G.1 (tM G) (wM G) M (fun r u => r = nI (cntT (TM M) 12) ∧ M = u) := by
  refine MetGi.ofI RX2 (by decide) rfl (Nat.le_of_ble_eq_true rfl) ?_
  intro p e s m args below meth c A Q H ls F w hl ret
  have hl : lv_has ls 3 [(0, .ref (G.2.1 0))] := hl
  refine lv_iconst (v := (nI 0)) F.1 F.2.1 dX2_used_0 (by decide) ?_
  refine lv_istore_n (lv' := [(1, .int (nI 0)), (0, .ref (G.2.1 0))]) F.1 F.2.1 dX2_used_1 rfl hl (by decide) rfl (fun ls hl => ?_)
  refine lv_iconst (v := (nI 0)) F.1 F.2.1 dX2_used_2 (by decide) ?_
  refine lv_istore_n (lv' := [(2, .int (nI 0)), (1, .int (nI 0)), (0, .ref (G.2.1 0))]) F.1 F.2.1 dX2_used_3 rfl hl (by decide) rfl (fun ls hl => ?_)
  have loop : ∀ (n i : Nat) (H : Heap) (locs : List Loc) (ls : Array Slot), i ≤ 12 → 12 + 1 ≤ i + n → WdM G M A s H locs → lv_has ls 3 [(0, .ref (G.2.1 0)), (1, .int (nI (cntT (TM M) i))), (2, .int (nI i))] → W p l e (rmD 0) s m args below meth c H locs 0 0 Q (F0 m 4 ls []) := by
    intro n
    induction n with
    | zero =>
      intro i H locs ls hi hn w hl
      exact absurd hn (by omega)
    | succ n ih =>
      intro i H locs ls hi hn w hl
      refine lv_iload_n F.1 F.2.1 dX2_used_4 rfl (lv_at hl 2 rfl) ?_
      refine lv_bipush (v := (nI 12)) F.1 F.2.1 dX2_used_5 (by decide) ?_
      refine b_ge (tgt := 28) F dX2_used_7 (by decide) (by omega) (by omega) (fun c1 => ?_) (fun c1 => ?_)
      · skip
        have hi12 : i = 12 := by omega
        refine lv_iload_n F.1 F.2.1 dX2_used_28 rfl (lv_at hl 1 rfl) ?_
        exact ret _ _ _ _ _ _ (⟨by rw [hi12], rfl⟩) w dX2_used_29
      · skip
        refine lv_aload_n F.1 F.2.1 dX2_used_10 rfl (lv_at hl 0 rfl) ?_
        refine m_gTh F w dX2_used_11 ?_
        refine lv_iload_n F.1 F.2.1 dX2_used_14 rfl (lv_at hl 2 rfl) ?_
        refine m_lTh F w (by omega) dX2_used_15 ?_
        refine z_eq (tgt := 22) F dX2_used_16 (by decide) (fun c2 => ?_) (fun c2 => ?_)
        · skip
          rw [← TM_some] at c2
          refine lv_iinc (v := (nI (i + 1))) (lv' := [(2, .int (nI (i + 1))), (0, .ref (G.2.1 0)), (1, .int (nI (cntT (TM M) i)))]) F.1 F.2.1 dX2_used_22 hl (k := 2) rfl (ninc i) (by decide) rfl (fun ls hl => ?_)
          refine lv_goto (tgt := 4) F.1 F.2.1 dX2_used_25 (by decide) ?_
          exact ih (i + 1) _ _ _ (by omega) (by omega) w (by rw [cntT_f c2]; exact lv_sub hl [1, 2, 0] rfl)
        · skip
          rw [← TM_some] at c2
          refine lv_iinc (v := (nI (cntT (TM M) i + 1))) (lv' := [(1, .int (nI (cntT (TM M) i + 1))), (0, .ref (G.2.1 0)), (2, .int (nI i))]) F.1 F.2.1 dX2_used_19 hl (k := 1) rfl (ninc (cntT (TM M) i)) (by decide) rfl (fun ls hl => ?_)
          refine lv_iinc (v := (nI (i + 1))) (lv' := [(2, .int (nI (i + 1))), (1, .int (nI (cntT (TM M) i + 1))), (0, .ref (G.2.1 0))]) F.1 F.2.1 dX2_used_22 hl (k := 2) rfl (ninc i) (by decide) rfl (fun ls hl => ?_)
          refine lv_goto (tgt := 4) F.1 F.2.1 dX2_used_25 (by decide) ?_
          exact ih (i + 1) _ _ _ (by omega) (by omega) w (by rw [cntT_t c2]; exact lv_sub hl [2, 1, 0] rfl)
  exact loop 13 0 _ _ _ (by omega) (by omega) w (lv_sub hl [2, 1, 0] rfl)
set_option maxHeartbeats 4000000 in
set_option maxRecDepth 100000 in
theorem mem_nextUsed (l : Launch) (G : FG) (M : MS) (q : Int32) : MetGi l yX2_nextUsed cX2_nextUsed 3 (some .int) 0 (.ref (G.2.1 0) :: [.int q]) G.1 (tM G) (wM G) M (fun r u => r = nxT (TM M) q 12 ∧ M = u) := by
  refine MetGi.ofI RX2 (by decide) rfl (Nat.le_of_ble_eq_true rfl) ?_
  intro p e s m args below meth c A Q H ls F w hl ret
  have hl : lv_has ls 3 [(0, .ref (G.2.1 0)), (1, .int q)] := hl
  refine lv_iconst (v := (nI 0)) F.1 F.2.1 dX2_nextUsed_0 (by decide) ?_
  refine lv_istore_n (lv' := [(2, .int (nI 0)), (0, .ref (G.2.1 0)), (1, .int q)]) F.1 F.2.1 dX2_nextUsed_1 rfl hl (by decide) rfl (fun ls hl => ?_)
  have loop : ∀ (n i : Nat) (H : Heap) (locs : List Loc) (ls : Array Slot), i ≤ 12 → 12 + 1 ≤ i + n → nxT (TM M) q 12 = nxT (TM M) q (12 - i) → WdM G M A s H locs → lv_has ls 3 [(0, .ref (G.2.1 0)), (1, .int q), (2, .int (nI i))] → W p l e (rmD 0) s m args below meth c H locs 0 0 Q (F0 m 2 ls []) := by
    intro n
    induction n with
    | zero =>
      intro i H locs ls hi hn hx w hl
      exact absurd hn (by omega)
    | succ n ih =>
      intro i H locs ls hi hn hx w hl
      refine lv_iload_n F.1 F.2.1 dX2_nextUsed_2 rfl (lv_at hl 2 rfl) ?_
      refine lv_bipush (v := (nI 12)) F.1 F.2.1 dX2_nextUsed_3 (by decide) ?_
      refine b_ge (tgt := 30) F dX2_nextUsed_5 (by decide) (by omega) (by omega) (fun c1 => ?_) (fun c1 => ?_)
      · skip
        have hi12 : i = 12 := by omega
        refine lv_bipush (v := (-2)) F.1 F.2.1 dX2_nextUsed_30 (by decide) ?_
        exact ret _ _ _ _ _ _ (⟨by rw [hx, hi12]; rfl, rfl⟩) w dX2_nextUsed_32
      · skip
        refine lv_iload_n F.1 F.2.1 dX2_nextUsed_8 rfl (lv_at hl 2 rfl) ?_
        refine lv_iload_n F.1 F.2.1 dX2_nextUsed_9 rfl (lv_at hl 1 rfl) ?_
        refine lv_icmp_le (tgt := 24) F.1 F.2.1 dX2_nextUsed_10 (by decide) (fun c2 => ?_) (fun c2 => ?_)
        · skip
          refine lv_iinc (v := (nI (i + 1))) (lv' := [(2, .int (nI (i + 1))), (0, .ref (G.2.1 0)), (1, .int q)]) F.1 F.2.1 dX2_nextUsed_24 hl (k := 2) rfl (ninc i) (by decide) rfl (fun ls hl => ?_)
          refine lv_goto (tgt := 2) F.1 F.2.1 dX2_nextUsed_27 (by decide) ?_
          exact ih (i + 1) _ _ _ (by omega) (by omega) (by rw [hx, nxT_f1 (by omega) (Int32.not_lt.mpr c2)]) w (lv_sub hl [1, 2, 0] rfl)
        · skip
          refine lv_aload_n F.1 F.2.1 dX2_nextUsed_13 rfl (lv_at hl 0 rfl) ?_
          refine m_gTh F w dX2_nextUsed_14 ?_
          refine lv_iload_n F.1 F.2.1 dX2_nextUsed_17 rfl (lv_at hl 2 rfl) ?_
          refine m_lTh F w (by omega) dX2_nextUsed_18 ?_
          refine z_eq (tgt := 24) F dX2_nextUsed_19 (by decide) (fun c3 => ?_) (fun c3 => ?_)
          · skip
            rw [← TM_some] at c3
            refine lv_iinc (v := (nI (i + 1))) (lv' := [(2, .int (nI (i + 1))), (0, .ref (G.2.1 0)), (1, .int q)]) F.1 F.2.1 dX2_nextUsed_24 hl (k := 2) rfl (ninc i) (by decide) rfl (fun ls hl => ?_)
            refine lv_goto (tgt := 2) F.1 F.2.1 dX2_nextUsed_27 (by decide) ?_
            exact ih (i + 1) _ _ _ (by omega) (by omega) (by rw [hx, nxT_f2 (by omega) c3]) w (lv_sub hl [1, 2, 0] rfl)
          · skip
            rw [← TM_some] at c3
            refine lv_iload_n F.1 F.2.1 dX2_nextUsed_22 rfl (lv_at hl 2 rfl) ?_
            exact ret _ _ _ _ _ _ (⟨by rw [hx, nxT_t (by omega) (Int32.not_le.mp c2) c3], rfl⟩) w dX2_nextUsed_23
  exact loop 13 0 _ _ _ (by omega) (by omega) rfl w (lv_sub hl [1, 2, 0] rfl)
set_option maxHeartbeats 4000000 in
set_option maxRecDepth 100000 in
theorem mem_total (l : Launch) (G : FG) (M : MS)  : MetGl l yX2_total cX2_total 4 (some .long) 3 (.ref (G.2.1 0) :: []) G.1 (tM G) (wM G) M (fun r u => r = sumT (TM M) 12 ∧ M = u) := by
  refine MetGl.ofL RX2 (by decide) rfl (Nat.le_of_ble_eq_true rfl) ?_
  intro p e s m args below meth c A Q H ls F w hl ret
  have hl : lv_has ls 4 [(0, .ref (G.2.1 0))] := hl
  refine lv_lconst (v := 0) F.1 F.2.1 dX2_total_0 (by decide) ?_
  refine lv_lstore_n (lv' := [(1, .long 0), (0, .ref (G.2.1 0))]) F.1 F.2.1 dX2_total_1 rfl hl (by decide) rfl (fun ls hl => ?_)
  refine lv_iconst (v := (nI 0)) F.1 F.2.1 dX2_total_2 (by decide) ?_
  refine lv_istore_n (lv' := [(3, .int (nI 0)), (1, .long 0), (0, .ref (G.2.1 0))]) F.1 F.2.1 dX2_total_3 rfl hl (by decide) rfl (fun ls hl => ?_)
  have loop : ∀ (n i : Nat) (H : Heap) (locs : List Loc) (ls : Array Slot), i ≤ 12 → 12 + 1 ≤ i + n → WdM G M A s H locs → lv_has ls 4 [(0, .ref (G.2.1 0)), (1, .long (sumT (TM M) i)), (3, .int (nI i))] → W p l e (rmD 3) s m args below meth c H locs 0 0 Q (F0 m 4 ls []) := by
    intro n
    induction n with
    | zero =>
      intro i H locs ls hi hn w hl
      exact absurd hn (by omega)
    | succ n ih =>
      intro i H locs ls hi hn w hl
      refine lv_iload_n F.1 F.2.1 dX2_total_4 rfl (lv_at hl 2 rfl) ?_
      refine lv_bipush (v := (nI 12)) F.1 F.2.1 dX2_total_5 (by decide) ?_
      refine b_ge (tgt := 25) F dX2_total_7 (by decide) (by omega) (by omega) (fun c1 => ?_) (fun c1 => ?_)
      · skip
        have hi12 : i = 12 := by omega
        refine lv_lload_n F.1 F.2.1 dX2_total_25 rfl (lv_at hl 1 rfl) ?_
        exact ret _ _ _ _ _ _ (⟨by rw [hi12], rfl⟩) w dX2_total_26
      · skip
        refine lv_lload_n F.1 F.2.1 dX2_total_10 rfl (lv_at hl 1 rfl) ?_
        refine lv_aload_n F.1 F.2.1 dX2_total_11 rfl (lv_at hl 0 rfl) ?_
        refine lv_iload_n F.1 F.2.1 dX2_total_12 rfl (lv_at hl 2 rfl) ?_
        refine g_calli F w (mem_read l G M (nI i)) rfl rfl rfl (cm_read F ⟨Nat.le_of_ble_eq_true rfl, Nat.le_of_ble_eq_true rfl⟩) rfl hl.1 rfl (Nat.le_of_ble_eq_true rfl) dX2_total_13 ⟨Nat.zero_le _, Nat.zero_le _⟩ (fun r M1 H locs hp w => ?_)
        obtain ⟨rfl, rfl⟩ := hp
        refine lv_i2l (v := (rdT (TM M) (nI i)).toInt64) F.1 F.2.1 dX2_total_16 rfl ?_
        refine lv_ladd F.1 F.2.1 dX2_total_17 ?_
        refine lv_lstore_n (lv' := [(1, .long ((sumT (TM M) i) + (rdT (TM M) (nI i)).toInt64)), (0, .ref (G.2.1 0)), (3, .int (nI i))]) F.1 F.2.1 dX2_total_18 rfl hl (by decide) rfl (fun ls hl => ?_)
        refine lv_iinc (v := (nI (i + 1))) (lv' := [(3, .int (nI (i + 1))), (1, .long ((sumT (TM M) i) + (rdT (TM M) (nI i)).toInt64)), (0, .ref (G.2.1 0))]) F.1 F.2.1 dX2_total_19 hl (k := 2) rfl (ninc i) (by decide) rfl (fun ls hl => ?_)
        refine lv_goto (tgt := 4) F.1 F.2.1 dX2_total_22 (by decide) ?_
        exact ih (i + 1) _ _ _ (by omega) (by omega) w (lv_sub hl [2, 1, 0] rfl)
  exact loop 13 0 _ _ _ (by omega) (by omega) w (lv_sub hl [2, 1, 0] rfl)
set_option maxHeartbeats 4000000 in
set_option maxRecDepth 100000 in
theorem mem_torn (l : Launch) (G : FG) (M : MS) (q v : Int32) : MetGi l yX2_torn cX2_torn 3 (some .int) 1 (.ref (G.2.1 0) :: [.int q, .int v]) G.1 (tM G) (wM G) M (fun r u => r = (if isPg q = true then q else -1) ∧ M = u) := by
  refine MetGi.ofI RX2 (by decide) rfl (Nat.le_of_ble_eq_true rfl) ?_
  intro p e s m args below meth c A Q H ls F w hl ret
  have hl : lv_has ls 3 [(0, .ref (G.2.1 0)), (1, .int q), (2, .int v)] := hl
  refine lv_aload_n F.1 F.2.1 dX2_torn_0 rfl (lv_at hl 0 rfl) ?_
  refine lv_iload_n F.1 F.2.1 dX2_torn_1 rfl (lv_at hl 1 rfl) ?_
  refine g_calli F w (mem_isPage l G M q) rfl rfl rfl (cm_isPage F ⟨Nat.le_of_ble_eq_true rfl, Nat.le_of_ble_eq_true rfl⟩) rfl hl.1 rfl (Nat.le_of_ble_eq_true rfl) dX2_torn_2 ⟨Nat.zero_le _, Nat.zero_le _⟩ (fun r M1 H locs hp w => ?_)
  obtain ⟨rfl, rfl⟩ := hp
  refine z_eq (tgt := 12) F dX2_torn_5 (by decide) (fun c1 => ?_) (fun c1 => ?_)
  · skip
    refine lv_iconst (v := (-1)) F.1 F.2.1 dX2_torn_12 (by decide) ?_
    exact ret _ _ _ _ _ _ (⟨by rw [if_neg (by rw [c1]; decide)], rfl⟩) w dX2_torn_13
  · skip
    refine lv_iload_n F.1 F.2.1 dX2_torn_8 rfl (lv_at hl 1 rfl) ?_
    refine lv_goto (tgt := 13) F.1 F.2.1 dX2_torn_9 (by decide) ?_
    exact ret _ _ _ _ _ _ (⟨by rw [if_pos c1], rfl⟩) w dX2_torn_13
set_option maxHeartbeats 4000000 in
set_option maxRecDepth 100000 in
theorem mem_powerCut (l : Launch) (G : FG) (M : MS)  : MetGi l yX2_powerCut cX2_powerCut 1 (some .int) 1 (.ref (G.2.1 0) :: []) G.1 (tM G) (wM G) M (fun r u => r = nI (cntT (TM M) 12) ∧ M = u) := by
  refine MetGi.ofI RX2 (by decide) rfl (Nat.le_of_ble_eq_true rfl) ?_
  intro p e s m args below meth c A Q H ls F w hl ret
  have hl : lv_has ls 1 [(0, .ref (G.2.1 0))] := hl
  refine lv_aload_n F.1 F.2.1 dX2_powerCut_0 rfl (lv_at hl 0 rfl) ?_
  refine g_calli F w (mem_used l G M) rfl rfl rfl (cm_used F ⟨Nat.le_of_ble_eq_true rfl, Nat.le_of_ble_eq_true rfl⟩) rfl hl.1 rfl (Nat.le_of_ble_eq_true rfl) dX2_powerCut_1 ⟨Nat.zero_le _, Nat.zero_le _⟩ (fun r M1 H locs hp w => ?_)
  obtain ⟨rfl, rfl⟩ := hp
  exact ret _ _ _ _ _ _ (⟨rfl, rfl⟩) w dX2_powerCut_4
set_option maxHeartbeats 4000000 in
set_option maxRecDepth 100000 in
theorem mem_write (l : Launch) (G : FG) (M : MS) (q v : Int32) : MetGi l yX2_write cX2_write 4 (some .int) 1 (.ref (G.2.1 0) :: [.int q, .int v]) G.1 (tM G) (wM G) M (fun r u => r = wrA (TM M) q ∧ TM u = wrT (TM M) q (some v)) := by
  refine MetGi.ofI RX2 (by decide) rfl (Nat.le_of_ble_eq_true rfl) ?_
  intro p e s m args below meth c A Q H ls F w hl ret
  have hl : lv_has ls 4 [(0, .ref (G.2.1 0)), (1, .int q), (2, .int v)] := hl
  refine lv_aload_n F.1 F.2.1 dX2_write_0 rfl (lv_at hl 0 rfl) ?_
  refine lv_iload_n F.1 F.2.1 dX2_write_1 rfl (lv_at hl 1 rfl) ?_
  refine g_calli F w (mem_isPage l G M q) rfl rfl rfl (cm_isPage F ⟨Nat.le_of_ble_eq_true rfl, Nat.le_of_ble_eq_true rfl⟩) rfl hl.1 rfl (Nat.le_of_ble_eq_true rfl) dX2_write_2 ⟨Nat.zero_le _, Nat.zero_le _⟩ (fun r M1 H locs hp w => ?_)
  obtain ⟨rfl, rfl⟩ := hp
  refine z_ne (tgt := 10) F dX2_write_5 (by decide) (fun c1 => ?_) (fun c1 => ?_)
  · skip
    obtain ⟨j, hj, rfl⟩ := isPg_t c1
    refine lv_aload_n F.1 F.2.1 dX2_write_10 rfl (lv_at hl 0 rfl) ?_
    refine m_gTh F w dX2_write_11 ?_
    refine lv_iload_n F.1 F.2.1 dX2_write_14 rfl (lv_at hl 1 rfl) ?_
    refine m_lTh F w (by omega) dX2_write_15 ?_
    have rest : ∀ (H : Heap) (locs : List Loc) (ls : Array Slot), WdM G M A s H locs → lv_has ls 4 [(0, .ref (G.2.1 0)), (1, .int (nI j)), (2, .int v)] → W p l e (rmD 1) s m args below meth c H locs 0 0 Q (F0 m 24 ls [.int (bI (mTh M j))]) := by
      intro H locs ls w hl
      refine lv_istore_n (lv' := [(3, .int (bI (mTh M j))), (0, .ref (G.2.1 0)), (1, .int (nI j)), (2, .int v)]) F.1 F.2.1 dX2_write_24 rfl hl (by decide) rfl (fun ls hl => ?_)
      refine lv_aload_n F.1 F.2.1 dX2_write_25 rfl (lv_at hl 1 rfl) ?_
      refine m_gVa F w dX2_write_26 ?_
      refine lv_iload_n F.1 F.2.1 dX2_write_29 rfl (lv_at hl 2 rfl) ?_
      refine lv_iload_n F.1 F.2.1 dX2_write_30 rfl (lv_at hl 3 rfl) ?_
      refine m_sVa F w v (by omega) dX2_write_31 (fun H locs w => ?_)
      have w : WdM G (fu (mVa M) j v, mTh M) A s H locs := w
      refine lv_aload_n F.1 F.2.1 dX2_write_32 rfl (lv_at hl 1 rfl) ?_
      refine m_gTh F w dX2_write_33 ?_
      refine lv_iload_n F.1 F.2.1 dX2_write_36 rfl (lv_at hl 2 rfl) ?_
      refine lv_iconst (v := (bI true)) F.1 F.2.1 dX2_write_37 (by decide) ?_
      refine m_sTh F w true (by omega) dX2_write_38 (fun H locs w => ?_)
      have w : WdM G (fu (mVa M) j v, fu (mTh M) j true) A s H locs := w
      refine lv_iload_n F.1 F.2.1 dX2_write_39 rfl (lv_at hl 0 rfl) ?_
      exact ret _ _ _ _ _ _ (⟨by rw [wrA_n hj, TM_some], by rw [wrT_n hj]; exact TM_set2 rfl⟩) w dX2_write_40
    refine z_eq (tgt := 23) F dX2_write_16 (by decide) (fun c2 => ?_) (fun c2 => ?_)
    · skip
      refine lv_iconst (v := (bI false)) F.1 F.2.1 dX2_write_23 (by decide) ?_
      rw [← c2]
      exact rest _ _ _ w hl
    · skip
      refine lv_iconst (v := (bI true)) F.1 F.2.1 dX2_write_19 (by decide) ?_
      refine lv_goto (tgt := 24) F.1 F.2.1 dX2_write_20 (by decide) ?_
      rw [← c2]
      exact rest _ _ _ w hl
  · skip
    refine lv_iconst (v := (-1)) F.1 F.2.1 dX2_write_8 (by decide) ?_
    exact ret _ _ _ _ _ _ (⟨(wrA_f c1).symm, by rw [wrT_f c1]⟩) w dX2_write_9
set_option maxHeartbeats 4000000 in
set_option maxRecDepth 100000 in
theorem mem_trim (l : Launch) (G : FG) (M : MS) (q : Int32) : MetGi l yX2_trim cX2_trim 3 (some .int) 1 (.ref (G.2.1 0) :: [.int q]) G.1 (tM G) (wM G) M (fun r u => r = wrA (TM M) q ∧ TM u = wrT (TM M) q none) := by
  refine MetGi.ofI RX2 (by decide) rfl (Nat.le_of_ble_eq_true rfl) ?_
  intro p e s m args below meth c A Q H ls F w hl ret
  have hl : lv_has ls 3 [(0, .ref (G.2.1 0)), (1, .int q)] := hl
  refine lv_aload_n F.1 F.2.1 dX2_trim_0 rfl (lv_at hl 0 rfl) ?_
  refine lv_iload_n F.1 F.2.1 dX2_trim_1 rfl (lv_at hl 1 rfl) ?_
  refine g_calli F w (mem_isPage l G M q) rfl rfl rfl (cm_isPage F ⟨Nat.le_of_ble_eq_true rfl, Nat.le_of_ble_eq_true rfl⟩) rfl hl.1 rfl (Nat.le_of_ble_eq_true rfl) dX2_trim_2 ⟨Nat.zero_le _, Nat.zero_le _⟩ (fun r M1 H locs hp w => ?_)
  obtain ⟨rfl, rfl⟩ := hp
  refine z_ne (tgt := 10) F dX2_trim_5 (by decide) (fun c1 => ?_) (fun c1 => ?_)
  · skip
    obtain ⟨j, hj, rfl⟩ := isPg_t c1
    refine lv_aload_n F.1 F.2.1 dX2_trim_10 rfl (lv_at hl 0 rfl) ?_
    refine m_gTh F w dX2_trim_11 ?_
    refine lv_iload_n F.1 F.2.1 dX2_trim_14 rfl (lv_at hl 1 rfl) ?_
    refine m_lTh F w (by omega) dX2_trim_15 ?_
    have rest : ∀ (H : Heap) (locs : List Loc) (ls : Array Slot), WdM G M A s H locs → lv_has ls 3 [(0, .ref (G.2.1 0)), (1, .int (nI j))] → W p l e (rmD 1) s m args below meth c H locs 0 0 Q (F0 m 24 ls [.int (bI (mTh M j))]) := by
      intro H locs ls w hl
      refine lv_istore_n (lv' := [(2, .int (bI (mTh M j))), (0, .ref (G.2.1 0)), (1, .int (nI j))]) F.1 F.2.1 dX2_trim_24 rfl hl (by decide) rfl (fun ls hl => ?_)
      refine lv_aload_n F.1 F.2.1 dX2_trim_25 rfl (lv_at hl 1 rfl) ?_
      refine m_gTh F w dX2_trim_26 ?_
      refine lv_iload_n F.1 F.2.1 dX2_trim_29 rfl (lv_at hl 2 rfl) ?_
      refine lv_iconst (v := (bI false)) F.1 F.2.1 dX2_trim_30 (by decide) ?_
      refine m_sTh F w false (by omega) dX2_trim_31 (fun H locs w => ?_)
      have w : WdM G (mVa M, fu (mTh M) j false) A s H locs := w
      refine lv_iload_n F.1 F.2.1 dX2_trim_32 rfl (lv_at hl 0 rfl) ?_
      exact ret _ _ _ _ _ _ (⟨by rw [wrA_n hj, TM_some], by rw [wrT_n hj]; exact TM_r⟩) w dX2_trim_33
    refine z_eq (tgt := 23) F dX2_trim_16 (by decide) (fun c2 => ?_) (fun c2 => ?_)
    · skip
      refine lv_iconst (v := (bI false)) F.1 F.2.1 dX2_trim_23 (by decide) ?_
      rw [← c2]
      exact rest _ _ _ w hl
    · skip
      refine lv_iconst (v := (bI true)) F.1 F.2.1 dX2_trim_19 (by decide) ?_
      refine lv_goto (tgt := 24) F.1 F.2.1 dX2_trim_20 (by decide) ?_
      rw [← c2]
      exact rest _ _ _ w hl
  · skip
    refine lv_iconst (v := (-1)) F.1 F.2.1 dX2_trim_8 (by decide) ?_
    exact ret _ _ _ _ _ _ (⟨(wrA_f c1).symm, by rw [wrT_f c1]⟩) w dX2_trim_9
end
section
set_option maxHeartbeats 4000000 in
set_option maxRecDepth 100000 in
theorem mem_exchange (l : Launch) (G : FG) (M : MS) (q q2 : Int32) : MetGi l yX2_exchange cX2_exchange 6 (some .int) 1 (.ref (G.2.1 0) :: [.int q, .int q2]) G.1 (tM G) (wM G) M (fun r u => r = exA (TM M) q q2 ∧ TM u = exT (TM M) q q2) := by
  refine MetGi.ofI RX2 (by decide) rfl (Nat.le_of_ble_eq_true rfl) ?_
  intro p e s m args below meth c A Q H ls F w hl ret
  have hl : lv_has ls 6 [(0, .ref (G.2.1 0)), (1, .int q), (2, .int q2)] := hl
  refine lv_aload_n F.1 F.2.1 dX2_exchange_0 rfl (lv_at hl 0 rfl) ?_
  refine lv_iload_n F.1 F.2.1 dX2_exchange_1 rfl (lv_at hl 1 rfl) ?_
  refine g_calli F w (mem_isPage l G M q) rfl rfl rfl (cm_isPage F ⟨Nat.le_of_ble_eq_true rfl, Nat.le_of_ble_eq_true rfl⟩) rfl hl.1 rfl (Nat.le_of_ble_eq_true rfl) dX2_exchange_2 ⟨Nat.zero_le _, Nat.zero_le _⟩ (fun r M1 H locs hp w => ?_)
  obtain ⟨rfl, rfl⟩ := hp
  refine z_eq (tgt := 16) F dX2_exchange_5 (by decide) (fun c1 => ?_) (fun c1 => ?_)
  · skip
    refine lv_iconst (v := (-1)) F.1 F.2.1 dX2_exchange_16 (by decide) ?_
    exact ret _ _ _ _ _ _ (⟨(exA_f (by rw [c1]; rfl)).symm, by rw [exT_f (by rw [c1]; rfl)]⟩) w dX2_exchange_17
  · skip
    refine lv_aload_n F.1 F.2.1 dX2_exchange_8 rfl (lv_at hl 0 rfl) ?_
    refine lv_iload_n F.1 F.2.1 dX2_exchange_9 rfl (lv_at hl 2 rfl) ?_
    refine g_calli F w (mem_isPage l G M q2) rfl rfl rfl (cm_isPage F ⟨Nat.le_of_ble_eq_true rfl, Nat.le_of_ble_eq_true rfl⟩) rfl hl.1 rfl (Nat.le_of_ble_eq_true rfl) dX2_exchange_10 ⟨Nat.zero_le _, Nat.zero_le _⟩ (fun r M1 H locs hp w => ?_)
    obtain ⟨rfl, rfl⟩ := hp
    refine z_ne (tgt := 18) F dX2_exchange_13 (by decide) (fun c2 => ?_) (fun c2 => ?_)
    · skip
      obtain ⟨j, hj, rfl⟩ := isPg_t c1
      obtain ⟨j2, hj2, rfl⟩ := isPg_t c2
      have rest : ∀ (r : Int32) (H : Heap) (locs : List Loc) (ls : Array Slot), r = exA (TM M) (nI j) (nI j2) → WdM G M A s H locs → lv_has ls 6 [(0, .ref (G.2.1 0)), (1, .int (nI j)), (2, .int (nI j2))] → W p l e (rmD 1) s m args below meth c H locs 0 0 Q (F0 m 47 ls [.int r]) := by
        intro r H locs ls hr w hl
        refine lv_istore_n (lv' := [(3, .int r), (0, .ref (G.2.1 0)), (1, .int (nI j)), (2, .int (nI j2))]) F.1 F.2.1 dX2_exchange_47 rfl hl (by decide) rfl (fun ls hl => ?_)
        refine lv_aload_n F.1 F.2.1 dX2_exchange_48 rfl (lv_at hl 1 rfl) ?_
        refine m_gTh F w dX2_exchange_49 ?_
        refine lv_iload_n F.1 F.2.1 dX2_exchange_52 rfl (lv_at hl 2 rfl) ?_
        refine m_lTh F w (by omega) dX2_exchange_53 ?_
        refine lv_istore (lv' := [(4, .int (bI (mTh M j))), (3, .int r), (0, .ref (G.2.1 0)), (1, .int (nI j)), (2, .int (nI j2))]) F.1 F.2.1 dX2_exchange_54 hl (by decide) rfl (fun ls hl => ?_)
        refine lv_aload_n F.1 F.2.1 dX2_exchange_56 rfl (lv_at hl 2 rfl) ?_
        refine m_gVa F w dX2_exchange_57 ?_
        refine lv_iload_n F.1 F.2.1 dX2_exchange_60 rfl (lv_at hl 3 rfl) ?_
        refine m_lVa F w (by omega) dX2_exchange_61 ?_
        refine lv_istore (lv' := [(5, .int (mVa M j)), (4, .int (bI (mTh M j))), (3, .int r), (0, .ref (G.2.1 0)), (1, .int (nI j)), (2, .int (nI j2))]) F.1 F.2.1 dX2_exchange_62 hl (by decide) rfl (fun ls hl => ?_)
        refine lv_aload_n F.1 F.2.1 dX2_exchange_64 rfl (lv_at hl 3 rfl) ?_
        refine m_gTh F w dX2_exchange_65 ?_
        refine lv_iload_n F.1 F.2.1 dX2_exchange_68 rfl (lv_at hl 4 rfl) ?_
        refine lv_aload_n F.1 F.2.1 dX2_exchange_69 rfl (lv_at hl 3 rfl) ?_
        refine m_gTh F w dX2_exchange_70 ?_
        refine lv_iload_n F.1 F.2.1 dX2_exchange_73 rfl (lv_at hl 5 rfl) ?_
        refine m_lTh F w (by omega) dX2_exchange_74 ?_
        refine m_sTh F w (mTh M j2) (by omega) dX2_exchange_75 (fun H locs w => ?_)
        have w : WdM G (mVa M, fu (mTh M) j (mTh M j2)) A s H locs := w
        refine lv_aload_n F.1 F.2.1 dX2_exchange_76 rfl (lv_at hl 3 rfl) ?_
        refine m_gVa F w dX2_exchange_77 ?_
        refine lv_iload_n F.1 F.2.1 dX2_exchange_80 rfl (lv_at hl 4 rfl) ?_
        refine lv_aload_n F.1 F.2.1 dX2_exchange_81 rfl (lv_at hl 3 rfl) ?_
        refine m_gVa F w dX2_exchange_82 ?_
        refine lv_iload_n F.1 F.2.1 dX2_exchange_85 rfl (lv_at hl 5 rfl) ?_
        refine m_lVa F w (by omega) dX2_exchange_86 ?_
        refine m_sVa F w ((mVa M) j2) (by omega) dX2_exchange_87 (fun H locs w => ?_)
        have w : WdM G (fu (mVa M) j ((mVa M) j2), fu (mTh M) j (mTh M j2)) A s H locs := w
        refine lv_aload_n F.1 F.2.1 dX2_exchange_88 rfl (lv_at hl 3 rfl) ?_
        refine m_gTh F w dX2_exchange_89 ?_
        refine lv_iload_n F.1 F.2.1 dX2_exchange_92 rfl (lv_at hl 5 rfl) ?_
        refine lv_iload F.1 F.2.1 dX2_exchange_93 (lv_at hl 1 rfl) ?_
        refine m_sTh F w (mTh M j) (by omega) dX2_exchange_95 (fun H locs w => ?_)
        have w : WdM G (fu (mVa M) j ((mVa M) j2), fu (fu (mTh M) j (mTh M j2)) j2 (mTh M j)) A s H locs := w
        refine lv_aload_n F.1 F.2.1 dX2_exchange_96 rfl (lv_at hl 3 rfl) ?_
        refine m_gVa F w dX2_exchange_97 ?_
        refine lv_iload_n F.1 F.2.1 dX2_exchange_100 rfl (lv_at hl 5 rfl) ?_
        refine lv_iload F.1 F.2.1 dX2_exchange_101 (lv_at hl 0 rfl) ?_
        refine m_sVa F w (mVa M j) (by omega) dX2_exchange_103 (fun H locs w => ?_)
        have w : WdM G (fu (fu (mVa M) j ((mVa M) j2)) j2 (mVa M j), fu (fu (mTh M) j (mTh M j2)) j2 (mTh M j)) A s H locs := w
        refine lv_iload_n F.1 F.2.1 dX2_exchange_104 rfl (lv_at hl 2 rfl) ?_
        exact ret _ _ _ _ _ _ (⟨hr, by rw [exT_n hj hj2, ← TM_set (M := M) (j := j) (i := j2)]; exact TM_set2 (M := (fu (mVa M) j (mVa M j2), fu (mTh M) j (mTh M j2))) rfl⟩) w dX2_exchange_105
      refine lv_aload_n F.1 F.2.1 dX2_exchange_18 rfl (lv_at hl 0 rfl) ?_
      refine m_gTh F w dX2_exchange_19 ?_
      refine lv_iload_n F.1 F.2.1 dX2_exchange_22 rfl (lv_at hl 1 rfl) ?_
      refine m_lTh F w (by omega) dX2_exchange_23 ?_
      refine z_eq (tgt := 31) F dX2_exchange_24 (by decide) (fun c3 => ?_) (fun c3 => ?_)
      · skip
        refine lv_iconst (v := 0) F.1 F.2.1 dX2_exchange_31 (by decide) ?_
        refine lv_aload_n F.1 F.2.1 dX2_exchange_32 rfl (lv_at hl 0 rfl) ?_
        refine m_gTh F w dX2_exchange_33 ?_
        refine lv_iload_n F.1 F.2.1 dX2_exchange_36 rfl (lv_at hl 2 rfl) ?_
        refine m_lTh F w (by omega) dX2_exchange_37 ?_
        refine z_eq (tgt := 45) F dX2_exchange_38 (by decide) (fun c4 => ?_) (fun c4 => ?_)
        · skip
          refine lv_iconst (v := 0) F.1 F.2.1 dX2_exchange_45 (by decide) ?_
          refine lv_iadd F.1 F.2.1 dX2_exchange_46 ?_
          exact rest _ _ _ _ (by rw [exA_n hj hj2, TM_some, TM_some, bI_f c3, bI_f c4]) w hl
        · skip
          refine lv_iconst (v := 1) F.1 F.2.1 dX2_exchange_41 (by decide) ?_
          refine lv_goto (tgt := 46) F.1 F.2.1 dX2_exchange_42 (by decide) ?_
          refine lv_iadd F.1 F.2.1 dX2_exchange_46 ?_
          exact rest _ _ _ _ (by rw [exA_n hj hj2, TM_some, TM_some, bI_f c3, bI_t c4]) w hl
      · skip
        refine lv_iconst (v := 1) F.1 F.2.1 dX2_exchange_27 (by decide) ?_
        refine lv_goto (tgt := 32) F.1 F.2.1 dX2_exchange_28 (by decide) ?_
        refine lv_aload_n F.1 F.2.1 dX2_exchange_32 rfl (lv_at hl 0 rfl) ?_
        refine m_gTh F w dX2_exchange_33 ?_
        refine lv_iload_n F.1 F.2.1 dX2_exchange_36 rfl (lv_at hl 2 rfl) ?_
        refine m_lTh F w (by omega) dX2_exchange_37 ?_
        refine z_eq (tgt := 45) F dX2_exchange_38 (by decide) (fun c4 => ?_) (fun c4 => ?_)
        · skip
          refine lv_iconst (v := 0) F.1 F.2.1 dX2_exchange_45 (by decide) ?_
          refine lv_iadd F.1 F.2.1 dX2_exchange_46 ?_
          exact rest _ _ _ _ (by rw [exA_n hj hj2, TM_some, TM_some, bI_t c3, bI_f c4]) w hl
        · skip
          refine lv_iconst (v := 1) F.1 F.2.1 dX2_exchange_41 (by decide) ?_
          refine lv_goto (tgt := 46) F.1 F.2.1 dX2_exchange_42 (by decide) ?_
          refine lv_iadd F.1 F.2.1 dX2_exchange_46 ?_
          exact rest _ _ _ _ (by rw [exA_n hj hj2, TM_some, TM_some, bI_t c3, bI_t c4]) w hl
    · skip
      refine lv_iconst (v := (-1)) F.1 F.2.1 dX2_exchange_16 (by decide) ?_
      exact ret _ _ _ _ _ _ (⟨(exA_f (by rw [c1, c2]; rfl)).symm, by rw [exT_f (by rw [c1, c2]; rfl)]⟩) w dX2_exchange_17
set_option maxHeartbeats 4000000 in
set_option maxRecDepth 100000 in
theorem mem_fill (l : Launch) (G : FG) (M : MS) (q q2 q3 : Int32) : MetGi l yX2_fill cX2_fill 7 (some .int) 1 (.ref (G.2.1 0) :: [.int q, .int q2, .int q3]) G.1 (tM G) (wM G) M (fun r u => r = flA q q2 q3 ∧ TM u = flT (TM M) q q2 q3) := by
  refine MetGi.ofI RX2 (by decide) rfl (Nat.le_of_ble_eq_true rfl) ?_
  intro p e s m args below meth c A Q H ls F w hl ret
  have hl : lv_has ls 7 [(0, .ref (G.2.1 0)), (1, .int q), (2, .int q2), (3, .int q3)] := hl
  refine lv_aload_n F.1 F.2.1 dX2_fill_0 rfl (lv_at hl 0 rfl) ?_
  refine lv_iload_n F.1 F.2.1 dX2_fill_1 rfl (lv_at hl 1 rfl) ?_
  refine g_calli F w (mem_isPage l G M q) rfl rfl rfl (cm_isPage F ⟨Nat.le_of_ble_eq_true rfl, Nat.le_of_ble_eq_true rfl⟩) rfl hl.1 rfl (Nat.le_of_ble_eq_true rfl) dX2_fill_2 ⟨Nat.zero_le _, Nat.zero_le _⟩ (fun r M1 H locs hp w => ?_)
  obtain ⟨rfl, rfl⟩ := hp
  refine z_eq (tgt := 29) F dX2_fill_5 (by decide) (fun c1 => ?_) (fun c1 => ?_)
  · skip
    refine lv_iconst (v := (-1)) F.1 F.2.1 dX2_fill_29 (by decide) ?_
    exact ret _ _ _ _ _ _ (⟨(flA_f (flC_f1 c1)).symm, by rw [flT_f (flC_f1 c1)]⟩) w dX2_fill_30
  · skip
    refine lv_aload_n F.1 F.2.1 dX2_fill_8 rfl (lv_at hl 0 rfl) ?_
    refine lv_iload_n F.1 F.2.1 dX2_fill_9 rfl (lv_at hl 2 rfl) ?_
    refine g_calli F w (mem_isPage l G M q2) rfl rfl rfl (cm_isPage F ⟨Nat.le_of_ble_eq_true rfl, Nat.le_of_ble_eq_true rfl⟩) rfl hl.1 rfl (Nat.le_of_ble_eq_true rfl) dX2_fill_10 ⟨Nat.zero_le _, Nat.zero_le _⟩ (fun r M1 H locs hp w => ?_)
    obtain ⟨rfl, rfl⟩ := hp
    refine z_eq (tgt := 29) F dX2_fill_13 (by decide) (fun c2 => ?_) (fun c2 => ?_)
    · skip
      refine lv_iconst (v := (-1)) F.1 F.2.1 dX2_fill_29 (by decide) ?_
      exact ret _ _ _ _ _ _ (⟨(flA_f (flC_f2 c2)).symm, by rw [flT_f (flC_f2 c2)]⟩) w dX2_fill_30
    · skip
      refine lv_aload_n F.1 F.2.1 dX2_fill_16 rfl (lv_at hl 0 rfl) ?_
      refine lv_iload_n F.1 F.2.1 dX2_fill_17 rfl (lv_at hl 3 rfl) ?_
      refine g_calli F w (mem_isPage l G M q3) rfl rfl rfl (cm_isPage F ⟨Nat.le_of_ble_eq_true rfl, Nat.le_of_ble_eq_true rfl⟩) rfl hl.1 rfl (Nat.le_of_ble_eq_true rfl) dX2_fill_18 ⟨Nat.zero_le _, Nat.zero_le _⟩ (fun r M1 H locs hp w => ?_)
      obtain ⟨rfl, rfl⟩ := hp
      refine z_eq (tgt := 29) F dX2_fill_21 (by decide) (fun c3 => ?_) (fun c3 => ?_)
      · skip
        refine lv_iconst (v := (-1)) F.1 F.2.1 dX2_fill_29 (by decide) ?_
        exact ret _ _ _ _ _ _ (⟨(flA_f (flC_f3 c3)).symm, by rw [flT_f (flC_f3 c3)]⟩) w dX2_fill_30
      · skip
        obtain ⟨j, hj, rfl⟩ := isPg_t c1
        obtain ⟨j2, hj2, rfl⟩ := isPg_t c2
        obtain ⟨j3, hj3, rfl⟩ := isPg_t c3
        refine lv_iload_n F.1 F.2.1 dX2_fill_24 rfl (lv_at hl 2 rfl) ?_
        refine lv_iload_n F.1 F.2.1 dX2_fill_25 rfl (lv_at hl 3 rfl) ?_
        refine b_le (tgt := 31) F dX2_fill_26 (by decide) (by omega) (by omega) (fun c4 => ?_) (fun c4 => ?_)
        · skip
          refine lv_aload_n F.1 F.2.1 dX2_fill_31 rfl (lv_at hl 0 rfl) ?_
          refine m_gTh F w dX2_fill_32 ?_
          refine lv_iload_n F.1 F.2.1 dX2_fill_35 rfl (lv_at hl 1 rfl) ?_
          refine m_lTh F w (by omega) dX2_fill_36 ?_
          refine lv_istore (lv' := [(4, .int (bI (mTh M j))), (0, .ref (G.2.1 0)), (1, .int (nI j)), (2, .int (nI j2)), (3, .int (nI j3))]) F.1 F.2.1 dX2_fill_37 hl (by decide) rfl (fun ls hl => ?_)
          refine lv_aload_n F.1 F.2.1 dX2_fill_39 rfl (lv_at hl 1 rfl) ?_
          refine m_gVa F w dX2_fill_40 ?_
          refine lv_iload_n F.1 F.2.1 dX2_fill_43 rfl (lv_at hl 2 rfl) ?_
          refine m_lVa F w (by omega) dX2_fill_44 ?_
          refine lv_istore (lv' := [(5, .int (mVa M j)), (4, .int (bI (mTh M j))), (0, .ref (G.2.1 0)), (1, .int (nI j)), (2, .int (nI j2)), (3, .int (nI j3))]) F.1 F.2.1 dX2_fill_45 hl (by decide) rfl (fun ls hl => ?_)
          refine lv_iload_n F.1 F.2.1 dX2_fill_47 rfl (lv_at hl 4 rfl) ?_
          refine lv_istore (lv' := [(6, .int (nI j2)), (5, .int (mVa M j)), (4, .int (bI (mTh M j))), (0, .ref (G.2.1 0)), (1, .int (nI j)), (2, .int (nI j2)), (3, .int (nI j3))]) F.1 F.2.1 dX2_fill_48 hl (by decide) rfl (fun ls hl => ?_)
          have loop : ∀ (n i : Nat) (M1 : MS) (H : Heap) (locs : List Loc) (ls : Array Slot), j2 + i ≤ j3 + 1 → j3 + 2 ≤ j2 + i + n → TM M1 = flN (TM M) (TM M j) j2 (j2 + i) → WdM G M1 A s H locs → lv_has ls 7 [(0, .ref (G.2.1 0)), (1, .int (nI j)), (2, .int (nI j2)), (3, .int (nI j3)), (4, .int (bI (mTh M j))), (5, .int (mVa M j)), (6, .int (nI (j2 + i)))] → W p l e (rmD 1) s m args below meth c H locs 0 0 Q (F0 m 50 ls []) := by
            intro n
            induction n with
            | zero =>
              intro i M1 H locs ls hi hn hI1 w hl
              exact absurd hn (by omega)
            | succ n ih =>
              intro i M1 H locs ls hi hn hI1 w hl
              refine lv_iload F.1 F.2.1 dX2_fill_50 (lv_at hl 6 rfl) ?_
              refine lv_iload_n F.1 F.2.1 dX2_fill_52 rfl (lv_at hl 3 rfl) ?_
              refine b_gt (tgt := 80) F dX2_fill_53 (by decide) (by omega) (by omega) (fun c5 => ?_) (fun c5 => ?_)
              · skip
                have hi3 : j2 + i = j3 + 1 := by omega
                rw [hi3] at hI1
                refine lv_iload_n F.1 F.2.1 dX2_fill_80 rfl (lv_at hl 3 rfl) ?_
                refine lv_iload_n F.1 F.2.1 dX2_fill_81 rfl (lv_at hl 2 rfl) ?_
                refine lv_isub F.1 F.2.1 dX2_fill_82 ?_
                refine lv_iconst (v := (nI 1)) F.1 F.2.1 dX2_fill_83 (by decide) ?_
                refine lv_iadd F.1 F.2.1 dX2_fill_84 ?_
                exact ret _ _ _ _ _ _ (⟨(flA_n hj hj2 hj3 c4).symm, by rw [flT_n hj hj2 hj3 c4]; exact hI1⟩) w dX2_fill_85
              · skip
                refine lv_aload_n F.1 F.2.1 dX2_fill_56 rfl (lv_at hl 0 rfl) ?_
                refine m_gTh F w dX2_fill_57 ?_
                refine lv_iload F.1 F.2.1 dX2_fill_60 (lv_at hl 6 rfl) ?_
                refine lv_iload F.1 F.2.1 dX2_fill_62 (lv_at hl 4 rfl) ?_
                refine m_sTh F w (mTh M j) (by omega) dX2_fill_64 (fun H locs w => ?_)
                have w : WdM G (mVa M1, fu (mTh M1) (j2 + i) (mTh M j)) A s H locs := w
                refine lv_aload_n F.1 F.2.1 dX2_fill_65 rfl (lv_at hl 0 rfl) ?_
                refine m_gVa F w dX2_fill_66 ?_
                refine lv_iload F.1 F.2.1 dX2_fill_69 (lv_at hl 6 rfl) ?_
                refine lv_iload F.1 F.2.1 dX2_fill_71 (lv_at hl 5 rfl) ?_
                refine m_sVa F w (mVa M j) (by omega) dX2_fill_73 (fun H locs w => ?_)
                have w : WdM G (fu (mVa M1) (j2 + i) (mVa M j), fu (mTh M1) (j2 + i) (mTh M j)) A s H locs := w
                refine lv_iinc (v := (nI (j2 + i + 1))) (lv' := [(6, .int (nI (j2 + i + 1))), (0, .ref (G.2.1 0)), (1, .int (nI j)), (2, .int (nI j2)), (3, .int (nI j3)), (4, .int (bI (mTh M j))), (5, .int (mVa M j))]) F.1 F.2.1 dX2_fill_74 hl (k := 6) rfl (ninc (j2 + i)) (by decide) rfl (fun ls hl => ?_)
                refine lv_goto (tgt := 50) F.1 F.2.1 dX2_fill_77 (by decide) ?_
                exact ih (i + 1) _ _ _ _ (by omega) (by omega) (by rw [show j2 + (i + 1) = j2 + i + 1 from rfl, ← flN_s _ _ (by omega), ← hI1]; exact TM_set2 rfl) w (lv_sub hl [1, 2, 3, 4, 5, 6, 0] rfl)
          exact loop (j3 + 2 - j2) 0 M _ _ _ (by omega) (by omega) (by rw [Nat.add_zero, flN_0]) w (lv_sub hl [3, 4, 5, 6, 2, 1, 0] rfl)
        · skip
          refine lv_iconst (v := (-1)) F.1 F.2.1 dX2_fill_29 (by decide) ?_
          exact ret _ _ _ _ _ _ (⟨(flA_f (flC_f4 hj2 hj3 c4)).symm, by rw [flT_f (flC_f4 hj2 hj3 c4)]⟩) w dX2_fill_30
end
section
theorem sp13 {x : Int32} (h1 : 1 ≤ x) (h3 : x ≤ 3) : ∃ sp : Nat, 1 ≤ sp ∧ sp ≤ 3 ∧ x = nI sp := by
  have h0 : ¬ x < 0 := by
    rw [Int32.lt_iff_toInt_lt]
    rw [Int32.le_iff_toInt_le] at h1
    have e1 : (1 : Int32).toInt = 1 := by decide
    have e0 : (0 : Int32).toInt = 0 := by decide
    omega
  obtain ⟨j, hj, rfl⟩ := nI_of2 (M := 3) (n := 3) (by decide) h0 h3
  refine ⟨j, ?_, hj, rfl⟩
  exact (nI_leI (a := 1) (b := j) (by decide) (by omega)).mp h1
abbrev b0F : List Value := [.null, .null, .null, .null, .null, .null, .int 0, .null, .int 0, .int 0]
abbrev b0M : List Value := [.null, .null]
def adF (h0 q1 q2 q3 q4 q5 q6 q7 : Nat) : Nat → Nat := fun k => match k with
  | 0 => h0
  | 1 => q1
  | 2 => q2
  | 3 => q3
  | 4 => q4
  | 5 => q5
  | 6 => q6
  | _ => q7
def caF (k1 k2 k3 k4 k5 k6 k7 : ClassId) : Nat → ClassId := fun k => match k with
  | 1 => k1
  | 2 => k2
  | 3 => k3
  | 4 => k4
  | 5 => k5
  | 6 => k6
  | _ => k7
def adM (h0 q1 q2 : Nat) : Nat → Nat := fun k => match k with
  | 0 => h0
  | 1 => q1
  | _ => q2
def caM (k1 k2 : ClassId) : Nat → ClassId := fun k => match k with
  | 1 => k1
  | _ => k2
set_option maxHeartbeats 4000000 in
set_option maxRecDepth 100000 in
theorem met_init (l : Launch) (D : va_G) (h0 sz : Nat) (x : Int32) : Met l yX1_init (ws_ yX1_init cX1_init 2 none) ({ frames := 2, cells := 7, slots := 180, locals := 60 }) (va_Pc [.ref h0, .int x] (fun U => U.heap.size = sz ∧ va_P D vwCl [(h0, .inr (0, b0F))] U.heap ∧ va_K D vwCl [] U ∧ va_D (fun _ => True) [(h0, .inr (0, b0F))]))
    (va_Qv (fun u : ((Nat → Nat) × (Nat → ClassId)) × FS => u.1.1 0 = h0 ∧ Inv u.2 (fun _ => none) 1) (fun u t => BG D (tF (D, u.1)) (va_A [(h0, .inr (0, b0F))] sz) (wF (D, u.1) u.2) t) (va_A [(h0, .inr (0, b0F))] sz)) 7 180 (va_A [(h0, .inr (0, b0F))] sz) := by
  refine Met.ofW (cc := cX1_init) (maxL := 2) (ret := none) (by decide) rfl ?_
  intro p e s m args below meth c s₁ B hml hv
  obtain ⟨rfl, hsz, hP, hK, hD0⟩ := hv
  have hx := B.exec
  have hb := B.bytes
  have hr := B.returns
  have hts := atoms_spec (ws := ws_ yX1_init cX1_init 2 none) B.pre
  have hts : ∀ w ∈ lw_all, w.before _ s = true := fun w h => hts w (List.mem_cons_of_mem _ h)
  have hown : s.vm.findClass RX1 = some m.cls := findClass_of_methodNamed B.named
  have hlocks := B.notSynchronized
  have hin : meth.name = "<init>" := (name_of_methodNamed B.named B.method).1
  subst hsz
  have F : CallFix p m c cX1_init 2 s ([.ref h0, .int x] : List Value).toArray lw_all RX1 := ⟨hx, hb, hml, hown, hts⟩
  have hD := hD0.self (sz := s.heap.size)
  generalize hAe : va_A [(h0, .inr (0, b0F))] s.heap.size = A at hD ⊢
  have hA : ∀ q : Nat, s.heap.size ≤ q → A q := fun q h => by rw [← hAe]; exact Or.inr h
  have hS : va_S A s.heap s.heap [] := va_S.rf
  have hP : va_P D vwCl [(h0, .inr (0, b0F))] s.heap := hP
  have hl := lv_entry ([.ref h0, .int x]) (n := 2) (Nat.le_of_ble_eq_true rfl)
  rw [lg_entry_eq]
  generalize (lg_sl ([.ref h0, .int x]) ++ List.replicate (2 - (lg_sl ([.ref h0, .int x])).length) Slot.unset).toArray = ls at hl ⊢
  have hl : lv_has ls 2 [(0, .ref h0), (1, .int x)] := hl
  refine lv_aload_n hx hb dX1_init_0 rfl (lv_at hl 0 rfl) ?_
  refine W.objInit hx hb hown (hts _ q23) (hts _ q24) (hts _ q25) rfl (by rw [hml]; exact hl.1) rfl dX1_init_1 (Nat.le_of_ble_eq_true rfl) (Nat.le_of_ble_eq_true rfl) ?_
  refine W.eq (g2 := F0 m 4 ls []) rfl ?_
  refine lv_aload_n hx hb dX1_init_4 rfl (lv_at hl 0 rfl) ?_
  refine lv_bipush (v := 32) hx hb dX1_init_5 (by decide) ?_
  refine va_newa (atype := .byte) (ty := .byte) (N' := 32) (a0 := (32, .inl (fun _ => nI 0))) hx hb (hts _ q65) rfl hK hP hD hS hA (fun _ => rfl) (by decide) (by decide) (by decide) (Nat.le_of_ble_eq_true rfl) (Nat.le_of_ble_eq_true rfl) dX1_init_7 (fun q1 k1 H hK hP hD hS => ?_)
  refine W.widen (k := 1) (n := 32) (by decide) (by decide) ?_
  have hP : va_P D vwCl [(h0, .inr (0, [.null, .null, .null, .null, .null, .null, .int 0, .null, .int 0, .int 0])), (q1, .inl (k1, 32, .inl (fun _ => nI 0)))] H := hP
  have hD : va_D A [(h0, .inr (0, [.null, .null, .null, .null, .null, .null, .int 0, .null, .int 0, .int 0])), (q1, .inl (k1, 32, .inl (fun _ => nI 0)))] := hD
  have hK : va_K D vwCl [(k1, .byte)] s := hK
  refine va_putF (D := D) (ci := 0) (v := .ref q1) (ty := .array .byte) (C := RX1) (T := TX1) (N := 10) hx hb hts in_X1 tyX1 tyX1_ok nmX1 hown hK hP hD hS 0 rfl rfl 0 (by decide) (hts _ q34) (fun _ h9 => h9) rfl hin rfl (by decide +kernel) rfl rfl (Nat.le_of_ble_eq_true rfl) dX1_init_9 (fun H locs hP hD hS => ?_)
  have hP : va_P D vwCl [(h0, .inr (0, [.ref q1, .null, .null, .null, .null, .null, .int 0, .null, .int 0, .int 0])), (q1, .inl (k1, 32, .inl (fun _ => nI 0)))] H := hP
  have hD : va_D A [(h0, .inr (0, [.ref q1, .null, .null, .null, .null, .null, .int 0, .null, .int 0, .int 0])), (q1, .inl (k1, 32, .inl (fun _ => nI 0)))] := hD
  refine lv_aload_n hx hb dX1_init_12 rfl (lv_at hl 0 rfl) ?_
  refine lv_bipush (v := 32) hx hb dX1_init_13 (by decide) ?_
  refine va_newa (atype := .int) (ty := .int) (N' := 32) (a0 := (32, .inl (fun _ => 0))) hx hb (hts _ q66) rfl hK hP hD hS hA (fun _ => rfl) (by decide) (by decide) (by decide) (Nat.le_of_ble_eq_true rfl) (Nat.le_of_ble_eq_true rfl) dX1_init_15 (fun q2 k2 H hK hP hD hS => ?_)
  refine W.widen (k := 2) (n := 64) (by decide) (by decide) ?_
  have hP : va_P D vwCl [(h0, .inr (0, [.ref q1, .null, .null, .null, .null, .null, .int 0, .null, .int 0, .int 0])), (q1, .inl (k1, 32, .inl (fun _ => nI 0))), (q2, .inl (k2, 32, .inl (fun _ => 0)))] H := hP
  have hD : va_D A [(h0, .inr (0, [.ref q1, .null, .null, .null, .null, .null, .int 0, .null, .int 0, .int 0])), (q1, .inl (k1, 32, .inl (fun _ => nI 0))), (q2, .inl (k2, 32, .inl (fun _ => 0)))] := hD
  have hK : va_K D vwCl [(k1, .byte), (k2, .int)] s := hK
  refine va_putF (D := D) (ci := 0) (v := .ref q2) (ty := .array .int) (C := RX1) (T := TX1) (N := 10) hx hb hts in_X1 tyX1 tyX1_ok nmX1 hown hK hP hD hS 0 rfl rfl 1 (by decide) (hts _ q35) (fun _ h9 => h9) rfl hin rfl (by decide +kernel) rfl rfl (Nat.le_of_ble_eq_true rfl) dX1_init_17 (fun H locs hP hD hS => ?_)
  have hP : va_P D vwCl [(h0, .inr (0, [.ref q1, .ref q2, .null, .null, .null, .null, .int 0, .null, .int 0, .int 0])), (q1, .inl (k1, 32, .inl (fun _ => nI 0))), (q2, .inl (k2, 32, .inl (fun _ => 0)))] H := hP
  have hD : va_D A [(h0, .inr (0, [.ref q1, .ref q2, .null, .null, .null, .null, .int 0, .null, .int 0, .int 0])), (q1, .inl (k1, 32, .inl (fun _ => nI 0))), (q2, .inl (k2, 32, .inl (fun _ => 0)))] := hD
  refine lv_aload_n hx hb dX1_init_20 rfl (lv_at hl 0 rfl) ?_
  refine lv_bipush (v := 32) hx hb dX1_init_21 (by decide) ?_
  refine va_newa (atype := .byte) (ty := .byte) (N' := 32) (a0 := (32, .inl (fun _ => nI 0))) hx hb (hts _ q65) rfl hK hP hD hS hA (fun _ => rfl) (by decide) (by decide) (by decide) (Nat.le_of_ble_eq_true rfl) (Nat.le_of_ble_eq_true rfl) dX1_init_23 (fun q3 k3 H hK hP hD hS => ?_)
  refine W.widen (k := 3) (n := 96) (by decide) (by decide) ?_
  have hP : va_P D vwCl [(h0, .inr (0, [.ref q1, .ref q2, .null, .null, .null, .null, .int 0, .null, .int 0, .int 0])), (q1, .inl (k1, 32, .inl (fun _ => nI 0))), (q2, .inl (k2, 32, .inl (fun _ => 0))), (q3, .inl (k3, 32, .inl (fun _ => nI 0)))] H := hP
  have hD : va_D A [(h0, .inr (0, [.ref q1, .ref q2, .null, .null, .null, .null, .int 0, .null, .int 0, .int 0])), (q1, .inl (k1, 32, .inl (fun _ => nI 0))), (q2, .inl (k2, 32, .inl (fun _ => 0))), (q3, .inl (k3, 32, .inl (fun _ => nI 0)))] := hD
  have hK : va_K D vwCl [(k1, .byte), (k2, .int), (k3, .byte)] s := hK
  refine va_putF (D := D) (ci := 0) (v := .ref q3) (ty := .array .byte) (C := RX1) (T := TX1) (N := 10) hx hb hts in_X1 tyX1 tyX1_ok nmX1 hown hK hP hD hS 0 rfl rfl 2 (by decide) (hts _ q36) (fun _ h9 => h9) rfl hin rfl (by decide +kernel) rfl rfl (Nat.le_of_ble_eq_true rfl) dX1_init_25 (fun H locs hP hD hS => ?_)
  have hP : va_P D vwCl [(h0, .inr (0, [.ref q1, .ref q2, .ref q3, .null, .null, .null, .int 0, .null, .int 0, .int 0])), (q1, .inl (k1, 32, .inl (fun _ => nI 0))), (q2, .inl (k2, 32, .inl (fun _ => 0))), (q3, .inl (k3, 32, .inl (fun _ => nI 0)))] H := hP
  have hD : va_D A [(h0, .inr (0, [.ref q1, .ref q2, .ref q3, .null, .null, .null, .int 0, .null, .int 0, .int 0])), (q1, .inl (k1, 32, .inl (fun _ => nI 0))), (q2, .inl (k2, 32, .inl (fun _ => 0))), (q3, .inl (k3, 32, .inl (fun _ => nI 0)))] := hD
  refine lv_aload_n hx hb dX1_init_28 rfl (lv_at hl 0 rfl) ?_
  refine lv_bipush (v := 32) hx hb dX1_init_29 (by decide) ?_
  refine va_newa (atype := .boolean) (ty := .boolean) (N' := 32) (a0 := (32, .inl (fun _ => bI false))) hx hb (hts _ q67) rfl hK hP hD hS hA (fun _ => rfl) (by decide) (by decide) (by decide) (Nat.le_of_ble_eq_true rfl) (Nat.le_of_ble_eq_true rfl) dX1_init_31 (fun q4 k4 H hK hP hD hS => ?_)
  refine W.widen (k := 4) (n := 128) (by decide) (by decide) ?_
  have hP : va_P D vwCl [(h0, .inr (0, [.ref q1, .ref q2, .ref q3, .null, .null, .null, .int 0, .null, .int 0, .int 0])), (q1, .inl (k1, 32, .inl (fun _ => nI 0))), (q2, .inl (k2, 32, .inl (fun _ => 0))), (q3, .inl (k3, 32, .inl (fun _ => nI 0))), (q4, .inl (k4, 32, .inl (fun _ => bI false)))] H := hP
  have hD : va_D A [(h0, .inr (0, [.ref q1, .ref q2, .ref q3, .null, .null, .null, .int 0, .null, .int 0, .int 0])), (q1, .inl (k1, 32, .inl (fun _ => nI 0))), (q2, .inl (k2, 32, .inl (fun _ => 0))), (q3, .inl (k3, 32, .inl (fun _ => nI 0))), (q4, .inl (k4, 32, .inl (fun _ => bI false)))] := hD
  have hK : va_K D vwCl [(k1, .byte), (k2, .int), (k3, .byte), (k4, .boolean)] s := hK
  refine va_putF (D := D) (ci := 0) (v := .ref q4) (ty := .array .boolean) (C := RX1) (T := TX1) (N := 10) hx hb hts in_X1 tyX1 tyX1_ok nmX1 hown hK hP hD hS 0 rfl rfl 3 (by decide) (hts _ q37) (fun _ h9 => h9) rfl hin rfl (by decide +kernel) rfl rfl (Nat.le_of_ble_eq_true rfl) dX1_init_33 (fun H locs hP hD hS => ?_)
  have hP : va_P D vwCl [(h0, .inr (0, [.ref q1, .ref q2, .ref q3, .ref q4, .null, .null, .int 0, .null, .int 0, .int 0])), (q1, .inl (k1, 32, .inl (fun _ => nI 0))), (q2, .inl (k2, 32, .inl (fun _ => 0))), (q3, .inl (k3, 32, .inl (fun _ => nI 0))), (q4, .inl (k4, 32, .inl (fun _ => bI false)))] H := hP
  have hD : va_D A [(h0, .inr (0, [.ref q1, .ref q2, .ref q3, .ref q4, .null, .null, .int 0, .null, .int 0, .int 0])), (q1, .inl (k1, 32, .inl (fun _ => nI 0))), (q2, .inl (k2, 32, .inl (fun _ => 0))), (q3, .inl (k3, 32, .inl (fun _ => nI 0))), (q4, .inl (k4, 32, .inl (fun _ => bI false)))] := hD
  refine lv_aload_n hx hb dX1_init_36 rfl (lv_at hl 0 rfl) ?_
  refine lv_bipush (v := 32) hx hb dX1_init_37 (by decide) ?_
  refine va_newa (atype := .int) (ty := .int) (N' := 32) (a0 := (32, .inl (fun _ => nI 0))) hx hb (hts _ q66) rfl hK hP hD hS hA (fun _ => rfl) (by decide) (by decide) (by decide) (Nat.le_of_ble_eq_true rfl) (Nat.le_of_ble_eq_true rfl) dX1_init_39 (fun q5 k5 H hK hP hD hS => ?_)
  refine W.widen (k := 5) (n := 160) (by decide) (by decide) ?_
  have hP : va_P D vwCl [(h0, .inr (0, [.ref q1, .ref q2, .ref q3, .ref q4, .null, .null, .int 0, .null, .int 0, .int 0])), (q1, .inl (k1, 32, .inl (fun _ => nI 0))), (q2, .inl (k2, 32, .inl (fun _ => 0))), (q3, .inl (k3, 32, .inl (fun _ => nI 0))), (q4, .inl (k4, 32, .inl (fun _ => bI false))), (q5, .inl (k5, 32, .inl (fun _ => nI 0)))] H := hP
  have hD : va_D A [(h0, .inr (0, [.ref q1, .ref q2, .ref q3, .ref q4, .null, .null, .int 0, .null, .int 0, .int 0])), (q1, .inl (k1, 32, .inl (fun _ => nI 0))), (q2, .inl (k2, 32, .inl (fun _ => 0))), (q3, .inl (k3, 32, .inl (fun _ => nI 0))), (q4, .inl (k4, 32, .inl (fun _ => bI false))), (q5, .inl (k5, 32, .inl (fun _ => nI 0)))] := hD
  have hK : va_K D vwCl [(k1, .byte), (k2, .int), (k3, .byte), (k4, .boolean), (k5, .int)] s := hK
  refine va_putF (D := D) (ci := 0) (v := .ref q5) (ty := .array .int) (C := RX1) (T := TX1) (N := 10) hx hb hts in_X1 tyX1 tyX1_ok nmX1 hown hK hP hD hS 0 rfl rfl 4 (by decide) (hts _ q38) (fun _ h9 => h9) rfl hin rfl (by decide +kernel) rfl rfl (Nat.le_of_ble_eq_true rfl) dX1_init_41 (fun H locs hP hD hS => ?_)
  have hP : va_P D vwCl [(h0, .inr (0, [.ref q1, .ref q2, .ref q3, .ref q4, .ref q5, .null, .int 0, .null, .int 0, .int 0])), (q1, .inl (k1, 32, .inl (fun _ => nI 0))), (q2, .inl (k2, 32, .inl (fun _ => 0))), (q3, .inl (k3, 32, .inl (fun _ => nI 0))), (q4, .inl (k4, 32, .inl (fun _ => bI false))), (q5, .inl (k5, 32, .inl (fun _ => nI 0)))] H := hP
  have hD : va_D A [(h0, .inr (0, [.ref q1, .ref q2, .ref q3, .ref q4, .ref q5, .null, .int 0, .null, .int 0, .int 0])), (q1, .inl (k1, 32, .inl (fun _ => nI 0))), (q2, .inl (k2, 32, .inl (fun _ => 0))), (q3, .inl (k3, 32, .inl (fun _ => nI 0))), (q4, .inl (k4, 32, .inl (fun _ => bI false))), (q5, .inl (k5, 32, .inl (fun _ => nI 0)))] := hD
  refine lv_aload_n hx hb dX1_init_44 rfl (lv_at hl 0 rfl) ?_
  refine lv_bipush (v := 8) hx hb dX1_init_45 (by decide) ?_
  refine va_newa (atype := .int) (ty := .int) (N' := 8) (a0 := (8, .inl (fun _ => 0))) hx hb (hts _ q66) rfl hK hP hD hS hA (fun _ => rfl) (by decide) (by decide) (by decide) (Nat.le_of_ble_eq_true rfl) (Nat.le_of_ble_eq_true rfl) dX1_init_47 (fun q6 k6 H hK hP hD hS => ?_)
  refine W.widen (k := 6) (n := 168) (by decide) (by decide) ?_
  have hP : va_P D vwCl [(h0, .inr (0, [.ref q1, .ref q2, .ref q3, .ref q4, .ref q5, .null, .int 0, .null, .int 0, .int 0])), (q1, .inl (k1, 32, .inl (fun _ => nI 0))), (q2, .inl (k2, 32, .inl (fun _ => 0))), (q3, .inl (k3, 32, .inl (fun _ => nI 0))), (q4, .inl (k4, 32, .inl (fun _ => bI false))), (q5, .inl (k5, 32, .inl (fun _ => nI 0))), (q6, .inl (k6, 8, .inl (fun _ => 0)))] H := hP
  have hD : va_D A [(h0, .inr (0, [.ref q1, .ref q2, .ref q3, .ref q4, .ref q5, .null, .int 0, .null, .int 0, .int 0])), (q1, .inl (k1, 32, .inl (fun _ => nI 0))), (q2, .inl (k2, 32, .inl (fun _ => 0))), (q3, .inl (k3, 32, .inl (fun _ => nI 0))), (q4, .inl (k4, 32, .inl (fun _ => bI false))), (q5, .inl (k5, 32, .inl (fun _ => nI 0))), (q6, .inl (k6, 8, .inl (fun _ => 0)))] := hD
  have hK : va_K D vwCl [(k1, .byte), (k2, .int), (k3, .byte), (k4, .boolean), (k5, .int), (k6, .int)] s := hK
  refine va_putF (D := D) (ci := 0) (v := .ref q6) (ty := .array .int) (C := RX1) (T := TX1) (N := 10) hx hb hts in_X1 tyX1 tyX1_ok nmX1 hown hK hP hD hS 0 rfl rfl 5 (by decide) (hts _ q39) (fun _ h9 => h9) rfl hin rfl (by decide +kernel) rfl rfl (Nat.le_of_ble_eq_true rfl) dX1_init_49 (fun H locs hP hD hS => ?_)
  have hP : va_P D vwCl [(h0, .inr (0, [.ref q1, .ref q2, .ref q3, .ref q4, .ref q5, .ref q6, .int 0, .null, .int 0, .int 0])), (q1, .inl (k1, 32, .inl (fun _ => nI 0))), (q2, .inl (k2, 32, .inl (fun _ => 0))), (q3, .inl (k3, 32, .inl (fun _ => nI 0))), (q4, .inl (k4, 32, .inl (fun _ => bI false))), (q5, .inl (k5, 32, .inl (fun _ => nI 0))), (q6, .inl (k6, 8, .inl (fun _ => 0)))] H := hP
  have hD : va_D A [(h0, .inr (0, [.ref q1, .ref q2, .ref q3, .ref q4, .ref q5, .ref q6, .int 0, .null, .int 0, .int 0])), (q1, .inl (k1, 32, .inl (fun _ => nI 0))), (q2, .inl (k2, 32, .inl (fun _ => 0))), (q3, .inl (k3, 32, .inl (fun _ => nI 0))), (q4, .inl (k4, 32, .inl (fun _ => bI false))), (q5, .inl (k5, 32, .inl (fun _ => nI 0))), (q6, .inl (k6, 8, .inl (fun _ => 0)))] := hD
  refine lv_aload_n hx hb dX1_init_52 rfl (lv_at hl 0 rfl) ?_
  refine lv_bipush (v := 12) hx hb dX1_init_53 (by decide) ?_
  refine va_newa (atype := .byte) (ty := .byte) (N' := 12) (a0 := (12, .inl (fun _ => oI (some 0)))) hx hb (hts _ q65) rfl hK hP hD hS hA (fun _ => rfl) (by decide) (by decide) (by decide) (Nat.le_of_ble_eq_true rfl) (Nat.le_of_ble_eq_true rfl) dX1_init_55 (fun q7 k7 H hK hP hD hS => ?_)
  refine W.widen (k := 7) (n := 180) (by decide) (by decide) ?_
  have hP : va_P D vwCl [(h0, .inr (0, [.ref q1, .ref q2, .ref q3, .ref q4, .ref q5, .ref q6, .int 0, .null, .int 0, .int 0])), (q1, .inl (k1, 32, .inl (fun _ => nI 0))), (q2, .inl (k2, 32, .inl (fun _ => 0))), (q3, .inl (k3, 32, .inl (fun _ => nI 0))), (q4, .inl (k4, 32, .inl (fun _ => bI false))), (q5, .inl (k5, 32, .inl (fun _ => nI 0))), (q6, .inl (k6, 8, .inl (fun _ => 0))), (q7, .inl (k7, 12, .inl (fun _ => oI (some 0))))] H := hP
  have hD : va_D A [(h0, .inr (0, [.ref q1, .ref q2, .ref q3, .ref q4, .ref q5, .ref q6, .int 0, .null, .int 0, .int 0])), (q1, .inl (k1, 32, .inl (fun _ => nI 0))), (q2, .inl (k2, 32, .inl (fun _ => 0))), (q3, .inl (k3, 32, .inl (fun _ => nI 0))), (q4, .inl (k4, 32, .inl (fun _ => bI false))), (q5, .inl (k5, 32, .inl (fun _ => nI 0))), (q6, .inl (k6, 8, .inl (fun _ => 0))), (q7, .inl (k7, 12, .inl (fun _ => oI (some 0))))] := hD
  have hK : va_K D vwCl [(k1, .byte), (k2, .int), (k3, .byte), (k4, .boolean), (k5, .int), (k6, .int), (k7, .byte)] s := hK
  refine va_putF (D := D) (ci := 0) (v := .ref q7) (ty := .array .byte) (C := RX1) (T := TX1) (N := 10) hx hb hts in_X1 tyX1 tyX1_ok nmX1 hown hK hP hD hS 0 rfl rfl 7 (by decide) (hts _ q41) (fun _ h9 => h9) rfl hin rfl (by decide +kernel) rfl rfl (Nat.le_of_ble_eq_true rfl) dX1_init_57 (fun H locs hP hD hS => ?_)
  have hP : va_P D vwCl [(h0, .inr (0, [.ref q1, .ref q2, .ref q3, .ref q4, .ref q5, .ref q6, .int 0, .ref q7, .int 0, .int 0])), (q1, .inl (k1, 32, .inl (fun _ => nI 0))), (q2, .inl (k2, 32, .inl (fun _ => 0))), (q3, .inl (k3, 32, .inl (fun _ => nI 0))), (q4, .inl (k4, 32, .inl (fun _ => bI false))), (q5, .inl (k5, 32, .inl (fun _ => nI 0))), (q6, .inl (k6, 8, .inl (fun _ => 0))), (q7, .inl (k7, 12, .inl (fun _ => oI (some 0))))] H := hP
  have hD : va_D A [(h0, .inr (0, [.ref q1, .ref q2, .ref q3, .ref q4, .ref q5, .ref q6, .int 0, .ref q7, .int 0, .int 0])), (q1, .inl (k1, 32, .inl (fun _ => nI 0))), (q2, .inl (k2, 32, .inl (fun _ => 0))), (q3, .inl (k3, 32, .inl (fun _ => nI 0))), (q4, .inl (k4, 32, .inl (fun _ => bI false))), (q5, .inl (k5, 32, .inl (fun _ => nI 0))), (q6, .inl (k6, 8, .inl (fun _ => 0))), (q7, .inl (k7, 12, .inl (fun _ => oI (some 0))))] := hD
  have tail : ∀ sp : Nat, 1 ≤ sp → sp ≤ 3 → W p l e (headSpec (ws_ yX1_init cX1_init 2 none) ({ frames := 2, cells := 7, slots := 180, locals := 60 })).room s m ([.ref h0, .int x] : List Value).toArray below meth c H locs 7 180 (MQ below (va_Qv (fun u : ((Nat → Nat) × (Nat → ClassId)) × FS => u.1.1 0 = h0 ∧ Inv u.2 (fun _ => none) 1) (fun u t => BG D (tF (D, u.1)) A (wF (D, u.1) u.2) t) A) ([.ref h0, .int x] : List Value).toArray s 7 180 A) (F0 m 80 ls [.int (nI sp), .ref h0]) := by
    intro sp hs1 hs3
    refine va_put (D := D) (ci := 0) (v := .int (nI sp)) (ty := .int) (C := RX1) (T := TX1) (N := 10) hx hb hts in_X1 tyX1 tyX1_ok nmX1 hown hK hP hD hS 0 rfl rfl 6 (by decide) (hts _ q40) (fun _ h9 => h9) rfl (by decide +kernel) rfl rfl (Nat.le_of_ble_eq_true rfl) dX1_init_80 (fun H locs hP hD hS => ?_)
    have hP : va_P D vwCl [(h0, .inr (0, [.ref q1, .ref q2, .ref q3, .ref q4, .ref q5, .ref q6, .int (nI sp), .ref q7, .int 0, .int 0])), (q1, .inl (k1, 32, .inl (fun _ => nI 0))), (q2, .inl (k2, 32, .inl (fun _ => 0))), (q3, .inl (k3, 32, .inl (fun _ => nI 0))), (q4, .inl (k4, 32, .inl (fun _ => bI false))), (q5, .inl (k5, 32, .inl (fun _ => nI 0))), (q6, .inl (k6, 8, .inl (fun _ => 0))), (q7, .inl (k7, 12, .inl (fun _ => oI (some 0))))] H := hP
    have hD : va_D A [(h0, .inr (0, [.ref q1, .ref q2, .ref q3, .ref q4, .ref q5, .ref q6, .int (nI sp), .ref q7, .int 0, .int 0])), (q1, .inl (k1, 32, .inl (fun _ => nI 0))), (q2, .inl (k2, 32, .inl (fun _ => 0))), (q3, .inl (k3, 32, .inl (fun _ => nI 0))), (q4, .inl (k4, 32, .inl (fun _ => bI false))), (q5, .inl (k5, 32, .inl (fun _ => nI 0))), (q6, .inl (k6, 8, .inl (fun _ => 0))), (q7, .inl (k7, 12, .inl (fun _ => oI (some 0))))] := hD
    have w : WdF (D, adF h0 q1 q2 q3 q4 q5 q6 q7, caF k1 k2 k3 k4 k5 k6 k7) (S00 sp (fun _ => some 0) (some 0) 0) A s H locs := ⟨hK, hP, hD, hS, hA⟩
    refine lv_aload_n hx hb dX1_init_83 rfl (lv_at hl 0 rfl) ?_
    refine g_callv F w (met_startUp l (D, adF h0 q1 q2 q3 q4 q5 q6 q7, caF k1 k2 k3 k4 k5 k6 k7) (S00 sp (fun _ => some 0) (some 0) 0) (Fsh_0 hs1 hs3) (by decide)) rfl rfl rfl (cw_startUp F ⟨Nat.le_of_ble_eq_true rfl, Nat.le_of_ble_eq_true rfl⟩) rfl hl.1 rfl (Nat.le_of_ble_eq_true rfl) dX1_init_84 ⟨Nat.le_of_ble_eq_true rfl, Nat.le_of_ble_eq_true rfl⟩ (fun S1 H locs hp w => ?_)
    obtain ⟨hK, hP, hD, hS, -⟩ := w
    exact W.vret hx hb hr (fun t ht hW => ⟨⟨((adF h0 q1 q2 q3 q4 q5 q6 q7, caF k1 k2 k3 k4 k5 k6 k7), S1), rfl, ⟨rfl, hp⟩, by rw [ht]; exact hP, va_K.moved hW.alike hK, hD⟩, hS.F ht⟩) hS.2.2 dX1_init_87 hlocks
  refine lv_aload_n hx hb dX1_init_60 rfl (lv_at hl 0 rfl) ?_
  refine lv_iload_n hx hb dX1_init_61 rfl (lv_at hl 1 rfl) ?_
  refine lv_iconst (v := 1) hx hb dX1_init_62 (by decide) ?_
  refine lv_icmp_ge (tgt := 70) hx hb dX1_init_63 (by decide) (fun c1 => ?_) (fun c1 => ?_)
  · refine lv_iload_n hx hb dX1_init_70 rfl (lv_at hl 1 rfl) ?_
    refine lv_iconst (v := 3) hx hb dX1_init_71 (by decide) ?_
    refine lv_icmp_le (tgt := 79) hx hb dX1_init_72 (by decide) (fun c2 => ?_) (fun c2 => ?_)
    · refine lv_iload_n hx hb dX1_init_79 rfl (lv_at hl 1 rfl) ?_
      obtain ⟨sp, h1, h3, rfl⟩ : ∃ sp : Nat, 1 ≤ sp ∧ sp ≤ 3 ∧ x = nI sp := sp13 c1 c2
      exact tail sp h1 h3
    · refine lv_iconst (v := nI 3) hx hb dX1_init_75 (by decide) ?_
      refine lv_goto (tgt := 80) hx hb dX1_init_76 (by decide) ?_
      exact tail 3 (by omega) (by omega)
  · refine lv_iconst (v := nI 1) hx hb dX1_init_66 (by decide) ?_
    refine lv_goto (tgt := 80) hx hb dX1_init_67 (by decide) ?_
    exact tail 1 (by omega) (by omega)
set_option maxHeartbeats 4000000 in
set_option maxRecDepth 100000 in
theorem mem_init (l : Launch) (D : va_G) (h0 sz : Nat) (x : Int32) : Met l yX2_init (ws_ yX2_init cX2_init 2 none) ({ frames := 1, cells := 2, slots := 24, locals := 30 }) (va_Pc [.ref h0, .int x] (fun U => U.heap.size = sz ∧ va_P D vwCl [(h0, .inr (1, b0M))] U.heap ∧ va_K D vwCl [] U ∧ va_D (fun _ => True) [(h0, .inr (1, b0M))]))
    (va_Qv (fun u : ((Nat → Nat) × (Nat → ClassId)) × MS => u.1.1 0 = h0 ∧ TM u.2 = fun _ => none) (fun u t => BG D (tM (D, u.1)) (va_A [(h0, .inr (1, b0M))] sz) (wM (D, u.1) u.2) t) (va_A [(h0, .inr (1, b0M))] sz)) 2 24 (va_A [(h0, .inr (1, b0M))] sz) := by
  refine Met.ofW (cc := cX2_init) (maxL := 2) (ret := none) (by decide) rfl ?_
  intro p e s m args below meth c s₁ B hml hv
  obtain ⟨rfl, hsz, hP, hK, hD0⟩ := hv
  have hx := B.exec
  have hb := B.bytes
  have hr := B.returns
  have hts := atoms_spec (ws := ws_ yX2_init cX2_init 2 none) B.pre
  have hts : ∀ w ∈ lw_all, w.before _ s = true := fun w h => hts w (List.mem_cons_of_mem _ h)
  have hown : s.vm.findClass RX2 = some m.cls := findClass_of_methodNamed B.named
  have hlocks := B.notSynchronized
  have hin : meth.name = "<init>" := (name_of_methodNamed B.named B.method).1
  subst hsz
  have F : CallFix p m c cX2_init 2 s ([.ref h0, .int x] : List Value).toArray lw_all RX2 := ⟨hx, hb, hml, hown, hts⟩
  have hD := hD0.self (sz := s.heap.size)
  generalize hAe : va_A [(h0, .inr (1, b0M))] s.heap.size = A at hD ⊢
  have hA : ∀ q : Nat, s.heap.size ≤ q → A q := fun q h => by rw [← hAe]; exact Or.inr h
  have hS : va_S A s.heap s.heap [] := va_S.rf
  have hP : va_P D vwCl [(h0, .inr (1, b0M))] s.heap := hP
  have hl := lv_entry ([.ref h0, .int x]) (n := 2) (Nat.le_of_ble_eq_true rfl)
  rw [lg_entry_eq]
  generalize (lg_sl ([.ref h0, .int x]) ++ List.replicate (2 - (lg_sl ([.ref h0, .int x])).length) Slot.unset).toArray = ls at hl ⊢
  have hl : lv_has ls 2 [(0, .ref h0), (1, .int x)] := hl
  refine lv_aload_n hx hb dX2_init_0 rfl (lv_at hl 0 rfl) ?_
  refine W.objInit hx hb hown (hts _ q172) (hts _ q24) (hts _ q25) rfl (by rw [hml]; exact hl.1) rfl dX2_init_1 (Nat.le_of_ble_eq_true rfl) (Nat.le_of_ble_eq_true rfl) ?_
  refine W.eq (g2 := F0 m 4 ls []) rfl ?_
  refine lv_aload_n hx hb dX2_init_4 rfl (lv_at hl 0 rfl) ?_
  refine lv_bipush (v := 12) hx hb dX2_init_5 (by decide) ?_
  refine va_newa (atype := .int) (ty := .int) (N' := 12) (a0 := (12, .inl (fun _ => 0))) hx hb (hts _ q66) rfl hK hP hD hS hA (fun _ => rfl) (by decide) (by decide) (by decide) (Nat.le_of_ble_eq_true rfl) (Nat.le_of_ble_eq_true rfl) dX2_init_7 (fun q1 k1 H hK hP hD hS => ?_)
  refine W.widen (k := 1) (n := 12) (by decide) (by decide) ?_
  have hP : va_P D vwCl [(h0, .inr (1, [.null, .null])), (q1, .inl (k1, 12, .inl (fun _ => 0)))] H := hP
  have hD : va_D A [(h0, .inr (1, [.null, .null])), (q1, .inl (k1, 12, .inl (fun _ => 0)))] := hD
  have hK : va_K D vwCl [(k1, .int)] s := hK
  refine va_put (D := D) (ci := 1) (v := .ref q1) (ty := .array .int) (C := RX2) (T := TX2) (N := 2) hx hb hts in_X2 tyX2 tyX2_ok nmX2 hown hK hP hD hS 0 rfl rfl 0 (by decide) (hts _ q173) (fun _ h9 => h9) rfl (by decide +kernel) rfl rfl (Nat.le_of_ble_eq_true rfl) dX2_init_9 (fun H locs hP hD hS => ?_)
  have hP : va_P D vwCl [(h0, .inr (1, [.ref q1, .null])), (q1, .inl (k1, 12, .inl (fun _ => 0)))] H := hP
  have hD : va_D A [(h0, .inr (1, [.ref q1, .null])), (q1, .inl (k1, 12, .inl (fun _ => 0)))] := hD
  refine lv_aload_n hx hb dX2_init_12 rfl (lv_at hl 0 rfl) ?_
  refine lv_bipush (v := 12) hx hb dX2_init_13 (by decide) ?_
  refine va_newa (atype := .boolean) (ty := .boolean) (N' := 12) (a0 := (12, .inl (fun _ => bI false))) hx hb (hts _ q67) rfl hK hP hD hS hA (fun _ => rfl) (by decide) (by decide) (by decide) (Nat.le_of_ble_eq_true rfl) (Nat.le_of_ble_eq_true rfl) dX2_init_15 (fun q2 k2 H hK hP hD hS => ?_)
  refine W.widen (k := 2) (n := 24) (by decide) (by decide) ?_
  have hP : va_P D vwCl [(h0, .inr (1, [.ref q1, .null])), (q1, .inl (k1, 12, .inl (fun _ => 0))), (q2, .inl (k2, 12, .inl (fun _ => bI false)))] H := hP
  have hD : va_D A [(h0, .inr (1, [.ref q1, .null])), (q1, .inl (k1, 12, .inl (fun _ => 0))), (q2, .inl (k2, 12, .inl (fun _ => bI false)))] := hD
  have hK : va_K D vwCl [(k1, .int), (k2, .boolean)] s := hK
  refine va_put (D := D) (ci := 1) (v := .ref q2) (ty := .array .boolean) (C := RX2) (T := TX2) (N := 2) hx hb hts in_X2 tyX2 tyX2_ok nmX2 hown hK hP hD hS 0 rfl rfl 1 (by decide) (hts _ q174) (fun _ h9 => h9) rfl (by decide +kernel) rfl rfl (Nat.le_of_ble_eq_true rfl) dX2_init_17 (fun H locs hP hD hS => ?_)
  have hP : va_P D vwCl [(h0, .inr (1, [.ref q1, .ref q2])), (q1, .inl (k1, 12, .inl (fun _ => 0))), (q2, .inl (k2, 12, .inl (fun _ => bI false)))] H := hP
  have hD : va_D A [(h0, .inr (1, [.ref q1, .ref q2])), (q1, .inl (k1, 12, .inl (fun _ => 0))), (q2, .inl (k2, 12, .inl (fun _ => bI false)))] := hD
  exact W.vret hx hb hr (fun t ht hW => ⟨⟨((adM h0 q1 q2, caM k1 k2), ((fun _ => 0), (fun _ => false))), rfl, ⟨rfl, rfl⟩, by rw [ht]; exact hP, va_K.moved hW.alike hK, hD⟩, hS.F ht⟩) hS.2.2 dX2_init_20 hlocks
end
section
set_option maxHeartbeats 4000000 in
set_option maxRecDepth 100000 in
/-- the law's cell(script, k): it returns -/
theorem met_cell (l : Launch) (b L : Nat) (xs : Nat → Int32) (hL : L ≤ 257) (k : Nat) (hk : k < 2 ^ 31) : Met l yX0_cell (ws_ yX0_cell cX0_cell 2 (some .int)) (rmD 0) (va_Pc [.ref b, .int (nI k)] (fun U => va_X b L xs U U.heap ∧ b < U.heap.size)) (va_Qi (fun (_ : Int32) (_ : Unit) => True) (fun _ _ => True) (fun _ => False)) 0 0 (fun _ => False) := by
  refine Met.ofW (cc := cX0_cell) (maxL := 2) (ret := some .int) (by decide) rfl ?_
  intro p e s m args below meth c s₁ B hml hv
  obtain ⟨rfl, hX, hbl⟩ := hv
  have hx := B.exec
  have hb := B.bytes
  have hr := B.returns
  have hlocks := B.notSynchronized
  have hS : va_S (fun _ => False) s.heap s.heap [] := va_S.rf
  have hl := lv_entry ([.ref b, .int (nI k)]) (n := 2) (Nat.le_of_ble_eq_true rfl)
  rw [lg_entry_eq]
  generalize (lg_sl ([.ref b, .int (nI k)]) ++ List.replicate (2 - (lg_sl ([.ref b, .int (nI k)])).length) Slot.unset).toArray = ls at hl ⊢
  have hl : lv_has ls 2 [(0, .ref b), (1, .int (nI k))] := hl
  refine lv_iload_n hx hb dX0_cell_0 rfl (lv_at hl 1 rfl) ?_
  refine lv_aload_n hx hb dX0_cell_1 rfl (lv_at hl 0 rfl) ?_
  refine va_slen hx hb hX hbl (fun h => h) hS dX0_cell_2 ?_
  refine lv_icmp_ge (tgt := 12) hx hb dX0_cell_3 (by decide) (fun c1 => ?_) (fun c1 => ?_)
  · refine lv_iconst (v := 0) hx hb dX0_cell_12 (by decide) ?_
    exact W.iret (v := 0) hx hb hr (fun t ht hW => ⟨⟨0, (), rfl, trivial, trivial⟩, hS.F ht⟩) hS.2.2 dX0_cell_13 hlocks
  · have hlt : k < L := Nat.lt_of_not_le (fun q => c1 (nI_le q hk))
    refine lv_aload_n hx hb dX0_cell_6 rfl (lv_at hl 0 rfl) ?_
    refine lv_iload_n hx hb dX0_cell_7 rfl (lv_at hl 1 rfl) ?_
    refine va_sld hx hb hX hbl (fun h => h) hS (vp_in_nI hlt (by omega)) dX0_cell_8 ?_
    refine lv_goto (tgt := 13) hx hb dX0_cell_9 (by decide) ?_
    exact W.iret hx hb hr (fun t ht hW => ⟨⟨_, (), rfl, trivial, trivial⟩, hS.F ht⟩) hS.2.2 dX0_cell_13 hlocks
theorem hd_X0_cell : yX0_cell.cls ≠ "java/lang/invoke/MethodHandle" ∧ yX0_cell.cls ≠ "java/lang/invoke/VarHandle" ∧ (parseMethodDescriptor yX0_cell.desc).map (fun d => d.parameters.length) = some 2 := by decide +kernel
theorem gd_i {L i : Nat} (hL : L ≤ 257) (hi : i < 2 ^ 30) (h : ¬ nI L - nI 4 < nI i) : i + 4 ≤ L := by
  rw [Int32.lt_iff_toInt_lt, pk_sub_toInt (by omega) (by decide), nI_toInt (by omega)] at h
  omega
section LR
variable {p : Program} {l : Launch} {e : Env} {R : Room} {s : State} {m : MethodId} {below : List Frame} {meth : Method} {c : Code} {H : Heap} {locs : List Loc} {cells slots : Nat} {Q : State → Prop}
variable {pc : Nat} {ls : Array Slot} {rest st0 : List Value} {D : va_G} {ws : va_W} {tys : List (ClassId × FieldType)} {b L : Nat} {xs : Nat → Int32} {ad ad2 : Nat → Nat} {ca ca2 : Nat → ClassId} {S : FS} {M : MS}
variable {idx n maxL d : Nat} {y : MethodName} {bb : ByteArray} {rt : Option FieldType} {As : List Value}
theorem l_ld (F : CallFix p m c cL_law 4 s #[Value.ref b] lw_all RX0) (hX : va_X b L xs s s.heap) (hbl : b < s.heap.size) (w : Wd D ws tys (fun q => s.heap.size ≤ q) s H locs) {k : Nat} (hk : k < L) (hL : L ≤ 257) (hdg : decode cL_law pc = .ok (.iaload, 1)) (kk : W p l e R s m #[Value.ref b] below meth c H locs cells slots Q (F0 m (pc + 1) ls (.int (xs k) :: rest))) : W p l e R s m #[Value.ref b] below meth c H locs cells slots Q (F0 m pc ls (.int (nI k) :: .ref b :: rest)) := by
  refine va_sld F.1 F.2.1 hX hbl (Nat.not_le.mpr hbl) w.2.2.2.1 (vp_in_nI hk (by omega)) hdg ?_
  rw [nI_clamp (by omega)]
  exact kk
theorem l_len (F : CallFix p m c cL_law 4 s #[Value.ref b] lw_all RX0) (hX : va_X b L xs s s.heap) (hbl : b < s.heap.size) (w : Wd D ws tys (fun q => s.heap.size ≤ q) s H locs) (hdg : decode cL_law pc = .ok (.arraylength, 1)) (kk : W p l e R s m #[Value.ref b] below meth c H locs cells slots Q (F0 m (pc + 1) ls (.int (nI L) :: rest))) : W p l e R s m #[Value.ref b] below meth c H locs cells slots Q (F0 m pc ls (.ref b :: rest)) :=
  va_slen F.1 F.2.1 hX hbl (Nat.not_le.mpr hbl) w.2.2.2.1 hdg kk
/-- both objects, FlashMap's cells first -/
abbrev WdL (D : va_G) (ad : Nat → Nat) (ca : Nat → ClassId) (S : FS) (ad2 : Nat → Nat) (ca2 : Nat → ClassId) (M : MS) (s : State) (H : Heap) (locs : List Loc) : Prop := Wd D (wF (D, ad, ca) S ++ wM (D, ad2, ca2) M) (tF (D, ad, ca) ++ tM (D, ad2, ca2)) (fun q => s.heap.size ≤ q) s H locs
abbrev WdR (D : va_G) (ad : Nat → Nat) (ca : Nat → ClassId) (S : FS) (ad2 : Nat → Nat) (ca2 : Nat → ClassId) (M : MS) (s : State) (H : Heap) (locs : List Loc) : Prop := Wd D (wM (D, ad2, ca2) M ++ wF (D, ad, ca) S) (tM (D, ad2, ca2) ++ tF (D, ad, ca)) (fun q => s.heap.size ≤ q) s H locs
theorem l_Fi {post : Int32 → FS → Prop} (F : CallFix p m c cL_law 4 s #[Value.ref b] lw_all RX0) (w : WdL D ad ca S ad2 ca2 M s H locs) (hM : MetGi l y bb maxL rt d (.ref (ad 0) :: As) D (tF (D, ad, ca)) (wF (D, ad, ca)) S post)
    (cw : CallW R s #[Value.ref b] RX0 RX1 idx y bb maxL rt (ws_ y bb maxL rt) (rmD d) 0 0 n) (hn : As.length = n) (hsz : ls.size = 4) (hst : st0 = As.reverse ++ .ref (ad 0) :: rest) (hrm : (rest.map fun v => v.category).sum ≤ 8) (hdg : decode cL_law pc = .ok (.invokevirtual idx, 3)) (hcs : cells ≤ R.cells ∧ slots ≤ R.slots)
    (kk : ∀ (r : Int32) (u : FS) (H1 : Heap) (locs1 : List Loc), post r u → WdR D ad ca u ad2 ca2 M s H1 locs1 → W p l e R s m #[Value.ref b] below meth c H1 locs1 cells slots Q (F0 m (pc + 3) ls (.int r :: rest))) : W p l e R s m #[Value.ref b] below meth c H locs cells slots Q (F0 m pc ls st0) :=
  g_callLi F w [0, 1, 2, 3, 4, 5, 6, 7] [8, 9, 10] [0, 1, 2, 3, 4, 5, 6] [7, 8] rfl rfl (by decide) (by decide) (by decide) rfl rfl rfl hM rfl rfl rfl cw hn hsz hst hrm hdg hcs kk
theorem l_Mi {post : Int32 → MS → Prop} (F : CallFix p m c cL_law 4 s #[Value.ref b] lw_all RX0) (w : WdR D ad ca S ad2 ca2 M s H locs) (hM : MetGi l y bb maxL rt d (.ref (ad2 0) :: As) D (tM (D, ad2, ca2)) (wM (D, ad2, ca2)) M post)
    (cw : CallW R s #[Value.ref b] RX0 RX2 idx y bb maxL rt (ws_ y bb maxL rt) (rmD d) 0 0 n) (hn : As.length = n) (hsz : ls.size = 4) (hst : st0 = As.reverse ++ .ref (ad2 0) :: rest) (hrm : (rest.map fun v => v.category).sum ≤ 8) (hdg : decode cL_law pc = .ok (.invokevirtual idx, 3)) (hcs : cells ≤ R.cells ∧ slots ≤ R.slots)
    (kk : ∀ (r : Int32) (u : MS) (H1 : Heap) (locs1 : List Loc), post r u → WdL D ad ca S ad2 ca2 u s H1 locs1 → W p l e R s m #[Value.ref b] below meth c H1 locs1 cells slots Q (F0 m (pc + 3) ls (.int r :: rest))) : W p l e R s m #[Value.ref b] below meth c H locs cells slots Q (F0 m pc ls st0) :=
  g_callLi F w [0, 1, 2] [3, 4, 5, 6, 7, 8, 9, 10] [0, 1] [2, 3, 4, 5, 6, 7, 8] rfl rfl (by decide) (by decide) (by decide) rfl rfl rfl hM rfl rfl rfl cw hn hsz hst hrm hdg hcs kk
theorem l_Fl {post : Int64 → FS → Prop} (F : CallFix p m c cL_law 4 s #[Value.ref b] lw_all RX0) (w : WdL D ad ca S ad2 ca2 M s H locs) (hM : MetGl l y bb maxL rt d (.ref (ad 0) :: As) D (tF (D, ad, ca)) (wF (D, ad, ca)) S post)
    (cw : CallW R s #[Value.ref b] RX0 RX1 idx y bb maxL rt (ws_ y bb maxL rt) (rmD d) 0 0 n) (hn : As.length = n) (hsz : ls.size = 4) (hst : st0 = As.reverse ++ .ref (ad 0) :: rest) (hrm : (rest.map fun v => v.category).sum ≤ 8) (hdg : decode cL_law pc = .ok (.invokevirtual idx, 3)) (hcs : cells ≤ R.cells ∧ slots ≤ R.slots)
    (kk : ∀ (r : Int64) (u : FS) (H1 : Heap) (locs1 : List Loc), post r u → WdR D ad ca u ad2 ca2 M s H1 locs1 → W p l e R s m #[Value.ref b] below meth c H1 locs1 cells slots Q (F0 m (pc + 3) ls (.long r :: rest))) : W p l e R s m #[Value.ref b] below meth c H locs cells slots Q (F0 m pc ls st0) :=
  g_callLl F w [0, 1, 2, 3, 4, 5, 6, 7] [8, 9, 10] [0, 1, 2, 3, 4, 5, 6] [7, 8] rfl rfl (by decide) (by decide) (by decide) rfl rfl rfl hM rfl rfl rfl cw hn hsz hst hrm hdg hcs kk
theorem l_Ml {post : Int64 → MS → Prop} (F : CallFix p m c cL_law 4 s #[Value.ref b] lw_all RX0) (w : WdR D ad ca S ad2 ca2 M s H locs) (hM : MetGl l y bb maxL rt d (.ref (ad2 0) :: As) D (tM (D, ad2, ca2)) (wM (D, ad2, ca2)) M post)
    (cw : CallW R s #[Value.ref b] RX0 RX2 idx y bb maxL rt (ws_ y bb maxL rt) (rmD d) 0 0 n) (hn : As.length = n) (hsz : ls.size = 4) (hst : st0 = As.reverse ++ .ref (ad2 0) :: rest) (hrm : (rest.map fun v => v.category).sum ≤ 8) (hdg : decode cL_law pc = .ok (.invokevirtual idx, 3)) (hcs : cells ≤ R.cells ∧ slots ≤ R.slots)
    (kk : ∀ (r : Int64) (u : MS) (H1 : Heap) (locs1 : List Loc), post r u → WdL D ad ca S ad2 ca2 u s H1 locs1 → W p l e R s m #[Value.ref b] below meth c H1 locs1 cells slots Q (F0 m (pc + 3) ls (.long r :: rest))) : W p l e R s m #[Value.ref b] below meth c H locs cells slots Q (F0 m pc ls st0) :=
  g_callLl F w [0, 1, 2] [3, 4, 5, 6, 7, 8, 9, 10] [0, 1] [2, 3, 4, 5, 6, 7, 8] rfl rfl (by decide) (by decide) (by decide) rfl rfl rfl hM rfl rfl rfl cw hn hsz hst hrm hdg hcs kk
end LR
end
section
set_option maxHeartbeats 4000000 in
set_option maxRecDepth 100000 in
theorem lc_write (l : Launch) {p : Program} {e : Env} {s : State} {m : MethodId} {below : List Frame} {meth : Method} {c : Code} {H : Heap} {locs : List Loc} {Q : State → Prop} {ls : Array Slot} {D : va_G} {b L : Nat} {xs : Nat → Int32} {ad ad2 : Nat → Nat} {ca ca2 : Nat → ClassId} {S : FS} {M : MS} {N i : Nat}
    (F : CallFix p m c cL_law 4 s #[Value.ref b] lw_all RX0) (hX : va_X b L xs s s.heap) (hbl : b < s.heap.size) (hL : L ≤ 257) (hi : i + 4 ≤ L) (hN : N + 60 < 2 ^ 30) (hI : Inv S (TM M) N) (w : WdL D ad ca S ad2 ca2 M s H locs) (hl : lv_has ls 4 [(0, .ref b), (1, .ref (ad 0)), (2, .ref (ad2 0)), (3, .int (nI i))])
    (next : ∀ (S1 : FS) (M1 : MS) (H1 : Heap) (locs1 : List Loc), Inv S1 (TM M1) (N + 60) → WdL D ad ca S1 ad2 ca2 M1 s H1 locs1 → W p l e room_1 s m #[Value.ref b] below meth c H1 locs1 600000 7290000 Q (F0 m 374 ls [])) : W p l e room_1 s m #[Value.ref b] below meth c H locs 600000 7290000 Q (F0 m 100 ls []) := by
  refine lv_aload_n F.1 F.2.1 dL_law_100 rfl (lv_at hl 1 rfl) ?_
  refine lv_aload_n F.1 F.2.1 dL_law_101 rfl (lv_at hl 0 rfl) ?_
  refine lv_iload_n F.1 F.2.1 dL_law_102 rfl (lv_at hl 3 rfl) ?_
  refine lv_iconst (v := (nI 1)) F.1 F.2.1 dL_law_103 (by decide) ?_
  refine lv_iadd F.1 F.2.1 dL_law_104 ?_
  refine tp_i (nI_add i 1) ?_
  refine l_ld F hX hbl w (by omega) hL dL_law_105 ?_
  refine lv_aload_n F.1 F.2.1 dL_law_106 rfl (lv_at hl 0 rfl) ?_
  refine lv_iload_n F.1 F.2.1 dL_law_107 rfl (lv_at hl 3 rfl) ?_
  refine lv_iconst (v := (nI 2)) F.1 F.2.1 dL_law_108 (by decide) ?_
  refine lv_iadd F.1 F.2.1 dL_law_109 ?_
  refine tp_i (nI_add i 2) ?_
  refine l_ld F hX hbl w (by omega) hL dL_law_110 ?_
  refine l_Fi F w (met_write l (D, ad, ca) S hI (by omega) (xs (i + 1)) (xs (i + 2))) (cl_write F ⟨Nat.le_of_ble_eq_true rfl, Nat.le_of_ble_eq_true rfl⟩) rfl hl.1 rfl (Nat.le_of_ble_eq_true rfl) dL_law_111 ⟨Nat.le_refl _, Nat.le_refl _⟩ (fun r1 S1 H locs hp1 w => ?_)
  refine lv_aload_n F.1 F.2.1 dL_law_114 rfl (lv_at hl 2 rfl) ?_
  refine lv_aload_n F.1 F.2.1 dL_law_115 rfl (lv_at hl 0 rfl) ?_
  refine lv_iload_n F.1 F.2.1 dL_law_116 rfl (lv_at hl 3 rfl) ?_
  refine lv_iconst (v := (nI 1)) F.1 F.2.1 dL_law_117 (by decide) ?_
  refine lv_iadd F.1 F.2.1 dL_law_118 ?_
  refine tp_i (nI_add i 1) ?_
  refine l_ld F hX hbl w (by omega) hL dL_law_119 ?_
  refine lv_aload_n F.1 F.2.1 dL_law_120 rfl (lv_at hl 0 rfl) ?_
  refine lv_iload_n F.1 F.2.1 dL_law_121 rfl (lv_at hl 3 rfl) ?_
  refine lv_iconst (v := (nI 2)) F.1 F.2.1 dL_law_122 (by decide) ?_
  refine lv_iadd F.1 F.2.1 dL_law_123 ?_
  refine tp_i (nI_add i 2) ?_
  refine l_ld F hX hbl w (by omega) hL dL_law_124 ?_
  refine l_Mi F w (mem_write l (D, ad2, ca2) M (xs (i + 1)) (xs (i + 2))) (ck_write F ⟨Nat.le_of_ble_eq_true rfl, Nat.le_of_ble_eq_true rfl⟩) rfl hl.1 rfl (Nat.le_of_ble_eq_true rfl) dL_law_125 ⟨Nat.le_refl _, Nat.le_refl _⟩ (fun r2 M1 H locs hp2 w => ?_)
  refine lv_icmp_eq (tgt := 374) F.1 F.2.1 dL_law_128 (by decide) (fun c1 => ?_) (fun c1 => absurd (hp1.1.trans hp2.1.symm) c1)
  exact next S1 M1 _ _ (by rw [hp2.2]; exact hp1.2.mono (by omega)) w
set_option maxHeartbeats 4000000 in
set_option maxRecDepth 100000 in
theorem lc_torn (l : Launch) {p : Program} {e : Env} {s : State} {m : MethodId} {below : List Frame} {meth : Method} {c : Code} {H : Heap} {locs : List Loc} {Q : State → Prop} {ls : Array Slot} {D : va_G} {b L : Nat} {xs : Nat → Int32} {ad ad2 : Nat → Nat} {ca ca2 : Nat → ClassId} {S : FS} {M : MS} {N i : Nat}
    (F : CallFix p m c cL_law 4 s #[Value.ref b] lw_all RX0) (hX : va_X b L xs s s.heap) (hbl : b < s.heap.size) (hL : L ≤ 257) (hi : i + 4 ≤ L) (hN : N + 60 < 2 ^ 30) (hI : Inv S (TM M) N) (w : WdL D ad ca S ad2 ca2 M s H locs) (hl : lv_has ls 4 [(0, .ref b), (1, .ref (ad 0)), (2, .ref (ad2 0)), (3, .int (nI i))])
    (next : ∀ (S1 : FS) (M1 : MS) (H1 : Heap) (locs1 : List Loc), Inv S1 (TM M1) (N + 60) → WdL D ad ca S1 ad2 ca2 M1 s H1 locs1 → W p l e room_1 s m #[Value.ref b] below meth c H1 locs1 600000 7290000 Q (F0 m 374 ls [])) : W p l e room_1 s m #[Value.ref b] below meth c H locs 600000 7290000 Q (F0 m 133 ls []) := by
  refine lv_aload_n F.1 F.2.1 dL_law_133 rfl (lv_at hl 1 rfl) ?_
  refine lv_aload_n F.1 F.2.1 dL_law_134 rfl (lv_at hl 0 rfl) ?_
  refine lv_iload_n F.1 F.2.1 dL_law_135 rfl (lv_at hl 3 rfl) ?_
  refine lv_iconst (v := (nI 1)) F.1 F.2.1 dL_law_136 (by decide) ?_
  refine lv_iadd F.1 F.2.1 dL_law_137 ?_
  refine tp_i (nI_add i 1) ?_
  refine l_ld F hX hbl w (by omega) hL dL_law_138 ?_
  refine lv_aload_n F.1 F.2.1 dL_law_139 rfl (lv_at hl 0 rfl) ?_
  refine lv_iload_n F.1 F.2.1 dL_law_140 rfl (lv_at hl 3 rfl) ?_
  refine lv_iconst (v := (nI 2)) F.1 F.2.1 dL_law_141 (by decide) ?_
  refine lv_iadd F.1 F.2.1 dL_law_142 ?_
  refine tp_i (nI_add i 2) ?_
  refine l_ld F hX hbl w (by omega) hL dL_law_143 ?_
  refine l_Fi F w (met_torn l (D, ad, ca) S hI (by omega) (xs (i + 1)) (xs (i + 2))) (cl_torn F ⟨Nat.le_of_ble_eq_true rfl, Nat.le_of_ble_eq_true rfl⟩) rfl hl.1 rfl (Nat.le_of_ble_eq_true rfl) dL_law_144 ⟨Nat.le_refl _, Nat.le_refl _⟩ (fun r1 S1 H locs hp1 w => ?_)
  refine lv_aload_n F.1 F.2.1 dL_law_147 rfl (lv_at hl 2 rfl) ?_
  refine lv_aload_n F.1 F.2.1 dL_law_148 rfl (lv_at hl 0 rfl) ?_
  refine lv_iload_n F.1 F.2.1 dL_law_149 rfl (lv_at hl 3 rfl) ?_
  refine lv_iconst (v := (nI 1)) F.1 F.2.1 dL_law_150 (by decide) ?_
  refine lv_iadd F.1 F.2.1 dL_law_151 ?_
  refine tp_i (nI_add i 1) ?_
  refine l_ld F hX hbl w (by omega) hL dL_law_152 ?_
  refine lv_aload_n F.1 F.2.1 dL_law_153 rfl (lv_at hl 0 rfl) ?_
  refine lv_iload_n F.1 F.2.1 dL_law_154 rfl (lv_at hl 3 rfl) ?_
  refine lv_iconst (v := (nI 2)) F.1 F.2.1 dL_law_155 (by decide) ?_
  refine lv_iadd F.1 F.2.1 dL_law_156 ?_
  refine tp_i (nI_add i 2) ?_
  refine l_ld F hX hbl w (by omega) hL dL_law_157 ?_
  refine l_Mi F w (mem_torn l (D, ad2, ca2) M (xs (i + 1)) (xs (i + 2))) (ck_torn F ⟨Nat.le_of_ble_eq_true rfl, Nat.le_of_ble_eq_true rfl⟩) rfl hl.1 rfl (Nat.le_of_ble_eq_true rfl) dL_law_158 ⟨Nat.le_refl _, Nat.le_refl _⟩ (fun r2 M1 H locs hp2 w => ?_)
  refine lv_icmp_eq (tgt := 374) F.1 F.2.1 dL_law_161 (by decide) (fun c1 => ?_) (fun c1 => absurd (hp1.1.trans hp2.1.symm) c1)
  exact next S1 M1 _ _ (by rw [← hp2.2]; exact hp1.2.mono (by omega)) w
set_option maxHeartbeats 4000000 in
set_option maxRecDepth 100000 in
theorem lc_trim (l : Launch) {p : Program} {e : Env} {s : State} {m : MethodId} {below : List Frame} {meth : Method} {c : Code} {H : Heap} {locs : List Loc} {Q : State → Prop} {ls : Array Slot} {D : va_G} {b L : Nat} {xs : Nat → Int32} {ad ad2 : Nat → Nat} {ca ca2 : Nat → ClassId} {S : FS} {M : MS} {N i : Nat}
    (F : CallFix p m c cL_law 4 s #[Value.ref b] lw_all RX0) (hX : va_X b L xs s s.heap) (hbl : b < s.heap.size) (hL : L ≤ 257) (hi : i + 4 ≤ L) (hN : N + 60 < 2 ^ 30) (hI : Inv S (TM M) N) (w : WdL D ad ca S ad2 ca2 M s H locs) (hl : lv_has ls 4 [(0, .ref b), (1, .ref (ad 0)), (2, .ref (ad2 0)), (3, .int (nI i))])
    (next : ∀ (S1 : FS) (M1 : MS) (H1 : Heap) (locs1 : List Loc), Inv S1 (TM M1) (N + 60) → WdL D ad ca S1 ad2 ca2 M1 s H1 locs1 → W p l e room_1 s m #[Value.ref b] below meth c H1 locs1 600000 7290000 Q (F0 m 374 ls [])) : W p l e room_1 s m #[Value.ref b] below meth c H locs 600000 7290000 Q (F0 m 166 ls []) := by
  refine lv_aload_n F.1 F.2.1 dL_law_166 rfl (lv_at hl 1 rfl) ?_
  refine lv_aload_n F.1 F.2.1 dL_law_167 rfl (lv_at hl 0 rfl) ?_
  refine lv_iload_n F.1 F.2.1 dL_law_168 rfl (lv_at hl 3 rfl) ?_
  refine lv_iconst (v := (nI 1)) F.1 F.2.1 dL_law_169 (by decide) ?_
  refine lv_iadd F.1 F.2.1 dL_law_170 ?_
  refine tp_i (nI_add i 1) ?_
  refine l_ld F hX hbl w (by omega) hL dL_law_171 ?_
  refine l_Fi F w (met_trim l (D, ad, ca) S hI (by omega) (xs (i + 1))) (cl_trim F ⟨Nat.le_of_ble_eq_true rfl, Nat.le_of_ble_eq_true rfl⟩) rfl hl.1 rfl (Nat.le_of_ble_eq_true rfl) dL_law_172 ⟨Nat.le_refl _, Nat.le_refl _⟩ (fun r1 S1 H locs hp1 w => ?_)
  refine lv_aload_n F.1 F.2.1 dL_law_175 rfl (lv_at hl 2 rfl) ?_
  refine lv_aload_n F.1 F.2.1 dL_law_176 rfl (lv_at hl 0 rfl) ?_
  refine lv_iload_n F.1 F.2.1 dL_law_177 rfl (lv_at hl 3 rfl) ?_
  refine lv_iconst (v := (nI 1)) F.1 F.2.1 dL_law_178 (by decide) ?_
  refine lv_iadd F.1 F.2.1 dL_law_179 ?_
  refine tp_i (nI_add i 1) ?_
  refine l_ld F hX hbl w (by omega) hL dL_law_180 ?_
  refine l_Mi F w (mem_trim l (D, ad2, ca2) M (xs (i + 1))) (ck_trim F ⟨Nat.le_of_ble_eq_true rfl, Nat.le_of_ble_eq_true rfl⟩) rfl hl.1 rfl (Nat.le_of_ble_eq_true rfl) dL_law_181 ⟨Nat.le_refl _, Nat.le_refl _⟩ (fun r2 M1 H locs hp2 w => ?_)
  refine lv_icmp_eq (tgt := 374) F.1 F.2.1 dL_law_184 (by decide) (fun c1 => ?_) (fun c1 => absurd (hp1.1.trans hp2.1.symm) c1)
  exact next S1 M1 _ _ (by rw [hp2.2]; exact hp1.2.mono (by omega)) w
set_option maxHeartbeats 4000000 in
set_option maxRecDepth 100000 in
theorem lc_powerCut (l : Launch) {p : Program} {e : Env} {s : State} {m : MethodId} {below : List Frame} {meth : Method} {c : Code} {H : Heap} {locs : List Loc} {Q : State → Prop} {ls : Array Slot} {D : va_G} {b L : Nat} {xs : Nat → Int32} {ad ad2 : Nat → Nat} {ca ca2 : Nat → ClassId} {S : FS} {M : MS} {N i : Nat}
    (F : CallFix p m c cL_law 4 s #[Value.ref b] lw_all RX0) (hX : va_X b L xs s s.heap) (hbl : b < s.heap.size) (hL : L ≤ 257) (hi : i + 4 ≤ L) (hN : N + 60 < 2 ^ 30) (hI : Inv S (TM M) N) (w : WdL D ad ca S ad2 ca2 M s H locs) (hl : lv_has ls 4 [(0, .ref b), (1, .ref (ad 0)), (2, .ref (ad2 0)), (3, .int (nI i))])
    (next : ∀ (S1 : FS) (M1 : MS) (H1 : Heap) (locs1 : List Loc), Inv S1 (TM M1) (N + 60) → WdL D ad ca S1 ad2 ca2 M1 s H1 locs1 → W p l e room_1 s m #[Value.ref b] below meth c H1 locs1 600000 7290000 Q (F0 m 374 ls [])) : W p l e room_1 s m #[Value.ref b] below meth c H locs 600000 7290000 Q (F0 m 189 ls []) := by
  refine lv_aload_n F.1 F.2.1 dL_law_189 rfl (lv_at hl 1 rfl) ?_
  refine l_Fi F w (met_powerCut l (D, ad, ca) S hI (by omega)) (cl_powerCut F ⟨Nat.le_of_ble_eq_true rfl, Nat.le_of_ble_eq_true rfl⟩) rfl hl.1 rfl (Nat.le_of_ble_eq_true rfl) dL_law_190 ⟨Nat.le_refl _, Nat.le_refl _⟩ (fun r1 S1 H locs hp1 w => ?_)
  refine lv_aload_n F.1 F.2.1 dL_law_193 rfl (lv_at hl 2 rfl) ?_
  refine l_Mi F w (mem_powerCut l (D, ad2, ca2) M) (ck_powerCut F ⟨Nat.le_of_ble_eq_true rfl, Nat.le_of_ble_eq_true rfl⟩) rfl hl.1 rfl (Nat.le_of_ble_eq_true rfl) dL_law_194 ⟨Nat.le_refl _, Nat.le_refl _⟩ (fun r2 M1 H locs hp2 w => ?_)
  refine lv_icmp_eq (tgt := 374) F.1 F.2.1 dL_law_197 (by decide) (fun c1 => ?_) (fun c1 => absurd (hp1.1.trans hp2.1.symm) c1)
  exact next S1 M1 _ _ (by rw [← hp2.2]; exact hp1.2.mono (by omega)) w
set_option maxHeartbeats 4000000 in
set_option maxRecDepth 100000 in
theorem lc_has (l : Launch) {p : Program} {e : Env} {s : State} {m : MethodId} {below : List Frame} {meth : Method} {c : Code} {H : Heap} {locs : List Loc} {Q : State → Prop} {ls : Array Slot} {D : va_G} {b L : Nat} {xs : Nat → Int32} {ad ad2 : Nat → Nat} {ca ca2 : Nat → ClassId} {S : FS} {M : MS} {N i : Nat}
    (F : CallFix p m c cL_law 4 s #[Value.ref b] lw_all RX0) (hX : va_X b L xs s s.heap) (hbl : b < s.heap.size) (hL : L ≤ 257) (hi : i + 4 ≤ L) (hN : N + 60 < 2 ^ 30) (hI : Inv S (TM M) N) (w : WdL D ad ca S ad2 ca2 M s H locs) (hl : lv_has ls 4 [(0, .ref b), (1, .ref (ad 0)), (2, .ref (ad2 0)), (3, .int (nI i))])
    (next : ∀ (S1 : FS) (M1 : MS) (H1 : Heap) (locs1 : List Loc), Inv S1 (TM M1) (N + 60) → WdL D ad ca S1 ad2 ca2 M1 s H1 locs1 → W p l e room_1 s m #[Value.ref b] below meth c H1 locs1 600000 7290000 Q (F0 m 374 ls [])) : W p l e room_1 s m #[Value.ref b] below meth c H locs 600000 7290000 Q (F0 m 202 ls []) := by
  refine lv_aload_n F.1 F.2.1 dL_law_202 rfl (lv_at hl 1 rfl) ?_
  refine lv_aload_n F.1 F.2.1 dL_law_203 rfl (lv_at hl 0 rfl) ?_
  refine lv_iload_n F.1 F.2.1 dL_law_204 rfl (lv_at hl 3 rfl) ?_
  refine lv_iconst (v := (nI 1)) F.1 F.2.1 dL_law_205 (by decide) ?_
  refine lv_iadd F.1 F.2.1 dL_law_206 ?_
  refine tp_i (nI_add i 1) ?_
  refine l_ld F hX hbl w (by omega) hL dL_law_207 ?_
  refine l_Fi F w (met_has l (D, ad, ca) S hI.1 (xs (i + 1))) (cl_has F ⟨Nat.le_of_ble_eq_true rfl, Nat.le_of_ble_eq_true rfl⟩) rfl hl.1 rfl (Nat.le_of_ble_eq_true rfl) dL_law_208 ⟨Nat.le_refl _, Nat.le_refl _⟩ (fun r1 S1 H locs hp1 w => ?_)
  refine lv_aload_n F.1 F.2.1 dL_law_211 rfl (lv_at hl 2 rfl) ?_
  refine lv_aload_n F.1 F.2.1 dL_law_212 rfl (lv_at hl 0 rfl) ?_
  refine lv_iload_n F.1 F.2.1 dL_law_213 rfl (lv_at hl 3 rfl) ?_
  refine lv_iconst (v := (nI 1)) F.1 F.2.1 dL_law_214 (by decide) ?_
  refine lv_iadd F.1 F.2.1 dL_law_215 ?_
  refine tp_i (nI_add i 1) ?_
  refine l_ld F hX hbl w (by omega) hL dL_law_216 ?_
  refine l_Mi F w (mem_has l (D, ad2, ca2) M (xs (i + 1))) (ck_has F ⟨Nat.le_of_ble_eq_true rfl, Nat.le_of_ble_eq_true rfl⟩) rfl hl.1 rfl (Nat.le_of_ble_eq_true rfl) dL_law_217 ⟨Nat.le_refl _, Nat.le_refl _⟩ (fun r2 M1 H locs hp2 w => ?_)
  refine lv_icmp_eq (tgt := 374) F.1 F.2.1 dL_law_220 (by decide) (fun c1 => ?_) (fun c1 => absurd (hp1.1.trans hp2.1.symm) c1)
  exact next S1 M1 _ _ (by rw [← hp2.2, ← hp1.2]; exact hI.mono (by omega)) w
set_option maxHeartbeats 4000000 in
set_option maxRecDepth 100000 in
theorem lc_read (l : Launch) {p : Program} {e : Env} {s : State} {m : MethodId} {below : List Frame} {meth : Method} {c : Code} {H : Heap} {locs : List Loc} {Q : State → Prop} {ls : Array Slot} {D : va_G} {b L : Nat} {xs : Nat → Int32} {ad ad2 : Nat → Nat} {ca ca2 : Nat → ClassId} {S : FS} {M : MS} {N i : Nat}
    (F : CallFix p m c cL_law 4 s #[Value.ref b] lw_all RX0) (hX : va_X b L xs s s.heap) (hbl : b < s.heap.size) (hL : L ≤ 257) (hi : i + 4 ≤ L) (hN : N + 60 < 2 ^ 30) (hI : Inv S (TM M) N) (w : WdL D ad ca S ad2 ca2 M s H locs) (hl : lv_has ls 4 [(0, .ref b), (1, .ref (ad 0)), (2, .ref (ad2 0)), (3, .int (nI i))])
    (next : ∀ (S1 : FS) (M1 : MS) (H1 : Heap) (locs1 : List Loc), Inv S1 (TM M1) (N + 60) → WdL D ad ca S1 ad2 ca2 M1 s H1 locs1 → W p l e room_1 s m #[Value.ref b] below meth c H1 locs1 600000 7290000 Q (F0 m 374 ls [])) : W p l e room_1 s m #[Value.ref b] below meth c H locs 600000 7290000 Q (F0 m 225 ls []) := by
  refine lv_aload_n F.1 F.2.1 dL_law_225 rfl (lv_at hl 1 rfl) ?_
  refine lv_aload_n F.1 F.2.1 dL_law_226 rfl (lv_at hl 0 rfl) ?_
  refine lv_iload_n F.1 F.2.1 dL_law_227 rfl (lv_at hl 3 rfl) ?_
  refine lv_iconst (v := (nI 1)) F.1 F.2.1 dL_law_228 (by decide) ?_
  refine lv_iadd F.1 F.2.1 dL_law_229 ?_
  refine tp_i (nI_add i 1) ?_
  refine l_ld F hX hbl w (by omega) hL dL_law_230 ?_
  refine l_Fi F w (met_read l (D, ad, ca) S hI.1 (xs (i + 1))) (cl_read F ⟨Nat.le_of_ble_eq_true rfl, Nat.le_of_ble_eq_true rfl⟩) rfl hl.1 rfl (Nat.le_of_ble_eq_true rfl) dL_law_231 ⟨Nat.le_refl _, Nat.le_refl _⟩ (fun r1 S1 H locs hp1 w => ?_)
  refine lv_aload_n F.1 F.2.1 dL_law_234 rfl (lv_at hl 2 rfl) ?_
  refine lv_aload_n F.1 F.2.1 dL_law_235 rfl (lv_at hl 0 rfl) ?_
  refine lv_iload_n F.1 F.2.1 dL_law_236 rfl (lv_at hl 3 rfl) ?_
  refine lv_iconst (v := (nI 1)) F.1 F.2.1 dL_law_237 (by decide) ?_
  refine lv_iadd F.1 F.2.1 dL_law_238 ?_
  refine tp_i (nI_add i 1) ?_
  refine l_ld F hX hbl w (by omega) hL dL_law_239 ?_
  refine l_Mi F w (mem_read l (D, ad2, ca2) M (xs (i + 1))) (ck_read F ⟨Nat.le_of_ble_eq_true rfl, Nat.le_of_ble_eq_true rfl⟩) rfl hl.1 rfl (Nat.le_of_ble_eq_true rfl) dL_law_240 ⟨Nat.le_refl _, Nat.le_refl _⟩ (fun r2 M1 H locs hp2 w => ?_)
  refine lv_icmp_eq (tgt := 374) F.1 F.2.1 dL_law_243 (by decide) (fun c1 => ?_) (fun c1 => absurd (hp1.1.trans hp2.1.symm) c1)
  exact next S1 M1 _ _ (by rw [← hp2.2, ← hp1.2]; exact hI.mono (by omega)) w
set_option maxHeartbeats 4000000 in
set_option maxRecDepth 100000 in
theorem lc_used (l : Launch) {p : Program} {e : Env} {s : State} {m : MethodId} {below : List Frame} {meth : Method} {c : Code} {H : Heap} {locs : List Loc} {Q : State → Prop} {ls : Array Slot} {D : va_G} {b L : Nat} {xs : Nat → Int32} {ad ad2 : Nat → Nat} {ca ca2 : Nat → ClassId} {S : FS} {M : MS} {N i : Nat}
    (F : CallFix p m c cL_law 4 s #[Value.ref b] lw_all RX0) (hX : va_X b L xs s s.heap) (hbl : b < s.heap.size) (hL : L ≤ 257) (hi : i + 4 ≤ L) (hN : N + 60 < 2 ^ 30) (hI : Inv S (TM M) N) (w : WdL D ad ca S ad2 ca2 M s H locs) (hl : lv_has ls 4 [(0, .ref b), (1, .ref (ad 0)), (2, .ref (ad2 0)), (3, .int (nI i))])
    (next : ∀ (S1 : FS) (M1 : MS) (H1 : Heap) (locs1 : List Loc), Inv S1 (TM M1) (N + 60) → WdL D ad ca S1 ad2 ca2 M1 s H1 locs1 → W p l e room_1 s m #[Value.ref b] below meth c H1 locs1 600000 7290000 Q (F0 m 374 ls [])) : W p l e room_1 s m #[Value.ref b] below meth c H locs 600000 7290000 Q (F0 m 248 ls []) := by
  refine lv_aload_n F.1 F.2.1 dL_law_248 rfl (lv_at hl 1 rfl) ?_
  refine l_Fi F w (met_used l (D, ad, ca) S hI.1) (cl_used F ⟨Nat.le_of_ble_eq_true rfl, Nat.le_of_ble_eq_true rfl⟩) rfl hl.1 rfl (Nat.le_of_ble_eq_true rfl) dL_law_249 ⟨Nat.le_refl _, Nat.le_refl _⟩ (fun r1 S1 H locs hp1 w => ?_)
  refine lv_aload_n F.1 F.2.1 dL_law_252 rfl (lv_at hl 2 rfl) ?_
  refine l_Mi F w (mem_used l (D, ad2, ca2) M) (ck_used F ⟨Nat.le_of_ble_eq_true rfl, Nat.le_of_ble_eq_true rfl⟩) rfl hl.1 rfl (Nat.le_of_ble_eq_true rfl) dL_law_253 ⟨Nat.le_refl _, Nat.le_refl _⟩ (fun r2 M1 H locs hp2 w => ?_)
  refine lv_icmp_eq (tgt := 374) F.1 F.2.1 dL_law_256 (by decide) (fun c1 => ?_) (fun c1 => absurd (hp1.1.trans hp2.1.symm) c1)
  exact next S1 M1 _ _ (by rw [← hp2.2, ← hp1.2]; exact hI.mono (by omega)) w
set_option maxHeartbeats 4000000 in
set_option maxRecDepth 100000 in
theorem lc_nextUsed (l : Launch) {p : Program} {e : Env} {s : State} {m : MethodId} {below : List Frame} {meth : Method} {c : Code} {H : Heap} {locs : List Loc} {Q : State → Prop} {ls : Array Slot} {D : va_G} {b L : Nat} {xs : Nat → Int32} {ad ad2 : Nat → Nat} {ca ca2 : Nat → ClassId} {S : FS} {M : MS} {N i : Nat}
    (F : CallFix p m c cL_law 4 s #[Value.ref b] lw_all RX0) (hX : va_X b L xs s s.heap) (hbl : b < s.heap.size) (hL : L ≤ 257) (hi : i + 4 ≤ L) (hN : N + 60 < 2 ^ 30) (hI : Inv S (TM M) N) (w : WdL D ad ca S ad2 ca2 M s H locs) (hl : lv_has ls 4 [(0, .ref b), (1, .ref (ad 0)), (2, .ref (ad2 0)), (3, .int (nI i))])
    (next : ∀ (S1 : FS) (M1 : MS) (H1 : Heap) (locs1 : List Loc), Inv S1 (TM M1) (N + 60) → WdL D ad ca S1 ad2 ca2 M1 s H1 locs1 → W p l e room_1 s m #[Value.ref b] below meth c H1 locs1 600000 7290000 Q (F0 m 374 ls [])) : W p l e room_1 s m #[Value.ref b] below meth c H locs 600000 7290000 Q (F0 m 261 ls []) := by
  refine lv_aload_n F.1 F.2.1 dL_law_261 rfl (lv_at hl 1 rfl) ?_
  refine lv_aload_n F.1 F.2.1 dL_law_262 rfl (lv_at hl 0 rfl) ?_
  refine lv_iload_n F.1 F.2.1 dL_law_263 rfl (lv_at hl 3 rfl) ?_
  refine lv_iconst (v := (nI 1)) F.1 F.2.1 dL_law_264 (by decide) ?_
  refine lv_iadd F.1 F.2.1 dL_law_265 ?_
  refine tp_i (nI_add i 1) ?_
  refine l_ld F hX hbl w (by omega) hL dL_law_266 ?_
  refine l_Fi F w (met_nextUsed l (D, ad, ca) S hI.1 (xs (i + 1))) (cl_nextUsed F ⟨Nat.le_of_ble_eq_true rfl, Nat.le_of_ble_eq_true rfl⟩) rfl hl.1 rfl (Nat.le_of_ble_eq_true rfl) dL_law_267 ⟨Nat.le_refl _, Nat.le_refl _⟩ (fun r1 S1 H locs hp1 w => ?_)
  refine lv_aload_n F.1 F.2.1 dL_law_270 rfl (lv_at hl 2 rfl) ?_
  refine lv_aload_n F.1 F.2.1 dL_law_271 rfl (lv_at hl 0 rfl) ?_
  refine lv_iload_n F.1 F.2.1 dL_law_272 rfl (lv_at hl 3 rfl) ?_
  refine lv_iconst (v := (nI 1)) F.1 F.2.1 dL_law_273 (by decide) ?_
  refine lv_iadd F.1 F.2.1 dL_law_274 ?_
  refine tp_i (nI_add i 1) ?_
  refine l_ld F hX hbl w (by omega) hL dL_law_275 ?_
  refine l_Mi F w (mem_nextUsed l (D, ad2, ca2) M (xs (i + 1))) (ck_nextUsed F ⟨Nat.le_of_ble_eq_true rfl, Nat.le_of_ble_eq_true rfl⟩) rfl hl.1 rfl (Nat.le_of_ble_eq_true rfl) dL_law_276 ⟨Nat.le_refl _, Nat.le_refl _⟩ (fun r2 M1 H locs hp2 w => ?_)
  refine lv_icmp_eq (tgt := 374) F.1 F.2.1 dL_law_279 (by decide) (fun c1 => ?_) (fun c1 => absurd (hp1.1.trans hp2.1.symm) c1)
  exact next S1 M1 _ _ (by rw [← hp2.2, ← hp1.2]; exact hI.mono (by omega)) w
set_option maxHeartbeats 4000000 in
set_option maxRecDepth 100000 in
theorem lc_total (l : Launch) {p : Program} {e : Env} {s : State} {m : MethodId} {below : List Frame} {meth : Method} {c : Code} {H : Heap} {locs : List Loc} {Q : State → Prop} {ls : Array Slot} {D : va_G} {b L : Nat} {xs : Nat → Int32} {ad ad2 : Nat → Nat} {ca ca2 : Nat → ClassId} {S : FS} {M : MS} {N i : Nat}
    (F : CallFix p m c cL_law 4 s #[Value.ref b] lw_all RX0) (hX : va_X b L xs s s.heap) (hbl : b < s.heap.size) (hL : L ≤ 257) (hi : i + 4 ≤ L) (hN : N + 60 < 2 ^ 30) (hI : Inv S (TM M) N) (w : WdL D ad ca S ad2 ca2 M s H locs) (hl : lv_has ls 4 [(0, .ref b), (1, .ref (ad 0)), (2, .ref (ad2 0)), (3, .int (nI i))])
    (next : ∀ (S1 : FS) (M1 : MS) (H1 : Heap) (locs1 : List Loc), Inv S1 (TM M1) (N + 60) → WdL D ad ca S1 ad2 ca2 M1 s H1 locs1 → W p l e room_1 s m #[Value.ref b] below meth c H1 locs1 600000 7290000 Q (F0 m 374 ls [])) : W p l e room_1 s m #[Value.ref b] below meth c H locs 600000 7290000 Q (F0 m 284 ls []) := by
  refine lv_aload_n F.1 F.2.1 dL_law_284 rfl (lv_at hl 1 rfl) ?_
  refine l_Fl F w (met_total l (D, ad, ca) S hI.1) (cl_total F ⟨Nat.le_of_ble_eq_true rfl, Nat.le_of_ble_eq_true rfl⟩) rfl hl.1 rfl (Nat.le_of_ble_eq_true rfl) dL_law_285 ⟨Nat.le_refl _, Nat.le_refl _⟩ (fun r1 S1 H locs hp1 w => ?_)
  refine lv_aload_n F.1 F.2.1 dL_law_288 rfl (lv_at hl 2 rfl) ?_
  refine l_Ml F w (mem_total l (D, ad2, ca2) M) (ck_total F ⟨Nat.le_of_ble_eq_true rfl, Nat.le_of_ble_eq_true rfl⟩) rfl hl.1 rfl (Nat.le_of_ble_eq_true rfl) dL_law_289 ⟨Nat.le_refl _, Nat.le_refl _⟩ (fun r2 M1 H locs hp2 w => ?_)
  refine W.lcmp F.1 F.2.1 dL_law_292 ?_
  refine lv_if_eq (tgt := 374) F.1 F.2.1 dL_law_293 (by decide) (fun c1 => ?_) (fun c1 => absurd ((lg_cmp_eq r1 r2).mpr (hp1.1.trans hp2.1.symm)) c1)
  exact next S1 M1 _ _ (by rw [← hp2.2, ← hp1.2]; exact hI.mono (by omega)) w
set_option maxHeartbeats 4000000 in
set_option maxRecDepth 100000 in
theorem lc_exchange (l : Launch) {p : Program} {e : Env} {s : State} {m : MethodId} {below : List Frame} {meth : Method} {c : Code} {H : Heap} {locs : List Loc} {Q : State → Prop} {ls : Array Slot} {D : va_G} {b L : Nat} {xs : Nat → Int32} {ad ad2 : Nat → Nat} {ca ca2 : Nat → ClassId} {S : FS} {M : MS} {N i : Nat}
    (F : CallFix p m c cL_law 4 s #[Value.ref b] lw_all RX0) (hX : va_X b L xs s s.heap) (hbl : b < s.heap.size) (hL : L ≤ 257) (hi : i + 4 ≤ L) (hN : N + 60 < 2 ^ 30) (hI : Inv S (TM M) N) (w : WdL D ad ca S ad2 ca2 M s H locs) (hl : lv_has ls 4 [(0, .ref b), (1, .ref (ad 0)), (2, .ref (ad2 0)), (3, .int (nI i))])
    (next : ∀ (S1 : FS) (M1 : MS) (H1 : Heap) (locs1 : List Loc), Inv S1 (TM M1) (N + 60) → WdL D ad ca S1 ad2 ca2 M1 s H1 locs1 → W p l e room_1 s m #[Value.ref b] below meth c H1 locs1 600000 7290000 Q (F0 m 374 ls [])) : W p l e room_1 s m #[Value.ref b] below meth c H locs 600000 7290000 Q (F0 m 298 ls []) := by
  refine lv_aload_n F.1 F.2.1 dL_law_298 rfl (lv_at hl 1 rfl) ?_
  refine lv_aload_n F.1 F.2.1 dL_law_299 rfl (lv_at hl 0 rfl) ?_
  refine lv_iload_n F.1 F.2.1 dL_law_300 rfl (lv_at hl 3 rfl) ?_
  refine lv_iconst (v := (nI 1)) F.1 F.2.1 dL_law_301 (by decide) ?_
  refine lv_iadd F.1 F.2.1 dL_law_302 ?_
  refine tp_i (nI_add i 1) ?_
  refine l_ld F hX hbl w (by omega) hL dL_law_303 ?_
  refine lv_aload_n F.1 F.2.1 dL_law_304 rfl (lv_at hl 0 rfl) ?_
  refine lv_iload_n F.1 F.2.1 dL_law_305 rfl (lv_at hl 3 rfl) ?_
  refine lv_iconst (v := (nI 2)) F.1 F.2.1 dL_law_306 (by decide) ?_
  refine lv_iadd F.1 F.2.1 dL_law_307 ?_
  refine tp_i (nI_add i 2) ?_
  refine l_ld F hX hbl w (by omega) hL dL_law_308 ?_
  refine l_Fi F w (met_exchange l (D, ad, ca) S hI (by omega) (xs (i + 1)) (xs (i + 2))) (cl_exchange F ⟨Nat.le_of_ble_eq_true rfl, Nat.le_of_ble_eq_true rfl⟩) rfl hl.1 rfl (Nat.le_of_ble_eq_true rfl) dL_law_309 ⟨Nat.le_refl _, Nat.le_refl _⟩ (fun r1 S1 H locs hp1 w => ?_)
  refine lv_aload_n F.1 F.2.1 dL_law_312 rfl (lv_at hl 2 rfl) ?_
  refine lv_aload_n F.1 F.2.1 dL_law_313 rfl (lv_at hl 0 rfl) ?_
  refine lv_iload_n F.1 F.2.1 dL_law_314 rfl (lv_at hl 3 rfl) ?_
  refine lv_iconst (v := (nI 1)) F.1 F.2.1 dL_law_315 (by decide) ?_
  refine lv_iadd F.1 F.2.1 dL_law_316 ?_
  refine tp_i (nI_add i 1) ?_
  refine l_ld F hX hbl w (by omega) hL dL_law_317 ?_
  refine lv_aload_n F.1 F.2.1 dL_law_318 rfl (lv_at hl 0 rfl) ?_
  refine lv_iload_n F.1 F.2.1 dL_law_319 rfl (lv_at hl 3 rfl) ?_
  refine lv_iconst (v := (nI 2)) F.1 F.2.1 dL_law_320 (by decide) ?_
  refine lv_iadd F.1 F.2.1 dL_law_321 ?_
  refine tp_i (nI_add i 2) ?_
  refine l_ld F hX hbl w (by omega) hL dL_law_322 ?_
  refine l_Mi F w (mem_exchange l (D, ad2, ca2) M (xs (i + 1)) (xs (i + 2))) (ck_exchange F ⟨Nat.le_of_ble_eq_true rfl, Nat.le_of_ble_eq_true rfl⟩) rfl hl.1 rfl (Nat.le_of_ble_eq_true rfl) dL_law_323 ⟨Nat.le_refl _, Nat.le_refl _⟩ (fun r2 M1 H locs hp2 w => ?_)
  refine lv_icmp_eq (tgt := 374) F.1 F.2.1 dL_law_326 (by decide) (fun c1 => ?_) (fun c1 => absurd (hp1.1.trans hp2.1.symm) c1)
  exact next S1 M1 _ _ (by rw [hp2.2]; exact hp1.2.mono (by omega)) w
set_option maxHeartbeats 4000000 in
set_option maxRecDepth 100000 in
theorem lc_fill (l : Launch) {p : Program} {e : Env} {s : State} {m : MethodId} {below : List Frame} {meth : Method} {c : Code} {H : Heap} {locs : List Loc} {Q : State → Prop} {ls : Array Slot} {D : va_G} {b L : Nat} {xs : Nat → Int32} {ad ad2 : Nat → Nat} {ca ca2 : Nat → ClassId} {S : FS} {M : MS} {N i : Nat}
    (F : CallFix p m c cL_law 4 s #[Value.ref b] lw_all RX0) (hX : va_X b L xs s s.heap) (hbl : b < s.heap.size) (hL : L ≤ 257) (hi : i + 4 ≤ L) (hN : N + 60 < 2 ^ 30) (hI : Inv S (TM M) N) (w : WdL D ad ca S ad2 ca2 M s H locs) (hl : lv_has ls 4 [(0, .ref b), (1, .ref (ad 0)), (2, .ref (ad2 0)), (3, .int (nI i))])
    (next : ∀ (S1 : FS) (M1 : MS) (H1 : Heap) (locs1 : List Loc), Inv S1 (TM M1) (N + 60) → WdL D ad ca S1 ad2 ca2 M1 s H1 locs1 → W p l e room_1 s m #[Value.ref b] below meth c H1 locs1 600000 7290000 Q (F0 m 374 ls [])) : W p l e room_1 s m #[Value.ref b] below meth c H locs 600000 7290000 Q (F0 m 331 ls []) := by
  refine lv_aload_n F.1 F.2.1 dL_law_331 rfl (lv_at hl 1 rfl) ?_
  refine lv_aload_n F.1 F.2.1 dL_law_332 rfl (lv_at hl 0 rfl) ?_
  refine lv_iload_n F.1 F.2.1 dL_law_333 rfl (lv_at hl 3 rfl) ?_
  refine lv_iconst (v := (nI 1)) F.1 F.2.1 dL_law_334 (by decide) ?_
  refine lv_iadd F.1 F.2.1 dL_law_335 ?_
  refine tp_i (nI_add i 1) ?_
  refine l_ld F hX hbl w (by omega) hL dL_law_336 ?_
  refine lv_aload_n F.1 F.2.1 dL_law_337 rfl (lv_at hl 0 rfl) ?_
  refine lv_iload_n F.1 F.2.1 dL_law_338 rfl (lv_at hl 3 rfl) ?_
  refine lv_iconst (v := (nI 2)) F.1 F.2.1 dL_law_339 (by decide) ?_
  refine lv_iadd F.1 F.2.1 dL_law_340 ?_
  refine tp_i (nI_add i 2) ?_
  refine l_ld F hX hbl w (by omega) hL dL_law_341 ?_
  refine lv_aload_n F.1 F.2.1 dL_law_342 rfl (lv_at hl 0 rfl) ?_
  refine lv_iload_n F.1 F.2.1 dL_law_343 rfl (lv_at hl 3 rfl) ?_
  refine lv_iconst (v := (nI 3)) F.1 F.2.1 dL_law_344 (by decide) ?_
  refine lv_iadd F.1 F.2.1 dL_law_345 ?_
  refine tp_i (nI_add i 3) ?_
  refine l_ld F hX hbl w (by omega) hL dL_law_346 ?_
  refine l_Fi F w (met_fill l (D, ad, ca) S hI hN (xs (i + 1)) (xs (i + 2)) (xs (i + 3))) (cl_fill F ⟨Nat.le_of_ble_eq_true rfl, Nat.le_of_ble_eq_true rfl⟩) rfl hl.1 rfl (Nat.le_of_ble_eq_true rfl) dL_law_347 ⟨Nat.le_refl _, Nat.le_refl _⟩ (fun r1 S1 H locs hp1 w => ?_)
  refine lv_aload_n F.1 F.2.1 dL_law_350 rfl (lv_at hl 2 rfl) ?_
  refine lv_aload_n F.1 F.2.1 dL_law_351 rfl (lv_at hl 0 rfl) ?_
  refine lv_iload_n F.1 F.2.1 dL_law_352 rfl (lv_at hl 3 rfl) ?_
  refine lv_iconst (v := (nI 1)) F.1 F.2.1 dL_law_353 (by decide) ?_
  refine lv_iadd F.1 F.2.1 dL_law_354 ?_
  refine tp_i (nI_add i 1) ?_
  refine l_ld F hX hbl w (by omega) hL dL_law_355 ?_
  refine lv_aload_n F.1 F.2.1 dL_law_356 rfl (lv_at hl 0 rfl) ?_
  refine lv_iload_n F.1 F.2.1 dL_law_357 rfl (lv_at hl 3 rfl) ?_
  refine lv_iconst (v := (nI 2)) F.1 F.2.1 dL_law_358 (by decide) ?_
  refine lv_iadd F.1 F.2.1 dL_law_359 ?_
  refine tp_i (nI_add i 2) ?_
  refine l_ld F hX hbl w (by omega) hL dL_law_360 ?_
  refine lv_aload_n F.1 F.2.1 dL_law_361 rfl (lv_at hl 0 rfl) ?_
  refine lv_iload_n F.1 F.2.1 dL_law_362 rfl (lv_at hl 3 rfl) ?_
  refine lv_iconst (v := (nI 3)) F.1 F.2.1 dL_law_363 (by decide) ?_
  refine lv_iadd F.1 F.2.1 dL_law_364 ?_
  refine tp_i (nI_add i 3) ?_
  refine l_ld F hX hbl w (by omega) hL dL_law_365 ?_
  refine l_Mi F w (mem_fill l (D, ad2, ca2) M (xs (i + 1)) (xs (i + 2)) (xs (i + 3))) (ck_fill F ⟨Nat.le_of_ble_eq_true rfl, Nat.le_of_ble_eq_true rfl⟩) rfl hl.1 rfl (Nat.le_of_ble_eq_true rfl) dL_law_366 ⟨Nat.le_refl _, Nat.le_refl _⟩ (fun r2 M1 H locs hp2 w => ?_)
  refine lv_icmp_eq (tgt := 374) F.1 F.2.1 dL_law_369 (by decide) (fun c1 => ?_) (fun c1 => absurd (hp1.1.trans hp2.1.symm) c1)
  exact next S1 M1 _ _ (by rw [hp2.2]; exact hp1.2.mono (by omega)) w
end
section
/-! THE CLAIM OUT OF ONE WALK OF THE LAW'S BODY. Your part is whole_start (and what it stands on); all else here is the same for every law, but numbers. -/
def R_law : String := "FlashMapLaw"
def lw_P (b : Addr) (xs : List Int32) (args : Array Value) (s : State) : Prop := args = #[.ref b] ∧ s.IntsAt b xs ∧ xs.length ≤ 257 ∧ (Jvm.Cond.and given_1 narrow_1).before args s = true
def lw_Q (_ : Array Value) (s : State) (o : Outcome) (t : State) : Prop := o = .returned (some (.int 1)) ∧ Framed s o t [] 600000 7290000
def lw_Z (below : List Frame) (a : Array Value) (s : State) : State → Prop := fun t => ∃ o, t.status = .running ∧ Ended t below o ∧ lw_Q a s o t
/-- the law's own end, with 1 on the stack, nothing written that was there before, its room as the claim has it -/
theorem lw_ret {p : Program} {l : Launch} {e : Env} {s : State} {m : MethodId} {below : List Frame} {meth : Method} {c : Code} {b : Nat} (hx : p.tables.exec = Jvm.exec) (hb : c.code = code) (hr : meth.sig.returnType = ret) (hlocks : meth.locks = false) {pc : Nat} {H : Heap} {ls : Array Slot} (hdg : decode code pc = .ok (.ireturn, 1)) : W p l e room_1 s m #[Value.ref b] below meth c H [] 600000 7290000 (lw_Z below #[Value.ref b] s) (F0 m pc ls [.int 1]) := by
  intro T hT X
  obtain ⟨fs, hret, hrun, hended, hW, hframe⟩ := X.leave (v := some (.int 1)) (hlocks := hlocks) (fun h => by rw [hr] at h; cases h)
  have hmeth' : T.vm.method? m = some meth := X.method'
  refine ⟨T.setFrames fs, ?_, .returned (some (.int 1)), hrun, hended, rfl, ⟨_, rfl⟩, hW, hframe⟩
  jvm_step X.here [X.here.top, hx, hb, hdg, hmeth', hr, ret, narrow_b1]
  (try refine ⟨rfl, ?_⟩); (try refine ⟨rfl, ?_⟩)
  first | (intro acts; rw [hret _ acts rfl rfl rfl]) | rw [hret _ _ rfl rfl rfl]
  exact Steps.refl _
/-- what holds at the law's entry: the machine, the code, the tables' words (any of lw_tbl by 'hts w (by decide +kernel)'), the script of L ints xs at the cell b, what the Statement gives of the start (any of its parts by flat_of_before) -/
def lw_At (p : Program) (s : State) (m : MethodId) (meth : Method) (c : Code) (b L : Nat) (xs : Nat → Int32) : Prop :=
  p.tables.exec = Jvm.exec ∧ c.code = code ∧ meth.sig.returnType = ret ∧ c.maxLocals = 4 ∧ s.vm.findClass R_law = some m.cls ∧ (∀ w ∈ lw_tbl, w.before #[Value.ref b] s = true) ∧ va_X b L xs s s.heap ∧ b < s.heap.size ∧ meth.locks = false ∧ (Jvm.Cond.and given_1 narrow_1).before #[Value.ref b] s = true
set_option maxHeartbeats 4000000 in
set_option maxRecDepth 100000 in
/-- the law's loop: after t calls both hold the same table -/
theorem law_loop {p : Program} {e : Env} {s : State} {m : MethodId} {below : List Frame} {meth : Method} {c : Code} (l : Launch) {b L : Nat} {xs : Nat → Int32} (hL : L ≤ 257) (C0 : lw_At p s m meth c b L xs) {D : va_G} {ad ad2 : Nat → Nat} {ca ca2 : Nat → ClassId} :
    ∀ (n t : Nat) (S : FS) (M : MS) (H : Heap) (locs : List Loc) (ls : Array Slot), t ≤ 64 → 65 ≤ t + n → Inv S (TM M) (1 + 60 * t) → WdL D ad ca S ad2 ca2 M s H locs → lv_has ls 4 [(0, .ref b), (1, .ref (ad 0)), (2, .ref (ad2 0)), (3, .int (nI (1 + 4 * t)))] → W p l e room_1 s m #[Value.ref b] below meth c H locs 600000 7290000 (lw_Z below #[Value.ref b] s) (F0 m 28 ls []) := by
  obtain ⟨hx, hb, hr, hml, hown, hts0, hX, hbl, hlocks, hgv⟩ := id C0
  have hts : ∀ w ∈ lw_all, w.before #[Value.ref b] s = true := fun w h => hts0 w (lw_all_tbl h)
  have F : CallFix p m c cL_law 4 s #[Value.ref b] lw_all RX0 := ⟨hx, hb, hml, hown, hts⟩
  intro n
  induction n with
  | zero =>
    intro t S M H locs ls ht hn hI w hl
    exact absurd hn (by omega)
  | succ n ih =>
    intro t S M H locs ls ht hn hI w hl
    refine lv_iload_n F.1 F.2.1 dL_law_28 rfl (lv_at hl 3 rfl) ?_
    refine lv_aload_n F.1 F.2.1 dL_law_29 rfl (lv_at hl 0 rfl) ?_
    refine l_len F hX hbl w dL_law_30 ?_
    refine lv_iconst (v := (nI 4)) F.1 F.2.1 dL_law_31 (by decide) ?_
    refine lv_isub F.1 F.2.1 dL_law_32 ?_
    refine lv_icmp_gt (tgt := 380) F.1 F.2.1 dL_law_33 (by decide) (fun c1 => ?_) (fun c1 => ?_)
    · refine lv_iconst (v := 1) F.1 F.2.1 dL_law_380 (by decide) ?_
      refine va_forget (fun q hq => w.2.2.2.1.2.2 q hq) ?_
      exact lw_ret hx hb hr hlocks dL_law_381
    · have hi : 1 + 4 * t + 4 ≤ L := gd_i hL (by omega) c1
      have next : ∀ (S1 : FS) (M1 : MS) (H1 : Heap) (locs1 : List Loc), Inv S1 (TM M1) (1 + 60 * t + 60) → WdL D ad ca S1 ad2 ca2 M1 s H1 locs1 → W p l e room_1 s m #[Value.ref b] below meth c H1 locs1 600000 7290000 (lw_Z below #[Value.ref b] s) (F0 m 374 ls []) := by
        intro S1 M1 H locs hI w
        refine lv_iinc (v := (nI (1 + 4 * (t + 1)))) (lv' := [(3, .int (nI (1 + 4 * (t + 1)))), (0, .ref b), (1, .ref (ad 0)), (2, .ref (ad2 0))]) F.1 F.2.1 dL_law_374 hl (k := 3) rfl (nI_add (1 + 4 * t) 4) (by decide) rfl (fun ls hl => ?_)
        refine lv_goto (tgt := 28) F.1 F.2.1 dL_law_377 (by decide) ?_
        exact ih (t + 1) S1 M1 _ _ _ (by omega) (by omega) hI w (lv_sub hl [1, 2, 3, 0] rfl)
      refine lv_aload_n F.1 F.2.1 dL_law_36 rfl (lv_at hl 0 rfl) ?_
      refine lv_iload_n F.1 F.2.1 dL_law_37 rfl (lv_at hl 3 rfl) ?_
      refine l_ld F hX hbl w (by omega) hL dL_law_38 ?_
      refine lv_bipush (v := 15) F.1 F.2.1 dL_law_39 (by decide) ?_
      refine lv_iand F.1 F.2.1 dL_law_41 ?_
      obtain ⟨j, hj, ej⟩ := pk_andE (xs (1 + 4 * t)) (m := 15) 4 (by decide)
      rw [ej]
      rcases (show j = 0 ∨ j = 1 ∨ j = 2 ∨ j = 3 ∨ j = 4 ∨ j = 5 ∨ j = 6 ∨ j = 7 ∨ j = 8 ∨ j = 9 ∨ j = 10 ∨ j = 11 ∨ j = 12 ∨ j = 13 ∨ j = 14 ∨ j = 15 by omega) with rfl | rfl | rfl | rfl | rfl | rfl | rfl | rfl | rfl | rfl | rfl | rfl | rfl | rfl | rfl | rfl
      · refine lv_tableIn (off := 58) (tgt := 100) F.1 F.2.1 dL_law_42 (by decide) (by decide) (by decide) (by decide) ?_
        exact lc_write l F hX hbl hL hi (by omega) hI w hl next
      · refine lv_tableIn (off := 91) (tgt := 133) F.1 F.2.1 dL_law_42 (by decide) (by decide) (by decide) (by decide) ?_
        exact lc_torn l F hX hbl hL hi (by omega) hI w hl next
      · refine lv_tableIn (off := 124) (tgt := 166) F.1 F.2.1 dL_law_42 (by decide) (by decide) (by decide) (by decide) ?_
        exact lc_trim l F hX hbl hL hi (by omega) hI w hl next
      · refine lv_tableIn (off := 147) (tgt := 189) F.1 F.2.1 dL_law_42 (by decide) (by decide) (by decide) (by decide) ?_
        exact lc_powerCut l F hX hbl hL hi (by omega) hI w hl next
      · refine lv_tableIn (off := 160) (tgt := 202) F.1 F.2.1 dL_law_42 (by decide) (by decide) (by decide) (by decide) ?_
        exact lc_has l F hX hbl hL hi (by omega) hI w hl next
      · refine lv_tableIn (off := 183) (tgt := 225) F.1 F.2.1 dL_law_42 (by decide) (by decide) (by decide) (by decide) ?_
        exact lc_read l F hX hbl hL hi (by omega) hI w hl next
      · refine lv_tableIn (off := 206) (tgt := 248) F.1 F.2.1 dL_law_42 (by decide) (by decide) (by decide) (by decide) ?_
        exact lc_used l F hX hbl hL hi (by omega) hI w hl next
      · refine lv_tableIn (off := 219) (tgt := 261) F.1 F.2.1 dL_law_42 (by decide) (by decide) (by decide) (by decide) ?_
        exact lc_nextUsed l F hX hbl hL hi (by omega) hI w hl next
      · refine lv_tableIn (off := 242) (tgt := 284) F.1 F.2.1 dL_law_42 (by decide) (by decide) (by decide) (by decide) ?_
        exact lc_total l F hX hbl hL hi (by omega) hI w hl next
      · refine lv_tableIn (off := 256) (tgt := 298) F.1 F.2.1 dL_law_42 (by decide) (by decide) (by decide) (by decide) ?_
        exact lc_exchange l F hX hbl hL hi (by omega) hI w hl next
      · refine lv_tableIn (off := 289) (tgt := 331) F.1 F.2.1 dL_law_42 (by decide) (by decide) (by decide) (by decide) ?_
        exact lc_fill l F hX hbl hL hi (by omega) hI w hl next
      · refine lv_tableOut (tgt := 374) F.1 F.2.1 dL_law_42 (by decide) (by decide) ?_
        exact next S M _ _ (hI.mono (by omega)) w
      · refine lv_tableOut (tgt := 374) F.1 F.2.1 dL_law_42 (by decide) (by decide) ?_
        exact next S M _ _ (hI.mono (by omega)) w
      · refine lv_tableOut (tgt := 374) F.1 F.2.1 dL_law_42 (by decide) (by decide) ?_
        exact next S M _ _ (hI.mono (by omega)) w
      · refine lv_tableOut (tgt := 374) F.1 F.2.1 dL_law_42 (by decide) (by decide) ?_
        exact next S M _ _ (hI.mono (by omega)) w
      · refine lv_tableOut (tgt := 374) F.1 F.2.1 dL_law_42 (by decide) (by decide) ?_
        exact next S M _ _ (hI.mono (by omega)) w
end
section
set_option maxHeartbeats 4000000 in
set_option maxRecDepth 100000 in
theorem whole_start {p : Program} {e : Env} {s : State} {m : MethodId} {below : List Frame} {meth : Method} {c : Code} (l : Launch) {b L : Nat} {xs : Nat → Int32} (hL : L ≤ 257) (C0 : lw_At p s m meth c b L xs) : W p l e room_1 s m #[Value.ref b] below meth c s.heap [] 0 0 (lw_Z below #[Value.ref b] s) (entryFrame m ([Value.ref b] : List Value).toArray 4) := by
  obtain ⟨hx, hb, hr, hml, hown, hts0, hX, hbl, hlocks, hgv⟩ := id C0
  have hts : ∀ w ∈ lw_all, w.before #[Value.ref b] s = true := fun w h => hts0 w (lw_all_tbl h)
  have F : CallFix p m c cL_law 4 s #[Value.ref b] lw_all RX0 := ⟨hx, hb, hml, hown, hts⟩
  have hA : ∀ q : Nat, s.heap.size ≤ q → (fun q : Nat => s.heap.size ≤ q) q := fun _ h => h
  have hbA : ¬ (fun q : Nat => s.heap.size ≤ q) b := Nat.not_le.mpr hbl
  obtain ⟨c0, iS0, hKn0⟩ := u_known (C := RX1) (T := TX1) (N := 10) (n := 10) hts in_X1 (hts _ q19)
  obtain ⟨c1, iS1, hKn1⟩ := u_known (C := RX2) (T := TX2) (N := 2) (n := 2) hts in_X2 (hts _ q168)
  obtain ⟨dC, dI, hKc⟩ : ∃ (dC : Nat → ClassId) (dI : Nat → Nat → Nat), ∀ (k : Nat) (q : vw_C), vwCl[k]? = some q → u_Kn s q.1 q.2.1 q.2.2 (dC k) (dI k) := by
    refine ⟨fun k => if k = 0 then c0 else c1, fun k => if k = 0 then iS0 else iS1, ?_⟩
    intro k q hq
    match k, hq with
    | 0, hq => cases hq; exact hKn0
    | 1, hq => cases hq; exact hKn1
    | k + 2, hq => simp [vwCl] at hq
  have hS : va_S (fun q : Nat => s.heap.size ≤ q) s.heap s.heap [] := va_S.rf
  have hK : va_K (dC, dI) vwCl [] s := ⟨hKc, fun k q h => by simp at h⟩
  have hP : va_P (dC, dI) vwCl [] s.heap := fun k q h => by simp at h
  have hD : va_D (fun q : Nat => s.heap.size ≤ q) [] := ⟨fun i j p q h => by simp at h, fun k q h => by simp at h⟩
  have hl := lv_entry ([.ref b]) (n := 4) (Nat.le_of_ble_eq_true rfl)
  rw [lg_entry_eq]
  generalize (lg_sl ([.ref b]) ++ List.replicate (4 - (lg_sl ([.ref b])).length) Slot.unset).toArray = ls at hl ⊢
  have hl : lv_has ls 4 [(0, .ref b)] := hl
  refine va_new (ci := 0) (fs := b0F) (C := RX1) (T := TX1) (N := 10) hx hb hts in_X1 tyX1 tyX1_ok hown (hts _ q18) (hts _ q19) (hts _ q16) hK hP hD hS hA rfl (fun j hj => by rcases (show j = 0 ∨ j = 1 ∨ j = 2 ∨ j = 3 ∨ j = 4 ∨ j = 5 ∨ j = 6 ∨ j = 7 ∨ j = 8 ∨ j = 9 by omega) with rfl | rfl | rfl | rfl | rfl | rfl | rfl | rfl | rfl | rfl <;> rfl) (Nat.le_of_ble_eq_true rfl) (Nat.le_of_ble_eq_true rfl) dL_law_0 (fun qa H hP hD hS => ?_)
  have hP : va_P (dC, dI) vwCl [(qa, .inr (0, b0F))] H := hP
  have hD : va_D (fun q : Nat => s.heap.size ≤ q) [(qa, .inr (0, b0F))] := hD
  refine W.widen (k := 1) (n := 10) (by decide) (by decide) ?_
  refine lv_dup hx hb dL_law_3 rfl ?_
  refine lv_aload_n hx hb dL_law_4 rfl (lv_at hl 0 rfl) ?_
  refine lv_iconst (v := nI 0) hx hb dL_law_5 (by decide) ?_
  refine va_calli (va_runS (As := [.ref b, .int (nI 0)]) (rest := [.ref qa, .ref qa]) F (met_cell l b L xs hL 0 (by decide)) (va_cwS 2 hts (lw_S q164 q165 q15 q166) rfl rfl rfl hd_X0_cell ⟨Nat.le_of_ble_eq_true rfl, Nat.le_of_ble_eq_true rfl⟩) ⟨fun a U g mk q => ⟨q.1, va_X.moved (u := U) (U := U.calling g mk a) (Vm.Alike.refl U.vm) q.2.1, q.2.2⟩, fun U hU hW => ⟨rfl, by rw [hU]; exact (hX.kept (hS.2.1 b hbl hbA)).moved hW.alike, by rw [hU]; exact Nat.lt_of_lt_of_le hbl hS.1⟩⟩ rfl rfl hl.1 rfl (lv_room (Nat.le_of_ble_eq_true rfl)) dL_law_6 ⟨Nat.le_of_ble_eq_true rfl, Nat.le_of_ble_eq_true rfl⟩) hS (fun q _ h => h.elim) (fun q h => h.elim) (fun r u t H1 locs ht hvm hp hB hz hk hS => ?_)
  have hP := hP.kept (H1 := H1) (fun k q hq => hk q.1 ((hP k q hq).lt) (fun h => h))
  generalize H1 = H at hP hS ⊢
  have hPc := hP.sub (ws' := [(qa, .inr (0, b0F))]) [0] rfl
  have hDc := hD.sub (ws' := [(qa, .inr (0, b0F))]) [0] (by decide) rfl
  have hKc := hK.sub (tys' := []) [] rfl
  have hFc := va_free (wc := [(qa, .inr (0, b0F))]) hD hS hA [0] rfl
  refine va_callv (va_runI (As := [.int r]) (rest := [.ref qa]) F (met_init l (dC, dI) qa H.size r) (cwI 1 hts (lw_meth q22) rfl rfl rfl (hts _ q16) (hts _ q20) (hts _ q21) rfl (by decide +kernel) ⟨Nat.le_of_ble_eq_true rfl, Nat.le_of_ble_eq_true rfl⟩) ⟨fun a U g mk q => by obtain ⟨q0, q1, qP, qK, qD⟩ := q; exact ⟨q0, q1, qP, va_K.moved (u := U) (U := U.calling g mk a) (Vm.Alike.refl U.vm) qK, qD⟩, fun U hU hW => ⟨rfl, by rw [hU], by rw [hU]; exact hPc, va_K.moved hW.alike hKc, hDc.weaken (fun _ _ _ _ => trivial)⟩⟩ rfl rfl hl.1 rfl (lv_room (Nat.le_of_ble_eq_true rfl)) dL_law_9 ⟨Nat.le_of_ble_eq_true rfl, Nat.le_of_ble_eq_true rfl⟩) hS (fun q _ h => hFc q h) hFc (fun u t H1 locs ht hvm hw hB hz1 hk1 hS => ?_)
  obtain ⟨⟨ad, ca⟩, S⟩ := u
  obtain ⟨ha0, hI⟩ := hw
  have ha0 : ad 0 = qa := ha0
  have hI : Inv S (fun _ => none) 1 := hI
  obtain ⟨hP1, hK1, hD1⟩ := hB
  rw [ht] at hP1
  have hK1 := va_K.moved hvm.symm hK1
  obtain ⟨hP, hD⟩ := va_join (wr := []) (w1 := wF ((dC, dI), ad, ca) S) hP hD [0] [] rfl rfl (by decide) (by decide) hk1 hFc hP1 hD1
  have hK : va_K (dC, dI) vwCl (tF ((dC, dI), ad, ca)) s := hK1
  generalize H1 = H at hP hS ⊢
  have hP : va_P (dC, dI) vwCl (wF ((dC, dI), ad, ca) S) H := hP
  have hD : va_D (fun q : Nat => s.heap.size ≤ q) (wF ((dC, dI), ad, ca) S) := hD
  refine W.widen (k := 8) (n := 190) (by decide) (by decide) ?_
  refine lv_astore_n (lv' := [(1, .ref qa), (0, .ref b)]) hx hb dL_law_12 rfl hl (by decide) rfl (fun ls hl => ?_)
  refine va_new (ci := 1) (fs := b0M) (C := RX2) (T := TX2) (N := 2) hx hb hts in_X2 tyX2 tyX2_ok hown (hts _ q167) (hts _ q168) (hts _ q17) hK hP hD hS hA rfl (fun j hj => by rcases (show j = 0 ∨ j = 1 by omega) with rfl | rfl <;> rfl) (Nat.le_of_ble_eq_true rfl) (Nat.le_of_ble_eq_true rfl) dL_law_13 (fun qb H hP hD hS => ?_)
  refine W.widen (k := 9) (n := 192) (by decide) (by decide) ?_
  refine lv_dup hx hb dL_law_16 rfl ?_
  refine lv_aload_n hx hb dL_law_17 rfl (lv_at hl 1 rfl) ?_
  refine lv_iconst (v := nI 0) hx hb dL_law_18 (by decide) ?_
  refine va_calli (va_runS (As := [.ref b, .int (nI 0)]) (rest := [.ref qb, .ref qb]) F (met_cell l b L xs hL 0 (by decide)) (va_cwS 2 hts (lw_S q164 q165 q15 q166) rfl rfl rfl hd_X0_cell ⟨Nat.le_of_ble_eq_true rfl, Nat.le_of_ble_eq_true rfl⟩) ⟨fun a U g mk q => ⟨q.1, va_X.moved (u := U) (U := U.calling g mk a) (Vm.Alike.refl U.vm) q.2.1, q.2.2⟩, fun U hU hW => ⟨rfl, by rw [hU]; exact (hX.kept (hS.2.1 b hbl hbA)).moved hW.alike, by rw [hU]; exact Nat.lt_of_lt_of_le hbl hS.1⟩⟩ rfl rfl hl.1 rfl (lv_room (Nat.le_of_ble_eq_true rfl)) dL_law_19 ⟨Nat.le_of_ble_eq_true rfl, Nat.le_of_ble_eq_true rfl⟩) hS (fun q _ h => h.elim) (fun q h => h.elim) (fun r u t H1 locs ht hvm hp hB hz hk hS => ?_)
  have hP := hP.kept (H1 := H1) (fun k q hq => hk q.1 ((hP k q hq).lt) (fun h => h))
  generalize H1 = H at hP hS ⊢
  have hPc := hP.sub (ws' := [(qb, .inr (1, b0M))]) [8] rfl
  have hDc := hD.sub (ws' := [(qb, .inr (1, b0M))]) [8] (by decide) rfl
  have hKc := hK.sub (tys' := []) [] rfl
  have hFc := va_free (wc := [(qb, .inr (1, b0M))]) hD hS hA [8] rfl
  refine va_callv (va_runI (As := [.int r]) (rest := [.ref qb]) F (mem_init l (dC, dI) qb H.size r) (cwI 1 hts (lw_meth q171) rfl rfl rfl (hts _ q17) (hts _ q169) (hts _ q170) rfl (by decide +kernel) ⟨Nat.le_of_ble_eq_true rfl, Nat.le_of_ble_eq_true rfl⟩) ⟨fun a U g mk q => by obtain ⟨q0, q1, qP, qK, qD⟩ := q; exact ⟨q0, q1, qP, va_K.moved (u := U) (U := U.calling g mk a) (Vm.Alike.refl U.vm) qK, qD⟩, fun U hU hW => ⟨rfl, by rw [hU], by rw [hU]; exact hPc, va_K.moved hW.alike hKc, hDc.weaken (fun _ _ _ _ => trivial)⟩⟩ rfl rfl hl.1 rfl (lv_room (Nat.le_of_ble_eq_true rfl)) dL_law_22 ⟨Nat.le_of_ble_eq_true rfl, Nat.le_of_ble_eq_true rfl⟩) hS (fun q _ h => hFc q h) hFc (fun u t H1 locs ht hvm hw hB hz1 hk1 hS => ?_)
  obtain ⟨⟨ad2, ca2⟩, M⟩ := u
  obtain ⟨hb0, hM⟩ := hw
  have hb0 : ad2 0 = qb := hb0
  have hM : TM M = fun _ => none := hM
  obtain ⟨hP1, hK1, hD1⟩ := hB
  rw [ht] at hP1
  have hK1 := va_K.moved hvm.symm hK1
  obtain ⟨hP, hD⟩ := va_join (wr := wF ((dC, dI), ad, ca) S) (w1 := wM ((dC, dI), ad2, ca2) M) hP hD [8] [0, 1, 2, 3, 4, 5, 6, 7] rfl rfl (by decide) (by decide) hk1 hFc hP1 hD1
  have hK := hK.app hK1
  generalize H1 = H at hP hS ⊢
  refine W.widen (k := 600000) (n := 7290000) (by decide) (by decide) ?_
  refine lv_astore_n (lv' := [(2, .ref qb), (1, .ref qa), (0, .ref b)]) hx hb dL_law_25 rfl hl (by decide) rfl (fun ls hl => ?_)
  refine lv_iconst (v := nI 1) hx hb dL_law_26 (by decide) ?_
  refine lv_istore_n (lv' := [(3, .int (nI 1)), (2, .ref qb), (1, .ref qa), (0, .ref b)]) hx hb dL_law_27 rfl hl (by decide) rfl (fun ls hl => ?_)
  exact law_loop l hL C0 (D := (dC, dI)) (ad := ad) (ca := ca) (ad2 := ad2) (ca2 := ca2) 65 0 S M _ _ _ (by omega) (by omega) (by rw [hM]; exact hI) ⟨hK, hP, hD, hS, hA⟩ (by rw [ha0, hb0]; exact lv_sub hl [3, 2, 1, 0] rfl)
end
section
set_option maxHeartbeats 4000000 in
theorem lw_walk (l : Launch) (b : Addr) (xs : List Int32) : MetFree l x (headSpec (Jvm.Cond.code x code maxLocals ret :: tables_1) room_1) (lw_P b xs) (fun _ _ _ _ _ => True) lw_Q := by
  refine MetFree.of_bodyS (code := code) (maxLocals := maxLocals) (ret := ret) (by decide) ?_ ?_
  · intro args s m h hn
    obtain ⟨meth, c, h1, h2, h3, h4, h5, h6, -, -⟩ := Cond.code_spec hn (atoms_spec (ws := Jvm.Cond.code x code maxLocals ret :: tables_1) h _ List.mem_cons_self)
    exact ⟨meth, c, h1, h2, h3, h4, h5, h6⟩
  · intro p e s m args below meth c s₁ B hml0 hP _
    obtain ⟨rfl, hx, hbd, hgv⟩ := hP
    obtain ⟨scr, harrAt, hlist, hof, hsmall⟩ := hx
    obtain ⟨hcb, hkn, -, -⟩ := State.arrayAt?_spec harrAt
    have hown : s.vm.findClass R_law = some m.cls := findClass_of_methodNamed B.named
    have hts0 : ∀ c ∈ (Jvm.Cond.code x code maxLocals ret :: tables_1), c.before #[Value.ref b] s = true := atoms_spec (ws := Jvm.Cond.code x code maxLocals ret :: tables_1) B.pre
    have hts : ∀ w ∈ lw_tbl, w.before #[Value.ref b] s = true := k2_hts_sels lw_privs (fun w hw => hts0 w (List.mem_cons_of_mem _ hw)) lw_privs_ok
    have hml : c.maxLocals = 4 := B.maxLocals_eq (hts0 _ List.mem_cons_self)
    have X₀ : Stand p l e room_1 s m #[Value.ref b] below meth c s₁ [] 0 0 := Stand.of_body B
    have hh0 : s₁.heap = s.heap := by rw [B.state]; rfl
    have hsz : scr.slots.size = xs.length := by rw [← Array.length_toList, hlist, List.length_map]
    have hval : ∀ j : Nat, j < xs.length → scr.slots[j]? = some (.int (xs.getD j 0)) := fun j hj => by
      rw [← Array.getElem?_toList, hlist]
      simp [hj]
    have hbl : b < s.heap.size := (Array.getElem?_eq_some_iff.mp hcb).1
    have hX : va_X b xs.length (fun j => xs.getD j 0) s s.heap := ⟨scr, hcb, hof, hkn, hsz, hval⟩
    have K : W p l e room_1 s m #[Value.ref b] below meth c s₁.heap [] 0 0 (lw_Z below #[Value.ref b] s) (entryFrame m ([Value.ref b] : List Value).toArray 4) := by
      rw [hh0]
      exact whole_start l hbd ⟨B.exec, B.bytes, B.returns, hml, hown, hts, hX, hbl, B.notSynchronized, hgv⟩
    obtain ⟨t, a1, o, b1, b2, b3⟩ := K s₁ rfl X₀
    exact ⟨t, o, a1, b1, b2, b3⟩
theorem lw_pre_spec {args : Array Value} {s : State} (h : (Jvm.Cond.and given_1 narrow_1).before args s = true) (hr : rest_1_c.before args s = true) : ∃ (b : Addr) (xs : List Int32), lw_P b xs args s := by
  have hs := flat_of_before _ h
  have hq := flat_of_before _ hr
  have hc : (Cond.count 1).before args s = true := hs _ (by decide +kernel)
  have harr : (Cond.arrayOf (.arg 0) .int).before args s = true := hs _ (by decide +kernel)
  have hle : (Cond.le (.length (.arg 0)) (.int 257)).before args s = true := hs _ (by decide +kernel)
  have hlen : (Cond.isInt (.length (.arg 0))).before args s = true := hq _ (by decide +kernel)
  have hall : (Cond.all (.arg 0) (.isInt (.elem (.arg 0) (.index 0)))).before args s = true := hq _ (by decide +kernel)
  obtain ⟨b, xs, hb, hx⟩ := State.ints_of_pre rfl harr hlen hall
  have hsm : xs.length < 2 ^ 31 := hx.choose_spec.2.2.2
  have hev : (Term.length (.arg 0)).eval args s none [] s = some (.int xs.length.toInt32) := hx.length_eval hb
  have hv := Cond.le_ints hev (show (Term.int 257).eval args s none [] s = some (.int 257) from rfl)
  have hd : xs.length.toInt32 ≤ 257 := by
    simpa [Cond.before, Cond.holds, hv] using hle
  have hN : xs.length ≤ 257 := (Int32.ofNat_le_ofNat hsm (by decide)).mp (show Int32.ofNat xs.length ≤ Int32.ofNat 257 from hd)
  exact ⟨b, xs, Cond.one_arg hc (show args[0]? = some (.ref b) from hb), hx, hN, h⟩
theorem lw_comes (l : Launch) : Comes l x (Jvm.Cond.code x code maxLocals ret :: tables_1) room_1 (fun tb e args s => Calls_1 tb e args s ∧ rest_1 tb e args s ∧ Pre_1 tb e args s)
    (fun _ _ args s o t => lw_Q args s o t) := by
  intro p e ha hc hk s m args below hf hfit hheap happ hpre
  obtain ⟨b, xs, hP⟩ := lw_pre_spec hpre.2.2 hpre.2.1
  obtain ⟨k, o, h1, h2, h3, hQ⟩ := lw_walk l b xs p e ha hc hk s m args below hf ((Spec.applies_iff_loose hf).mp happ).1 hP trivial
  exact ⟨k, o, h1, h2, h3, hQ⟩
theorem lw_frame {s t : State} {o : Outcome} {args : Array Value} (h : Framed s o t [] 600000 7290000) :
    Framed s o t (fieldLocs frame_1_writes args s ++ arrayLocs frame_1_arrays args s ++ staticLocs frame_1_statics s) 600000 7290000 := h
theorem lw_limb (L : Cond) (hL : ∀ (args : Array Value) (s t : State), L.after args s (.returned (some (.int 1))) t = true) :
    ArmFor flags0 classFile x code maxLocals ret World_1 tables_1 room_1 Calls_1 rest_1 Pre_1
      (fun tb e a s o t => postC L tb e a s o t ∧ Framed s o t (fieldLocs frame_1_writes a s ++ arrayLocs frame_1_arrays a s ++ staticLocs frame_1_statics s) 600000 7290000) := by
  intro l _ _ _ p e ha hc hk s m args below hf hfit hheap happ hpre
  obtain ⟨k, o, h1, h2, h3, rfl, hF⟩ := lw_comes l p e ha hc hk s m args below hf hfit hheap happ hpre
  exact ⟨k, _, h1, h2, h3, hL args s _, lw_frame hF⟩
theorem i_vc : Claimed_1_1 ∧ Claimed_1_2 := ⟨lw_limb limb_1_1 (fun args s t => by simp [limb_1_1, Cond.after, Cond.holds, Cond.value]), lw_limb limb_1_2 (fun args s t => Cond.after_iff.mpr (by
  first | (rw [show limb_1_2 = Cond.eq .result (.int 1) from rfl, Cond.eq_ints (x := 1) (y := 1) rfl rfl]; simp; done) | (simp [limb_1_2, Cond.value, Term.eval]; done)))⟩
end
